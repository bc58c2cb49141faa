/-! Bloomclock -/
set_option maxRecDepth 100000
def RX1 : String := "Bloomclock"
def TX1 : u_T := fun k => match k with
  | 0 => ("Bloomclock", "growers", "Ljava/util/List;", true)
  | 1 => ("Bloomclock", "crops", "Ljava/util/List;", true)
  | 2 => ("Bloomclock", "lots", "Ljava/util/List;", true)
  | 3 => ("Bloomclock", "buyers", "Ljava/util/List;", true)
  | 4 => ("Bloomclock", "orders", "Ljava/util/List;", true)
  | 5 => ("Bloomclock", "sales", "Ljava/util/List;", true)
  | 6 => ("Bloomclock", "rail", "Ljava/util/List;", true)
  | 7 => ("Bloomclock", "row", "[I", true)
  | 8 => ("Bloomclock", "quotas", "[I", true)
  | 9 => ("Bloomclock", "inRow", "I", false)
  | 10 => ("Bloomclock", "hour", "I", false)
  | 11 => ("Bloomclock", "light", "I", false)
  | 12 => ("Bloomclock", "pool", "I", false)
  | 13 => ("Bloomclock", "coins", "I", false)
  | 14 => ("Bloomclock", "waste", "I", false)
  | 15 => ("Bloomclock", "sold", "I", false)
  | 16 => ("Bloomclock", "money", "I", false)
  | _ => ("Bloomclock", "speed", "I", false)
def tyX1 : Nat → FieldType := fun k => match k with
  | 0 => .object "java/util/List"
  | 1 => .object "java/util/List"
  | 2 => .object "java/util/List"
  | 3 => .object "java/util/List"
  | 4 => .object "java/util/List"
  | 5 => .object "java/util/List"
  | 6 => .object "java/util/List"
  | 7 => .array .int
  | 8 => .array .int
  | 9 => .int
  | 10 => .int
  | 11 => .int
  | 12 => .int
  | 13 => .int
  | 14 => .int
  | 15 => .int
  | 16 => .int
  | _ => .int
abbrev wsX10 : List Cond := u_ws RX1 TX1 18
set_option maxRecDepth 100000 in
theorem nmX1 : ∀ a, a < 18 → ∀ b, b < 18 → a ≠ b → (TX1 a).2.1 ≠ (TX1 b).2.1 := by decide +kernel
set_option maxRecDepth 100000 in
theorem tyX1_ok : ∀ k, k < 18 → parseFieldDescriptor (TX1 k).2.2.1 = some (tyX1 k) := by decide +kernel
abbrev cX1_init : ByteArray := prog_1_method_2_code
def yX1_init : MethodName := ⟨RX1, "<init>", "()V"⟩
def dkwX1_init_5 : List UInt8 := [8, 181, 0, 41, 42, 16, 60, 181, 0, 45, 42, 5, 181, 0, 48, 177]
abbrev dktX1_init_5 : List UInt8 := dkwX1_init_5 ++ []
def dkwX1_init_4 : List UInt8 := [188, 10, 89, 3, 17, 1, 244, 79, 89, 4, 17, 1, 244, 79, 89, 5, 17, 1, 244, 79, 181, 0, 38, 42]
abbrev dktX1_init_4 : List UInt8 := dkwX1_init_4 ++ dktX1_init_5
def dkwX1_init_3 : List UInt8 := [181, 0, 28, 42, 187, 0, 9, 89, 183, 0, 11, 181, 0, 31, 42, 16, 16, 188, 10, 181, 0, 34, 42, 6]
abbrev dktX1_init_3 : List UInt8 := dkwX1_init_3 ++ dktX1_init_4
def dkwX1_init_2 : List UInt8 := [181, 0, 22, 42, 187, 0, 9, 89, 183, 0, 11, 181, 0, 25, 42, 187, 0, 9, 89, 183, 0, 11]
abbrev dktX1_init_2 : List UInt8 := dkwX1_init_2 ++ dktX1_init_3
def dkwX1_init_1 : List UInt8 := [181, 0, 16, 42, 187, 0, 9, 89, 183, 0, 11, 181, 0, 19, 42, 187, 0, 9, 89, 183, 0, 11]
abbrev dktX1_init_1 : List UInt8 := dkwX1_init_1 ++ dktX1_init_2
def dkwX1_init_0 : List UInt8 := [42, 183, 0, 3, 42, 187, 0, 9, 89, 183, 0, 11, 181, 0, 12, 42, 187, 0, 9, 89, 183, 0, 11]
abbrev dktX1_init_0 : List UInt8 := dkwX1_init_0 ++ dktX1_init_1
theorem dksX1_init_0 : cX1_init.data.toList.drop 0 = dktX1_init_0 := by decide +kernel
theorem dksX1_init_1 : cX1_init.data.toList.drop 23 = dktX1_init_1 := dk_seg dksX1_init_0 23 rfl rfl
theorem dksX1_init_2 : cX1_init.data.toList.drop 45 = dktX1_init_2 := dk_seg dksX1_init_1 22 rfl rfl
theorem dksX1_init_3 : cX1_init.data.toList.drop 67 = dktX1_init_3 := dk_seg dksX1_init_2 22 rfl rfl
theorem dksX1_init_4 : cX1_init.data.toList.drop 91 = dktX1_init_4 := dk_seg dksX1_init_3 24 rfl rfl
theorem dksX1_init_5 : cX1_init.data.toList.drop 115 = dktX1_init_5 := dk_seg dksX1_init_4 24 rfl rfl
theorem dX1_init_0 : decode cX1_init 0 = .ok (.aload_n 0, 1) := dk_42 (dk_at dksX1_init_0 0 rfl rfl)
theorem dX1_init_1 : decode cX1_init 1 = .ok (.invokespecial 3, 3) := dk_183 0 3 (dk_at dksX1_init_0 1 rfl rfl)
theorem dX1_init_4 : decode cX1_init 4 = .ok (.aload_n 0, 1) := dk_42 (dk_at dksX1_init_0 4 rfl rfl)
theorem dX1_init_5 : decode cX1_init 5 = .ok (.new 9, 3) := dk_187 0 9 (dk_at dksX1_init_0 5 rfl rfl)
theorem dX1_init_8 : decode cX1_init 8 = .ok (.dup, 1) := dk_89 (dk_at dksX1_init_0 8 rfl rfl)
theorem dX1_init_9 : decode cX1_init 9 = .ok (.invokespecial 11, 3) := dk_183 0 11 (dk_at dksX1_init_0 9 rfl rfl)
theorem dX1_init_12 : decode cX1_init 12 = .ok (.putfield 12, 3) := dk_181 0 12 (dk_at dksX1_init_0 12 rfl rfl)
theorem dX1_init_15 : decode cX1_init 15 = .ok (.aload_n 0, 1) := dk_42 (dk_at dksX1_init_0 15 rfl rfl)
theorem dX1_init_16 : decode cX1_init 16 = .ok (.new 9, 3) := dk_187 0 9 (dk_at dksX1_init_0 16 rfl rfl)
theorem dX1_init_19 : decode cX1_init 19 = .ok (.dup, 1) := dk_89 (dk_at dksX1_init_0 19 rfl rfl)
theorem dX1_init_20 : decode cX1_init 20 = .ok (.invokespecial 11, 3) := dk_183 0 11 (dk_at dksX1_init_0 20 rfl rfl)
theorem dX1_init_23 : decode cX1_init 23 = .ok (.putfield 16, 3) := dk_181 0 16 (dk_at dksX1_init_1 0 rfl rfl)
theorem dX1_init_26 : decode cX1_init 26 = .ok (.aload_n 0, 1) := dk_42 (dk_at dksX1_init_1 3 rfl rfl)
theorem dX1_init_27 : decode cX1_init 27 = .ok (.new 9, 3) := dk_187 0 9 (dk_at dksX1_init_1 4 rfl rfl)
theorem dX1_init_30 : decode cX1_init 30 = .ok (.dup, 1) := dk_89 (dk_at dksX1_init_1 7 rfl rfl)
theorem dX1_init_31 : decode cX1_init 31 = .ok (.invokespecial 11, 3) := dk_183 0 11 (dk_at dksX1_init_1 8 rfl rfl)
theorem dX1_init_34 : decode cX1_init 34 = .ok (.putfield 19, 3) := dk_181 0 19 (dk_at dksX1_init_1 11 rfl rfl)
theorem dX1_init_37 : decode cX1_init 37 = .ok (.aload_n 0, 1) := dk_42 (dk_at dksX1_init_1 14 rfl rfl)
theorem dX1_init_38 : decode cX1_init 38 = .ok (.new 9, 3) := dk_187 0 9 (dk_at dksX1_init_1 15 rfl rfl)
theorem dX1_init_41 : decode cX1_init 41 = .ok (.dup, 1) := dk_89 (dk_at dksX1_init_1 18 rfl rfl)
theorem dX1_init_42 : decode cX1_init 42 = .ok (.invokespecial 11, 3) := dk_183 0 11 (dk_at dksX1_init_1 19 rfl rfl)
theorem dX1_init_45 : decode cX1_init 45 = .ok (.putfield 22, 3) := dk_181 0 22 (dk_at dksX1_init_2 0 rfl rfl)
theorem dX1_init_48 : decode cX1_init 48 = .ok (.aload_n 0, 1) := dk_42 (dk_at dksX1_init_2 3 rfl rfl)
theorem dX1_init_49 : decode cX1_init 49 = .ok (.new 9, 3) := dk_187 0 9 (dk_at dksX1_init_2 4 rfl rfl)
theorem dX1_init_52 : decode cX1_init 52 = .ok (.dup, 1) := dk_89 (dk_at dksX1_init_2 7 rfl rfl)
theorem dX1_init_53 : decode cX1_init 53 = .ok (.invokespecial 11, 3) := dk_183 0 11 (dk_at dksX1_init_2 8 rfl rfl)
theorem dX1_init_56 : decode cX1_init 56 = .ok (.putfield 25, 3) := dk_181 0 25 (dk_at dksX1_init_2 11 rfl rfl)
theorem dX1_init_59 : decode cX1_init 59 = .ok (.aload_n 0, 1) := dk_42 (dk_at dksX1_init_2 14 rfl rfl)
theorem dX1_init_60 : decode cX1_init 60 = .ok (.new 9, 3) := dk_187 0 9 (dk_at dksX1_init_2 15 rfl rfl)
theorem dX1_init_63 : decode cX1_init 63 = .ok (.dup, 1) := dk_89 (dk_at dksX1_init_2 18 rfl rfl)
theorem dX1_init_64 : decode cX1_init 64 = .ok (.invokespecial 11, 3) := dk_183 0 11 (dk_at dksX1_init_2 19 rfl rfl)
theorem dX1_init_67 : decode cX1_init 67 = .ok (.putfield 28, 3) := dk_181 0 28 (dk_at dksX1_init_3 0 rfl rfl)
theorem dX1_init_70 : decode cX1_init 70 = .ok (.aload_n 0, 1) := dk_42 (dk_at dksX1_init_3 3 rfl rfl)
theorem dX1_init_71 : decode cX1_init 71 = .ok (.new 9, 3) := dk_187 0 9 (dk_at dksX1_init_3 4 rfl rfl)
theorem dX1_init_74 : decode cX1_init 74 = .ok (.dup, 1) := dk_89 (dk_at dksX1_init_3 7 rfl rfl)
theorem dX1_init_75 : decode cX1_init 75 = .ok (.invokespecial 11, 3) := dk_183 0 11 (dk_at dksX1_init_3 8 rfl rfl)
theorem dX1_init_78 : decode cX1_init 78 = .ok (.putfield 31, 3) := dk_181 0 31 (dk_at dksX1_init_3 11 rfl rfl)
theorem dX1_init_81 : decode cX1_init 81 = .ok (.aload_n 0, 1) := dk_42 (dk_at dksX1_init_3 14 rfl rfl)
theorem dX1_init_82 : decode cX1_init 82 = .ok (.bipush 16, 2) := dk_16 16 (dk_at dksX1_init_3 15 rfl rfl)
theorem dX1_init_84 : decode cX1_init 84 = .ok (.newarray .int, 2) := dk_188_10 (dk_at dksX1_init_3 17 rfl rfl)
theorem dX1_init_86 : decode cX1_init 86 = .ok (.putfield 34, 3) := dk_181 0 34 (dk_at dksX1_init_3 19 rfl rfl)
theorem dX1_init_89 : decode cX1_init 89 = .ok (.aload_n 0, 1) := dk_42 (dk_at dksX1_init_3 22 rfl rfl)
theorem dX1_init_90 : decode cX1_init 90 = .ok (.iconst 3, 1) := dk_6 (dk_at dksX1_init_3 23 rfl rfl)
theorem dX1_init_91 : decode cX1_init 91 = .ok (.newarray .int, 2) := dk_188_10 (dk_at dksX1_init_4 0 rfl rfl)
theorem dX1_init_93 : decode cX1_init 93 = .ok (.dup, 1) := dk_89 (dk_at dksX1_init_4 2 rfl rfl)
theorem dX1_init_94 : decode cX1_init 94 = .ok (.iconst 0, 1) := dk_3 (dk_at dksX1_init_4 3 rfl rfl)
theorem dX1_init_95 : decode cX1_init 95 = .ok (.sipush 500, 3) := dk_17 1 244 (dk_at dksX1_init_4 4 rfl rfl)
theorem dX1_init_98 : decode cX1_init 98 = .ok (.iastore, 1) := dk_79 (dk_at dksX1_init_4 7 rfl rfl)
theorem dX1_init_99 : decode cX1_init 99 = .ok (.dup, 1) := dk_89 (dk_at dksX1_init_4 8 rfl rfl)
theorem dX1_init_100 : decode cX1_init 100 = .ok (.iconst 1, 1) := dk_4 (dk_at dksX1_init_4 9 rfl rfl)
theorem dX1_init_101 : decode cX1_init 101 = .ok (.sipush 500, 3) := dk_17 1 244 (dk_at dksX1_init_4 10 rfl rfl)
theorem dX1_init_104 : decode cX1_init 104 = .ok (.iastore, 1) := dk_79 (dk_at dksX1_init_4 13 rfl rfl)
theorem dX1_init_105 : decode cX1_init 105 = .ok (.dup, 1) := dk_89 (dk_at dksX1_init_4 14 rfl rfl)
theorem dX1_init_106 : decode cX1_init 106 = .ok (.iconst 2, 1) := dk_5 (dk_at dksX1_init_4 15 rfl rfl)
theorem dX1_init_107 : decode cX1_init 107 = .ok (.sipush 500, 3) := dk_17 1 244 (dk_at dksX1_init_4 16 rfl rfl)
theorem dX1_init_110 : decode cX1_init 110 = .ok (.iastore, 1) := dk_79 (dk_at dksX1_init_4 19 rfl rfl)
theorem dX1_init_111 : decode cX1_init 111 = .ok (.putfield 38, 3) := dk_181 0 38 (dk_at dksX1_init_4 20 rfl rfl)
theorem dX1_init_114 : decode cX1_init 114 = .ok (.aload_n 0, 1) := dk_42 (dk_at dksX1_init_4 23 rfl rfl)
theorem dX1_init_115 : decode cX1_init 115 = .ok (.iconst 5, 1) := dk_8 (dk_at dksX1_init_5 0 rfl rfl)
theorem dX1_init_116 : decode cX1_init 116 = .ok (.putfield 41, 3) := dk_181 0 41 (dk_at dksX1_init_5 1 rfl rfl)
theorem dX1_init_119 : decode cX1_init 119 = .ok (.aload_n 0, 1) := dk_42 (dk_at dksX1_init_5 4 rfl rfl)
theorem dX1_init_120 : decode cX1_init 120 = .ok (.bipush 60, 2) := dk_16 60 (dk_at dksX1_init_5 5 rfl rfl)
theorem dX1_init_122 : decode cX1_init 122 = .ok (.putfield 45, 3) := dk_181 0 45 (dk_at dksX1_init_5 7 rfl rfl)
theorem dX1_init_125 : decode cX1_init 125 = .ok (.aload_n 0, 1) := dk_42 (dk_at dksX1_init_5 10 rfl rfl)
theorem dX1_init_126 : decode cX1_init 126 = .ok (.iconst 2, 1) := dk_5 (dk_at dksX1_init_5 11 rfl rfl)
theorem dX1_init_127 : decode cX1_init 127 = .ok (.putfield 48, 3) := dk_181 0 48 (dk_at dksX1_init_5 12 rfl rfl)
theorem dX1_init_130 : decode cX1_init 130 = .ok (.return_, 1) := dk_177 (dk_at dksX1_init_5 15 rfl rfl)
abbrev cX1_meanPrice : ByteArray := prog_1_method_51_code
def yX1_meanPrice : MethodName := ⟨RX1, "meanPrice", "()D"⟩
def dkwX1_meanPrice_0 : List UInt8 := [42, 180, 1, 75, 154, 0, 7, 14, 167, 0, 14, 42, 180, 1, 76, 135, 42, 180, 1, 75, 135, 111, 175]
abbrev dktX1_meanPrice_0 : List UInt8 := dkwX1_meanPrice_0 ++ []
theorem dksX1_meanPrice_0 : cX1_meanPrice.data.toList.drop 0 = dktX1_meanPrice_0 := by decide +kernel
theorem dX1_meanPrice_0 : decode cX1_meanPrice 0 = .ok (.aload_n 0, 1) := dk_42 (dk_at dksX1_meanPrice_0 0 rfl rfl)
theorem dX1_meanPrice_1 : decode cX1_meanPrice 1 = .ok (.getfield 331, 3) := dk_180 1 75 (dk_at dksX1_meanPrice_0 1 rfl rfl)
theorem dX1_meanPrice_4 : decode cX1_meanPrice 4 = .ok (.ifCond .ne 7, 3) := dk_154 0 7 (dk_at dksX1_meanPrice_0 4 rfl rfl)
theorem dX1_meanPrice_7 : decode cX1_meanPrice 7 = .ok (.dconst 0, 1) := dk_14 (dk_at dksX1_meanPrice_0 7 rfl rfl)
theorem dX1_meanPrice_8 : decode cX1_meanPrice 8 = .ok (.goto 14, 3) := dk_167 0 14 (dk_at dksX1_meanPrice_0 8 rfl rfl)
theorem dX1_meanPrice_11 : decode cX1_meanPrice 11 = .ok (.aload_n 0, 1) := dk_42 (dk_at dksX1_meanPrice_0 11 rfl rfl)
theorem dX1_meanPrice_12 : decode cX1_meanPrice 12 = .ok (.getfield 332, 3) := dk_180 1 76 (dk_at dksX1_meanPrice_0 12 rfl rfl)
theorem dX1_meanPrice_15 : decode cX1_meanPrice 15 = .ok (.i2d, 1) := dk_135 (dk_at dksX1_meanPrice_0 15 rfl rfl)
theorem dX1_meanPrice_16 : decode cX1_meanPrice 16 = .ok (.aload_n 0, 1) := dk_42 (dk_at dksX1_meanPrice_0 16 rfl rfl)
theorem dX1_meanPrice_17 : decode cX1_meanPrice 17 = .ok (.getfield 331, 3) := dk_180 1 75 (dk_at dksX1_meanPrice_0 17 rfl rfl)
theorem dX1_meanPrice_20 : decode cX1_meanPrice 20 = .ok (.i2d, 1) := dk_135 (dk_at dksX1_meanPrice_0 20 rfl rfl)
theorem dX1_meanPrice_21 : decode cX1_meanPrice 21 = .ok (.ddiv, 1) := dk_111 (dk_at dksX1_meanPrice_0 21 rfl rfl)
theorem dX1_meanPrice_22 : decode cX1_meanPrice 22 = .ok (.dreturn, 1) := dk_175 (dk_at dksX1_meanPrice_0 22 rfl rfl)
abbrev cX1_digest : ByteArray := prog_1_method_63_code
def yX1_digest : MethodName := ⟨RX1, "digest", "()J"⟩
def dkwX1_digest_10 : List UInt8 := [162, 0, 21, 31, 42, 29, 16, 12, 182, 1, 137, 184, 1, 142, 64, 132, 3, 1, 167, 255, 236, 31, 173]
abbrev dktX1_digest_10 : List UInt8 := dkwX1_digest_10 ++ []
def dkwX1_digest_9 : List UInt8 := [5, 163, 0, 19, 31, 42, 29, 182, 1, 103, 184, 1, 142, 64, 132, 3, 1, 167, 255, 238, 3, 62, 29, 6]
abbrev dktX1_digest_9 : List UInt8 := dkwX1_digest_9 ++ dktX1_digest_10
def dkwX1_digest_8 : List UInt8 := [21, 4, 182, 1, 102, 184, 1, 142, 64, 132, 4, 1, 167, 255, 212, 132, 3, 1, 167, 255, 190, 3, 62, 29]
abbrev dktX1_digest_8 : List UInt8 := dkwX1_digest_8 ++ dktX1_digest_9
def dkwX1_digest_7 : List UInt8 := [180, 0, 28, 42, 180, 0, 28, 185, 0, 64, 1, 0, 4, 100, 29, 100, 185, 0, 74, 2, 0, 192, 0, 197]
abbrev dktX1_digest_7 : List UInt8 := dkwX1_digest_7 ++ dktX1_digest_8
def dkwX1_digest_6 : List UInt8 := [42, 180, 0, 28, 185, 0, 64, 1, 0, 162, 0, 59, 3, 54, 4, 21, 4, 7, 163, 0, 44, 31, 42]
abbrev dktX1_digest_6 : List UInt8 := dkwX1_digest_6 ++ dktX1_digest_7
def dkwX1_digest_5 : List UInt8 := [185, 0, 74, 2, 0, 192, 1, 2, 180, 1, 7, 184, 1, 142, 64, 132, 3, 1, 167, 255, 219, 3, 62, 29]
abbrev dktX1_digest_5 : List UInt8 := dkwX1_digest_5 ++ dktX1_digest_6
def dkwX1_digest_4 : List UInt8 := [3, 62, 29, 42, 180, 0, 25, 185, 0, 64, 1, 0, 162, 0, 30, 31, 42, 180, 0, 25, 29]
abbrev dktX1_digest_4 : List UInt8 := dkwX1_digest_4 ++ dktX1_digest_5
def dkwX1_digest_3 : List UInt8 := [192, 0, 84, 21, 4, 182, 1, 101, 184, 1, 142, 64, 132, 4, 1, 167, 255, 223, 132, 3, 1, 167, 255, 201]
abbrev dktX1_digest_3 : List UInt8 := dkwX1_digest_3 ++ dktX1_digest_4
def dkwX1_digest_2 : List UInt8 := [162, 0, 48, 3, 54, 4, 21, 4, 16, 8, 163, 0, 32, 31, 42, 180, 0, 22, 29, 185, 0, 74, 2, 0]
abbrev dktX1_digest_2 : List UInt8 := dkwX1_digest_2 ++ dktX1_digest_3
def dkwX1_digest_1 : List UInt8 := [132, 3, 1, 167, 255, 237, 42, 31, 182, 1, 148, 64, 3, 62, 29, 42, 180, 0, 22, 185, 0, 64, 1, 0]
abbrev dktX1_digest_1 : List UInt8 := dkwX1_digest_1 ++ dktX1_digest_2
def dkwX1_digest_0 : List UInt8 := [20, 1, 146, 64, 3, 62, 29, 16, 15, 163, 0, 19, 31, 42, 29, 182, 1, 109, 184, 1, 142, 64]
abbrev dktX1_digest_0 : List UInt8 := dkwX1_digest_0 ++ dktX1_digest_1
theorem dksX1_digest_0 : cX1_digest.data.toList.drop 0 = dktX1_digest_0 := by decide +kernel
theorem dksX1_digest_1 : cX1_digest.data.toList.drop 22 = dktX1_digest_1 := dk_seg dksX1_digest_0 22 rfl rfl
theorem dksX1_digest_2 : cX1_digest.data.toList.drop 46 = dktX1_digest_2 := dk_seg dksX1_digest_1 24 rfl rfl
theorem dksX1_digest_3 : cX1_digest.data.toList.drop 70 = dktX1_digest_3 := dk_seg dksX1_digest_2 24 rfl rfl
theorem dksX1_digest_4 : cX1_digest.data.toList.drop 94 = dktX1_digest_4 := dk_seg dksX1_digest_3 24 rfl rfl
theorem dksX1_digest_5 : cX1_digest.data.toList.drop 115 = dktX1_digest_5 := dk_seg dksX1_digest_4 21 rfl rfl
theorem dksX1_digest_6 : cX1_digest.data.toList.drop 139 = dktX1_digest_6 := dk_seg dksX1_digest_5 24 rfl rfl
theorem dksX1_digest_7 : cX1_digest.data.toList.drop 162 = dktX1_digest_7 := dk_seg dksX1_digest_6 23 rfl rfl
theorem dksX1_digest_8 : cX1_digest.data.toList.drop 186 = dktX1_digest_8 := dk_seg dksX1_digest_7 24 rfl rfl
theorem dksX1_digest_9 : cX1_digest.data.toList.drop 210 = dktX1_digest_9 := dk_seg dksX1_digest_8 24 rfl rfl
theorem dksX1_digest_10 : cX1_digest.data.toList.drop 234 = dktX1_digest_10 := dk_seg dksX1_digest_9 24 rfl rfl
theorem dX1_digest_0 : decode cX1_digest 0 = .ok (.ldc2_w 402, 3) := dk_20 1 146 (dk_at dksX1_digest_0 0 rfl rfl)
theorem dX1_digest_3 : decode cX1_digest 3 = .ok (.lstore_n 1, 1) := dk_64 (dk_at dksX1_digest_0 3 rfl rfl)
theorem dX1_digest_4 : decode cX1_digest 4 = .ok (.iconst 0, 1) := dk_3 (dk_at dksX1_digest_0 4 rfl rfl)
theorem dX1_digest_5 : decode cX1_digest 5 = .ok (.istore_n 3, 1) := dk_62 (dk_at dksX1_digest_0 5 rfl rfl)
theorem dX1_digest_6 : decode cX1_digest 6 = .ok (.iload_n 3, 1) := dk_29 (dk_at dksX1_digest_0 6 rfl rfl)
theorem dX1_digest_7 : decode cX1_digest 7 = .ok (.bipush 15, 2) := dk_16 15 (dk_at dksX1_digest_0 7 rfl rfl)
theorem dX1_digest_9 : decode cX1_digest 9 = .ok (.if_icmp .gt 19, 3) := dk_163 0 19 (dk_at dksX1_digest_0 9 rfl rfl)
theorem dX1_digest_12 : decode cX1_digest 12 = .ok (.lload_n 1, 1) := dk_31 (dk_at dksX1_digest_0 12 rfl rfl)
theorem dX1_digest_13 : decode cX1_digest 13 = .ok (.aload_n 0, 1) := dk_42 (dk_at dksX1_digest_0 13 rfl rfl)
theorem dX1_digest_14 : decode cX1_digest 14 = .ok (.iload_n 3, 1) := dk_29 (dk_at dksX1_digest_0 14 rfl rfl)
theorem dX1_digest_15 : decode cX1_digest 15 = .ok (.invokevirtual 365, 3) := dk_182 1 109 (dk_at dksX1_digest_0 15 rfl rfl)
theorem dX1_digest_18 : decode cX1_digest 18 = .ok (.invokestatic 398, 3) := dk_184 1 142 (dk_at dksX1_digest_0 18 rfl rfl)
theorem dX1_digest_21 : decode cX1_digest 21 = .ok (.lstore_n 1, 1) := dk_64 (dk_at dksX1_digest_0 21 rfl rfl)
theorem dX1_digest_22 : decode cX1_digest 22 = .ok (.iinc 3 1, 3) := dk_132 3 1 (dk_at dksX1_digest_1 0 rfl rfl)
theorem dX1_digest_25 : decode cX1_digest 25 = .ok (.goto (-19), 3) := dk_167 255 237 (dk_at dksX1_digest_1 3 rfl rfl)
theorem dX1_digest_28 : decode cX1_digest 28 = .ok (.aload_n 0, 1) := dk_42 (dk_at dksX1_digest_1 6 rfl rfl)
theorem dX1_digest_29 : decode cX1_digest 29 = .ok (.lload_n 1, 1) := dk_31 (dk_at dksX1_digest_1 7 rfl rfl)
theorem dX1_digest_30 : decode cX1_digest 30 = .ok (.invokevirtual 404, 3) := dk_182 1 148 (dk_at dksX1_digest_1 8 rfl rfl)
theorem dX1_digest_33 : decode cX1_digest 33 = .ok (.lstore_n 1, 1) := dk_64 (dk_at dksX1_digest_1 11 rfl rfl)
theorem dX1_digest_34 : decode cX1_digest 34 = .ok (.iconst 0, 1) := dk_3 (dk_at dksX1_digest_1 12 rfl rfl)
theorem dX1_digest_35 : decode cX1_digest 35 = .ok (.istore_n 3, 1) := dk_62 (dk_at dksX1_digest_1 13 rfl rfl)
theorem dX1_digest_36 : decode cX1_digest 36 = .ok (.iload_n 3, 1) := dk_29 (dk_at dksX1_digest_1 14 rfl rfl)
theorem dX1_digest_37 : decode cX1_digest 37 = .ok (.aload_n 0, 1) := dk_42 (dk_at dksX1_digest_1 15 rfl rfl)
theorem dX1_digest_38 : decode cX1_digest 38 = .ok (.getfield 22, 3) := dk_180 0 22 (dk_at dksX1_digest_1 16 rfl rfl)
theorem dX1_digest_41 : decode cX1_digest 41 = .ok (.invokeinterface 64 1, 5) := by decide +kernel
theorem dX1_digest_46 : decode cX1_digest 46 = .ok (.if_icmp .ge 48, 3) := dk_162 0 48 (dk_at dksX1_digest_2 0 rfl rfl)
theorem dX1_digest_49 : decode cX1_digest 49 = .ok (.iconst 0, 1) := dk_3 (dk_at dksX1_digest_2 3 rfl rfl)
theorem dX1_digest_50 : decode cX1_digest 50 = .ok (.istore 4, 2) := dk_54 4 (dk_at dksX1_digest_2 4 rfl rfl)
theorem dX1_digest_52 : decode cX1_digest 52 = .ok (.iload 4, 2) := dk_21 4 (dk_at dksX1_digest_2 6 rfl rfl)
theorem dX1_digest_54 : decode cX1_digest 54 = .ok (.bipush 8, 2) := dk_16 8 (dk_at dksX1_digest_2 8 rfl rfl)
theorem dX1_digest_56 : decode cX1_digest 56 = .ok (.if_icmp .gt 32, 3) := dk_163 0 32 (dk_at dksX1_digest_2 10 rfl rfl)
theorem dX1_digest_59 : decode cX1_digest 59 = .ok (.lload_n 1, 1) := dk_31 (dk_at dksX1_digest_2 13 rfl rfl)
theorem dX1_digest_60 : decode cX1_digest 60 = .ok (.aload_n 0, 1) := dk_42 (dk_at dksX1_digest_2 14 rfl rfl)
theorem dX1_digest_61 : decode cX1_digest 61 = .ok (.getfield 22, 3) := dk_180 0 22 (dk_at dksX1_digest_2 15 rfl rfl)
theorem dX1_digest_64 : decode cX1_digest 64 = .ok (.iload_n 3, 1) := dk_29 (dk_at dksX1_digest_2 18 rfl rfl)
theorem dX1_digest_65 : decode cX1_digest 65 = .ok (.invokeinterface 74 2, 5) := by decide +kernel
theorem dX1_digest_70 : decode cX1_digest 70 = .ok (.checkcast 84, 3) := dk_192 0 84 (dk_at dksX1_digest_3 0 rfl rfl)
theorem dX1_digest_73 : decode cX1_digest 73 = .ok (.iload 4, 2) := dk_21 4 (dk_at dksX1_digest_3 3 rfl rfl)
theorem dX1_digest_75 : decode cX1_digest 75 = .ok (.invokevirtual 357, 3) := dk_182 1 101 (dk_at dksX1_digest_3 5 rfl rfl)
theorem dX1_digest_78 : decode cX1_digest 78 = .ok (.invokestatic 398, 3) := dk_184 1 142 (dk_at dksX1_digest_3 8 rfl rfl)
theorem dX1_digest_81 : decode cX1_digest 81 = .ok (.lstore_n 1, 1) := dk_64 (dk_at dksX1_digest_3 11 rfl rfl)
theorem dX1_digest_82 : decode cX1_digest 82 = .ok (.iinc 4 1, 3) := dk_132 4 1 (dk_at dksX1_digest_3 12 rfl rfl)
theorem dX1_digest_85 : decode cX1_digest 85 = .ok (.goto (-33), 3) := dk_167 255 223 (dk_at dksX1_digest_3 15 rfl rfl)
theorem dX1_digest_88 : decode cX1_digest 88 = .ok (.iinc 3 1, 3) := dk_132 3 1 (dk_at dksX1_digest_3 18 rfl rfl)
theorem dX1_digest_91 : decode cX1_digest 91 = .ok (.goto (-55), 3) := dk_167 255 201 (dk_at dksX1_digest_3 21 rfl rfl)
theorem dX1_digest_94 : decode cX1_digest 94 = .ok (.iconst 0, 1) := dk_3 (dk_at dksX1_digest_4 0 rfl rfl)
theorem dX1_digest_95 : decode cX1_digest 95 = .ok (.istore_n 3, 1) := dk_62 (dk_at dksX1_digest_4 1 rfl rfl)
theorem dX1_digest_96 : decode cX1_digest 96 = .ok (.iload_n 3, 1) := dk_29 (dk_at dksX1_digest_4 2 rfl rfl)
theorem dX1_digest_97 : decode cX1_digest 97 = .ok (.aload_n 0, 1) := dk_42 (dk_at dksX1_digest_4 3 rfl rfl)
theorem dX1_digest_98 : decode cX1_digest 98 = .ok (.getfield 25, 3) := dk_180 0 25 (dk_at dksX1_digest_4 4 rfl rfl)
theorem dX1_digest_101 : decode cX1_digest 101 = .ok (.invokeinterface 64 1, 5) := by decide +kernel
theorem dX1_digest_106 : decode cX1_digest 106 = .ok (.if_icmp .ge 30, 3) := dk_162 0 30 (dk_at dksX1_digest_4 12 rfl rfl)
theorem dX1_digest_109 : decode cX1_digest 109 = .ok (.lload_n 1, 1) := dk_31 (dk_at dksX1_digest_4 15 rfl rfl)
theorem dX1_digest_110 : decode cX1_digest 110 = .ok (.aload_n 0, 1) := dk_42 (dk_at dksX1_digest_4 16 rfl rfl)
theorem dX1_digest_111 : decode cX1_digest 111 = .ok (.getfield 25, 3) := dk_180 0 25 (dk_at dksX1_digest_4 17 rfl rfl)
theorem dX1_digest_114 : decode cX1_digest 114 = .ok (.iload_n 3, 1) := dk_29 (dk_at dksX1_digest_4 20 rfl rfl)
theorem dX1_digest_115 : decode cX1_digest 115 = .ok (.invokeinterface 74 2, 5) := by decide +kernel
theorem dX1_digest_120 : decode cX1_digest 120 = .ok (.checkcast 258, 3) := dk_192 1 2 (dk_at dksX1_digest_5 5 rfl rfl)
theorem dX1_digest_123 : decode cX1_digest 123 = .ok (.getfield 263, 3) := dk_180 1 7 (dk_at dksX1_digest_5 8 rfl rfl)
theorem dX1_digest_126 : decode cX1_digest 126 = .ok (.invokestatic 398, 3) := dk_184 1 142 (dk_at dksX1_digest_5 11 rfl rfl)
theorem dX1_digest_129 : decode cX1_digest 129 = .ok (.lstore_n 1, 1) := dk_64 (dk_at dksX1_digest_5 14 rfl rfl)
theorem dX1_digest_130 : decode cX1_digest 130 = .ok (.iinc 3 1, 3) := dk_132 3 1 (dk_at dksX1_digest_5 15 rfl rfl)
theorem dX1_digest_133 : decode cX1_digest 133 = .ok (.goto (-37), 3) := dk_167 255 219 (dk_at dksX1_digest_5 18 rfl rfl)
theorem dX1_digest_136 : decode cX1_digest 136 = .ok (.iconst 0, 1) := dk_3 (dk_at dksX1_digest_5 21 rfl rfl)
theorem dX1_digest_137 : decode cX1_digest 137 = .ok (.istore_n 3, 1) := dk_62 (dk_at dksX1_digest_5 22 rfl rfl)
theorem dX1_digest_138 : decode cX1_digest 138 = .ok (.iload_n 3, 1) := dk_29 (dk_at dksX1_digest_5 23 rfl rfl)
theorem dX1_digest_139 : decode cX1_digest 139 = .ok (.aload_n 0, 1) := dk_42 (dk_at dksX1_digest_6 0 rfl rfl)
theorem dX1_digest_140 : decode cX1_digest 140 = .ok (.getfield 28, 3) := dk_180 0 28 (dk_at dksX1_digest_6 1 rfl rfl)
theorem dX1_digest_143 : decode cX1_digest 143 = .ok (.invokeinterface 64 1, 5) := by decide +kernel
theorem dX1_digest_148 : decode cX1_digest 148 = .ok (.if_icmp .ge 59, 3) := dk_162 0 59 (dk_at dksX1_digest_6 9 rfl rfl)
theorem dX1_digest_151 : decode cX1_digest 151 = .ok (.iconst 0, 1) := dk_3 (dk_at dksX1_digest_6 12 rfl rfl)
theorem dX1_digest_152 : decode cX1_digest 152 = .ok (.istore 4, 2) := dk_54 4 (dk_at dksX1_digest_6 13 rfl rfl)
theorem dX1_digest_154 : decode cX1_digest 154 = .ok (.iload 4, 2) := dk_21 4 (dk_at dksX1_digest_6 15 rfl rfl)
theorem dX1_digest_156 : decode cX1_digest 156 = .ok (.iconst 4, 1) := dk_7 (dk_at dksX1_digest_6 17 rfl rfl)
theorem dX1_digest_157 : decode cX1_digest 157 = .ok (.if_icmp .gt 44, 3) := dk_163 0 44 (dk_at dksX1_digest_6 18 rfl rfl)
theorem dX1_digest_160 : decode cX1_digest 160 = .ok (.lload_n 1, 1) := dk_31 (dk_at dksX1_digest_6 21 rfl rfl)
theorem dX1_digest_161 : decode cX1_digest 161 = .ok (.aload_n 0, 1) := dk_42 (dk_at dksX1_digest_6 22 rfl rfl)
theorem dX1_digest_162 : decode cX1_digest 162 = .ok (.getfield 28, 3) := dk_180 0 28 (dk_at dksX1_digest_7 0 rfl rfl)
theorem dX1_digest_165 : decode cX1_digest 165 = .ok (.aload_n 0, 1) := dk_42 (dk_at dksX1_digest_7 3 rfl rfl)
theorem dX1_digest_166 : decode cX1_digest 166 = .ok (.getfield 28, 3) := dk_180 0 28 (dk_at dksX1_digest_7 4 rfl rfl)
theorem dX1_digest_169 : decode cX1_digest 169 = .ok (.invokeinterface 64 1, 5) := by decide +kernel
theorem dX1_digest_174 : decode cX1_digest 174 = .ok (.iconst 1, 1) := dk_4 (dk_at dksX1_digest_7 12 rfl rfl)
theorem dX1_digest_175 : decode cX1_digest 175 = .ok (.isub, 1) := dk_100 (dk_at dksX1_digest_7 13 rfl rfl)
theorem dX1_digest_176 : decode cX1_digest 176 = .ok (.iload_n 3, 1) := dk_29 (dk_at dksX1_digest_7 14 rfl rfl)
theorem dX1_digest_177 : decode cX1_digest 177 = .ok (.isub, 1) := dk_100 (dk_at dksX1_digest_7 15 rfl rfl)
theorem dX1_digest_178 : decode cX1_digest 178 = .ok (.invokeinterface 74 2, 5) := by decide +kernel
theorem dX1_digest_183 : decode cX1_digest 183 = .ok (.checkcast 197, 3) := dk_192 0 197 (dk_at dksX1_digest_7 21 rfl rfl)
theorem dX1_digest_186 : decode cX1_digest 186 = .ok (.iload 4, 2) := dk_21 4 (dk_at dksX1_digest_8 0 rfl rfl)
theorem dX1_digest_188 : decode cX1_digest 188 = .ok (.invokevirtual 358, 3) := dk_182 1 102 (dk_at dksX1_digest_8 2 rfl rfl)
theorem dX1_digest_191 : decode cX1_digest 191 = .ok (.invokestatic 398, 3) := dk_184 1 142 (dk_at dksX1_digest_8 5 rfl rfl)
theorem dX1_digest_194 : decode cX1_digest 194 = .ok (.lstore_n 1, 1) := dk_64 (dk_at dksX1_digest_8 8 rfl rfl)
theorem dX1_digest_195 : decode cX1_digest 195 = .ok (.iinc 4 1, 3) := dk_132 4 1 (dk_at dksX1_digest_8 9 rfl rfl)
theorem dX1_digest_198 : decode cX1_digest 198 = .ok (.goto (-44), 3) := dk_167 255 212 (dk_at dksX1_digest_8 12 rfl rfl)
theorem dX1_digest_201 : decode cX1_digest 201 = .ok (.iinc 3 1, 3) := dk_132 3 1 (dk_at dksX1_digest_8 15 rfl rfl)
theorem dX1_digest_204 : decode cX1_digest 204 = .ok (.goto (-66), 3) := dk_167 255 190 (dk_at dksX1_digest_8 18 rfl rfl)
theorem dX1_digest_207 : decode cX1_digest 207 = .ok (.iconst 0, 1) := dk_3 (dk_at dksX1_digest_8 21 rfl rfl)
theorem dX1_digest_208 : decode cX1_digest 208 = .ok (.istore_n 3, 1) := dk_62 (dk_at dksX1_digest_8 22 rfl rfl)
theorem dX1_digest_209 : decode cX1_digest 209 = .ok (.iload_n 3, 1) := dk_29 (dk_at dksX1_digest_8 23 rfl rfl)
theorem dX1_digest_210 : decode cX1_digest 210 = .ok (.iconst 2, 1) := dk_5 (dk_at dksX1_digest_9 0 rfl rfl)
theorem dX1_digest_211 : decode cX1_digest 211 = .ok (.if_icmp .gt 19, 3) := dk_163 0 19 (dk_at dksX1_digest_9 1 rfl rfl)
theorem dX1_digest_214 : decode cX1_digest 214 = .ok (.lload_n 1, 1) := dk_31 (dk_at dksX1_digest_9 4 rfl rfl)
theorem dX1_digest_215 : decode cX1_digest 215 = .ok (.aload_n 0, 1) := dk_42 (dk_at dksX1_digest_9 5 rfl rfl)
theorem dX1_digest_216 : decode cX1_digest 216 = .ok (.iload_n 3, 1) := dk_29 (dk_at dksX1_digest_9 6 rfl rfl)
theorem dX1_digest_217 : decode cX1_digest 217 = .ok (.invokevirtual 359, 3) := dk_182 1 103 (dk_at dksX1_digest_9 7 rfl rfl)
theorem dX1_digest_220 : decode cX1_digest 220 = .ok (.invokestatic 398, 3) := dk_184 1 142 (dk_at dksX1_digest_9 10 rfl rfl)
theorem dX1_digest_223 : decode cX1_digest 223 = .ok (.lstore_n 1, 1) := dk_64 (dk_at dksX1_digest_9 13 rfl rfl)
theorem dX1_digest_224 : decode cX1_digest 224 = .ok (.iinc 3 1, 3) := dk_132 3 1 (dk_at dksX1_digest_9 14 rfl rfl)
theorem dX1_digest_227 : decode cX1_digest 227 = .ok (.goto (-18), 3) := dk_167 255 238 (dk_at dksX1_digest_9 17 rfl rfl)
theorem dX1_digest_230 : decode cX1_digest 230 = .ok (.iconst 0, 1) := dk_3 (dk_at dksX1_digest_9 20 rfl rfl)
theorem dX1_digest_231 : decode cX1_digest 231 = .ok (.istore_n 3, 1) := dk_62 (dk_at dksX1_digest_9 21 rfl rfl)
theorem dX1_digest_232 : decode cX1_digest 232 = .ok (.iload_n 3, 1) := dk_29 (dk_at dksX1_digest_9 22 rfl rfl)
theorem dX1_digest_233 : decode cX1_digest 233 = .ok (.iconst 3, 1) := dk_6 (dk_at dksX1_digest_9 23 rfl rfl)
theorem dX1_digest_234 : decode cX1_digest 234 = .ok (.if_icmp .ge 21, 3) := dk_162 0 21 (dk_at dksX1_digest_10 0 rfl rfl)
theorem dX1_digest_237 : decode cX1_digest 237 = .ok (.lload_n 1, 1) := dk_31 (dk_at dksX1_digest_10 3 rfl rfl)
theorem dX1_digest_238 : decode cX1_digest 238 = .ok (.aload_n 0, 1) := dk_42 (dk_at dksX1_digest_10 4 rfl rfl)
theorem dX1_digest_239 : decode cX1_digest 239 = .ok (.iload_n 3, 1) := dk_29 (dk_at dksX1_digest_10 5 rfl rfl)
theorem dX1_digest_240 : decode cX1_digest 240 = .ok (.bipush 12, 2) := dk_16 12 (dk_at dksX1_digest_10 6 rfl rfl)
theorem dX1_digest_242 : decode cX1_digest 242 = .ok (.invokevirtual 393, 3) := dk_182 1 137 (dk_at dksX1_digest_10 8 rfl rfl)
theorem dX1_digest_245 : decode cX1_digest 245 = .ok (.invokestatic 398, 3) := dk_184 1 142 (dk_at dksX1_digest_10 11 rfl rfl)
theorem dX1_digest_248 : decode cX1_digest 248 = .ok (.lstore_n 1, 1) := dk_64 (dk_at dksX1_digest_10 14 rfl rfl)
theorem dX1_digest_249 : decode cX1_digest 249 = .ok (.iinc 3 1, 3) := dk_132 3 1 (dk_at dksX1_digest_10 15 rfl rfl)
theorem dX1_digest_252 : decode cX1_digest 252 = .ok (.goto (-20), 3) := dk_167 255 236 (dk_at dksX1_digest_10 18 rfl rfl)
theorem dX1_digest_255 : decode cX1_digest 255 = .ok (.lload_n 1, 1) := dk_31 (dk_at dksX1_digest_10 21 rfl rfl)
theorem dX1_digest_256 : decode cX1_digest 256 = .ok (.lreturn, 1) := dk_173 (dk_at dksX1_digest_10 22 rfl rfl)
abbrev cX1_manyNow : ByteArray := prog_1_method_49_code
def yX1_manyNow : MethodName := ⟨RX1, "manyNow", "(I)I"⟩
def dkwX1_manyNow_6 : List UInt8 := [172, 42, 180, 0, 38, 27, 16, 12, 100, 46, 172]
abbrev dktX1_manyNow_6 : List UInt8 := dkwX1_manyNow_6 ++ []
def dkwX1_manyNow_5 : List UInt8 := [42, 180, 0, 45, 172, 42, 180, 1, 68, 172, 42, 180, 0, 207, 172, 42, 180, 1, 75, 172, 42, 182, 1, 106]
abbrev dktX1_manyNow_5 : List UInt8 := dkwX1_manyNow_5 ++ dktX1_manyNow_6
def dkwX1_manyNow_4 : List UInt8 := [180, 0, 25, 185, 0, 64, 1, 0, 172, 42, 180, 0, 240, 172, 42, 180, 0, 31, 185, 0, 64, 1, 0, 172]
abbrev dktX1_manyNow_4 : List UInt8 := dkwX1_manyNow_4 ++ dktX1_manyNow_5
def dkwX1_manyNow_3 : List UInt8 := [172, 42, 180, 0, 19, 185, 0, 64, 1, 0, 172, 42, 180, 0, 22, 185, 0, 64, 1, 0, 172, 42]
abbrev dktX1_manyNow_3 : List UInt8 := dkwX1_manyNow_3 ++ dktX1_manyNow_4
def dkwX1_manyNow_2 : List UInt8 := [42, 180, 0, 86, 172, 42, 180, 0, 12, 185, 0, 64, 1, 0, 172, 42, 180, 0, 16, 185, 0, 64, 1, 0]
abbrev dktX1_manyNow_2 : List UInt8 := dkwX1_manyNow_2 ++ dktX1_manyNow_3
def dkwX1_manyNow_1 : List UInt8 := [170, 0, 0, 0, 0, 0, 174, 0, 0, 0, 0, 0, 0, 0, 15, 0, 0, 0, 79, 0, 0, 0, 84, 0, 0, 0, 94, 0, 0, 0, 104, 0, 0, 0, 114, 0, 0, 0, 124, 0, 0, 0, 134, 0, 0, 0, 139, 0, 0, 0, 149, 0, 0, 0, 154, 0, 0, 0, 159, 0, 0, 0, 164, 0, 0, 0, 174, 0, 0, 0, 174, 0, 0, 0, 174, 0, 0, 0, 169]
abbrev dktX1_manyNow_1 : List UInt8 := dkwX1_manyNow_1 ++ dktX1_manyNow_2
def dkwX1_manyNow_0 : List UInt8 := [27]
abbrev dktX1_manyNow_0 : List UInt8 := dkwX1_manyNow_0 ++ dktX1_manyNow_1
theorem dksX1_manyNow_0 : cX1_manyNow.data.toList.drop 0 = dktX1_manyNow_0 := by decide +kernel
theorem dksX1_manyNow_1 : cX1_manyNow.data.toList.drop 1 = dktX1_manyNow_1 := dk_seg dksX1_manyNow_0 1 rfl rfl
theorem dksX1_manyNow_2 : cX1_manyNow.data.toList.drop 80 = dktX1_manyNow_2 := dk_seg dksX1_manyNow_1 79 rfl rfl
theorem dksX1_manyNow_3 : cX1_manyNow.data.toList.drop 104 = dktX1_manyNow_3 := dk_seg dksX1_manyNow_2 24 rfl rfl
theorem dksX1_manyNow_4 : cX1_manyNow.data.toList.drop 126 = dktX1_manyNow_4 := dk_seg dksX1_manyNow_3 22 rfl rfl
theorem dksX1_manyNow_5 : cX1_manyNow.data.toList.drop 150 = dktX1_manyNow_5 := dk_seg dksX1_manyNow_4 24 rfl rfl
theorem dksX1_manyNow_6 : cX1_manyNow.data.toList.drop 174 = dktX1_manyNow_6 := dk_seg dksX1_manyNow_5 24 rfl rfl
theorem dX1_manyNow_0 : decode cX1_manyNow 0 = .ok (.iload_n 1, 1) := dk_27 (dk_at dksX1_manyNow_0 0 rfl rfl)
theorem dX1_manyNow_1 : decode cX1_manyNow 1 = .ok (.tableswitch 174 0 15 #[79, 84, 94, 104, 114, 124, 134, 139, 149, 154, 159, 164, 174, 174, 174, 169], 79) := by decide +kernel
theorem dX1_manyNow_80 : decode cX1_manyNow 80 = .ok (.aload_n 0, 1) := dk_42 (dk_at dksX1_manyNow_2 0 rfl rfl)
theorem dX1_manyNow_81 : decode cX1_manyNow 81 = .ok (.getfield 86, 3) := dk_180 0 86 (dk_at dksX1_manyNow_2 1 rfl rfl)
theorem dX1_manyNow_84 : decode cX1_manyNow 84 = .ok (.ireturn, 1) := dk_172 (dk_at dksX1_manyNow_2 4 rfl rfl)
theorem dX1_manyNow_85 : decode cX1_manyNow 85 = .ok (.aload_n 0, 1) := dk_42 (dk_at dksX1_manyNow_2 5 rfl rfl)
theorem dX1_manyNow_86 : decode cX1_manyNow 86 = .ok (.getfield 12, 3) := dk_180 0 12 (dk_at dksX1_manyNow_2 6 rfl rfl)
theorem dX1_manyNow_89 : decode cX1_manyNow 89 = .ok (.invokeinterface 64 1, 5) := by decide +kernel
theorem dX1_manyNow_94 : decode cX1_manyNow 94 = .ok (.ireturn, 1) := dk_172 (dk_at dksX1_manyNow_2 14 rfl rfl)
theorem dX1_manyNow_95 : decode cX1_manyNow 95 = .ok (.aload_n 0, 1) := dk_42 (dk_at dksX1_manyNow_2 15 rfl rfl)
theorem dX1_manyNow_96 : decode cX1_manyNow 96 = .ok (.getfield 16, 3) := dk_180 0 16 (dk_at dksX1_manyNow_2 16 rfl rfl)
theorem dX1_manyNow_99 : decode cX1_manyNow 99 = .ok (.invokeinterface 64 1, 5) := by decide +kernel
theorem dX1_manyNow_104 : decode cX1_manyNow 104 = .ok (.ireturn, 1) := dk_172 (dk_at dksX1_manyNow_3 0 rfl rfl)
theorem dX1_manyNow_105 : decode cX1_manyNow 105 = .ok (.aload_n 0, 1) := dk_42 (dk_at dksX1_manyNow_3 1 rfl rfl)
theorem dX1_manyNow_106 : decode cX1_manyNow 106 = .ok (.getfield 19, 3) := dk_180 0 19 (dk_at dksX1_manyNow_3 2 rfl rfl)
theorem dX1_manyNow_109 : decode cX1_manyNow 109 = .ok (.invokeinterface 64 1, 5) := by decide +kernel
theorem dX1_manyNow_114 : decode cX1_manyNow 114 = .ok (.ireturn, 1) := dk_172 (dk_at dksX1_manyNow_3 10 rfl rfl)
theorem dX1_manyNow_115 : decode cX1_manyNow 115 = .ok (.aload_n 0, 1) := dk_42 (dk_at dksX1_manyNow_3 11 rfl rfl)
theorem dX1_manyNow_116 : decode cX1_manyNow 116 = .ok (.getfield 22, 3) := dk_180 0 22 (dk_at dksX1_manyNow_3 12 rfl rfl)
theorem dX1_manyNow_119 : decode cX1_manyNow 119 = .ok (.invokeinterface 64 1, 5) := by decide +kernel
theorem dX1_manyNow_124 : decode cX1_manyNow 124 = .ok (.ireturn, 1) := dk_172 (dk_at dksX1_manyNow_3 20 rfl rfl)
theorem dX1_manyNow_125 : decode cX1_manyNow 125 = .ok (.aload_n 0, 1) := dk_42 (dk_at dksX1_manyNow_3 21 rfl rfl)
theorem dX1_manyNow_126 : decode cX1_manyNow 126 = .ok (.getfield 25, 3) := dk_180 0 25 (dk_at dksX1_manyNow_4 0 rfl rfl)
theorem dX1_manyNow_129 : decode cX1_manyNow 129 = .ok (.invokeinterface 64 1, 5) := by decide +kernel
theorem dX1_manyNow_134 : decode cX1_manyNow 134 = .ok (.ireturn, 1) := dk_172 (dk_at dksX1_manyNow_4 8 rfl rfl)
theorem dX1_manyNow_135 : decode cX1_manyNow 135 = .ok (.aload_n 0, 1) := dk_42 (dk_at dksX1_manyNow_4 9 rfl rfl)
theorem dX1_manyNow_136 : decode cX1_manyNow 136 = .ok (.getfield 240, 3) := dk_180 0 240 (dk_at dksX1_manyNow_4 10 rfl rfl)
theorem dX1_manyNow_139 : decode cX1_manyNow 139 = .ok (.ireturn, 1) := dk_172 (dk_at dksX1_manyNow_4 13 rfl rfl)
theorem dX1_manyNow_140 : decode cX1_manyNow 140 = .ok (.aload_n 0, 1) := dk_42 (dk_at dksX1_manyNow_4 14 rfl rfl)
theorem dX1_manyNow_141 : decode cX1_manyNow 141 = .ok (.getfield 31, 3) := dk_180 0 31 (dk_at dksX1_manyNow_4 15 rfl rfl)
theorem dX1_manyNow_144 : decode cX1_manyNow 144 = .ok (.invokeinterface 64 1, 5) := by decide +kernel
theorem dX1_manyNow_149 : decode cX1_manyNow 149 = .ok (.ireturn, 1) := dk_172 (dk_at dksX1_manyNow_4 23 rfl rfl)
theorem dX1_manyNow_150 : decode cX1_manyNow 150 = .ok (.aload_n 0, 1) := dk_42 (dk_at dksX1_manyNow_5 0 rfl rfl)
theorem dX1_manyNow_151 : decode cX1_manyNow 151 = .ok (.getfield 45, 3) := dk_180 0 45 (dk_at dksX1_manyNow_5 1 rfl rfl)
theorem dX1_manyNow_154 : decode cX1_manyNow 154 = .ok (.ireturn, 1) := dk_172 (dk_at dksX1_manyNow_5 4 rfl rfl)
theorem dX1_manyNow_155 : decode cX1_manyNow 155 = .ok (.aload_n 0, 1) := dk_42 (dk_at dksX1_manyNow_5 5 rfl rfl)
theorem dX1_manyNow_156 : decode cX1_manyNow 156 = .ok (.getfield 324, 3) := dk_180 1 68 (dk_at dksX1_manyNow_5 6 rfl rfl)
theorem dX1_manyNow_159 : decode cX1_manyNow 159 = .ok (.ireturn, 1) := dk_172 (dk_at dksX1_manyNow_5 9 rfl rfl)
theorem dX1_manyNow_160 : decode cX1_manyNow 160 = .ok (.aload_n 0, 1) := dk_42 (dk_at dksX1_manyNow_5 10 rfl rfl)
theorem dX1_manyNow_161 : decode cX1_manyNow 161 = .ok (.getfield 207, 3) := dk_180 0 207 (dk_at dksX1_manyNow_5 11 rfl rfl)
theorem dX1_manyNow_164 : decode cX1_manyNow 164 = .ok (.ireturn, 1) := dk_172 (dk_at dksX1_manyNow_5 14 rfl rfl)
theorem dX1_manyNow_165 : decode cX1_manyNow 165 = .ok (.aload_n 0, 1) := dk_42 (dk_at dksX1_manyNow_5 15 rfl rfl)
theorem dX1_manyNow_166 : decode cX1_manyNow 166 = .ok (.getfield 331, 3) := dk_180 1 75 (dk_at dksX1_manyNow_5 16 rfl rfl)
theorem dX1_manyNow_169 : decode cX1_manyNow 169 = .ok (.ireturn, 1) := dk_172 (dk_at dksX1_manyNow_5 19 rfl rfl)
theorem dX1_manyNow_170 : decode cX1_manyNow 170 = .ok (.aload_n 0, 1) := dk_42 (dk_at dksX1_manyNow_5 20 rfl rfl)
theorem dX1_manyNow_171 : decode cX1_manyNow 171 = .ok (.invokevirtual 362, 3) := dk_182 1 106 (dk_at dksX1_manyNow_5 21 rfl rfl)
theorem dX1_manyNow_174 : decode cX1_manyNow 174 = .ok (.ireturn, 1) := dk_172 (dk_at dksX1_manyNow_6 0 rfl rfl)
theorem dX1_manyNow_175 : decode cX1_manyNow 175 = .ok (.aload_n 0, 1) := dk_42 (dk_at dksX1_manyNow_6 1 rfl rfl)
theorem dX1_manyNow_176 : decode cX1_manyNow 176 = .ok (.getfield 38, 3) := dk_180 0 38 (dk_at dksX1_manyNow_6 2 rfl rfl)
theorem dX1_manyNow_179 : decode cX1_manyNow 179 = .ok (.iload_n 1, 1) := dk_27 (dk_at dksX1_manyNow_6 5 rfl rfl)
theorem dX1_manyNow_180 : decode cX1_manyNow 180 = .ok (.bipush 12, 2) := dk_16 12 (dk_at dksX1_manyNow_6 6 rfl rfl)
theorem dX1_manyNow_182 : decode cX1_manyNow 182 = .ok (.isub, 1) := dk_100 (dk_at dksX1_manyNow_6 8 rfl rfl)
theorem dX1_manyNow_183 : decode cX1_manyNow 183 = .ok (.iaload, 1) := dk_46 (dk_at dksX1_manyNow_6 9 rfl rfl)
theorem dX1_manyNow_184 : decode cX1_manyNow 184 = .ok (.ireturn, 1) := dk_172 (dk_at dksX1_manyNow_6 10 rfl rfl)
abbrev cX1_leastLife : ByteArray := prog_1_method_48_code
def yX1_leastLife : MethodName := ⟨RX1, "leastLife", "()I"⟩
def dkwX1_leastLife_2 : List UInt8 := [185, 0, 74, 2, 0, 192, 0, 164, 180, 0, 166, 184, 1, 18, 60, 132, 2, 1, 167, 255, 195, 27, 172]
abbrev dktX1_leastLife_2 : List UInt8 := dkwX1_leastLife_2 ++ []
def dkwX1_leastLife_1 : List UInt8 := [180, 0, 31, 28, 185, 0, 74, 2, 0, 192, 0, 164, 180, 0, 166, 167, 0, 23, 27, 42, 180, 0, 31, 28]
abbrev dktX1_leastLife_1 : List UInt8 := dkwX1_leastLife_1 ++ dktX1_leastLife_2
def dkwX1_leastLife_0 : List UInt8 := [2, 60, 3, 61, 28, 42, 180, 0, 31, 185, 0, 64, 1, 0, 162, 0, 54, 27, 2, 160, 0, 22, 42]
abbrev dktX1_leastLife_0 : List UInt8 := dkwX1_leastLife_0 ++ dktX1_leastLife_1
theorem dksX1_leastLife_0 : cX1_leastLife.data.toList.drop 0 = dktX1_leastLife_0 := by decide +kernel
theorem dksX1_leastLife_1 : cX1_leastLife.data.toList.drop 23 = dktX1_leastLife_1 := dk_seg dksX1_leastLife_0 23 rfl rfl
theorem dksX1_leastLife_2 : cX1_leastLife.data.toList.drop 47 = dktX1_leastLife_2 := dk_seg dksX1_leastLife_1 24 rfl rfl
theorem dX1_leastLife_0 : decode cX1_leastLife 0 = .ok (.iconst (-1), 1) := dk_2 (dk_at dksX1_leastLife_0 0 rfl rfl)
theorem dX1_leastLife_1 : decode cX1_leastLife 1 = .ok (.istore_n 1, 1) := dk_60 (dk_at dksX1_leastLife_0 1 rfl rfl)
theorem dX1_leastLife_2 : decode cX1_leastLife 2 = .ok (.iconst 0, 1) := dk_3 (dk_at dksX1_leastLife_0 2 rfl rfl)
theorem dX1_leastLife_3 : decode cX1_leastLife 3 = .ok (.istore_n 2, 1) := dk_61 (dk_at dksX1_leastLife_0 3 rfl rfl)
theorem dX1_leastLife_4 : decode cX1_leastLife 4 = .ok (.iload_n 2, 1) := dk_28 (dk_at dksX1_leastLife_0 4 rfl rfl)
theorem dX1_leastLife_5 : decode cX1_leastLife 5 = .ok (.aload_n 0, 1) := dk_42 (dk_at dksX1_leastLife_0 5 rfl rfl)
theorem dX1_leastLife_6 : decode cX1_leastLife 6 = .ok (.getfield 31, 3) := dk_180 0 31 (dk_at dksX1_leastLife_0 6 rfl rfl)
theorem dX1_leastLife_9 : decode cX1_leastLife 9 = .ok (.invokeinterface 64 1, 5) := by decide +kernel
theorem dX1_leastLife_14 : decode cX1_leastLife 14 = .ok (.if_icmp .ge 54, 3) := dk_162 0 54 (dk_at dksX1_leastLife_0 14 rfl rfl)
theorem dX1_leastLife_17 : decode cX1_leastLife 17 = .ok (.iload_n 1, 1) := dk_27 (dk_at dksX1_leastLife_0 17 rfl rfl)
theorem dX1_leastLife_18 : decode cX1_leastLife 18 = .ok (.iconst (-1), 1) := dk_2 (dk_at dksX1_leastLife_0 18 rfl rfl)
theorem dX1_leastLife_19 : decode cX1_leastLife 19 = .ok (.if_icmp .ne 22, 3) := dk_160 0 22 (dk_at dksX1_leastLife_0 19 rfl rfl)
theorem dX1_leastLife_22 : decode cX1_leastLife 22 = .ok (.aload_n 0, 1) := dk_42 (dk_at dksX1_leastLife_0 22 rfl rfl)
theorem dX1_leastLife_23 : decode cX1_leastLife 23 = .ok (.getfield 31, 3) := dk_180 0 31 (dk_at dksX1_leastLife_1 0 rfl rfl)
theorem dX1_leastLife_26 : decode cX1_leastLife 26 = .ok (.iload_n 2, 1) := dk_28 (dk_at dksX1_leastLife_1 3 rfl rfl)
theorem dX1_leastLife_27 : decode cX1_leastLife 27 = .ok (.invokeinterface 74 2, 5) := by decide +kernel
theorem dX1_leastLife_32 : decode cX1_leastLife 32 = .ok (.checkcast 164, 3) := dk_192 0 164 (dk_at dksX1_leastLife_1 9 rfl rfl)
theorem dX1_leastLife_35 : decode cX1_leastLife 35 = .ok (.getfield 166, 3) := dk_180 0 166 (dk_at dksX1_leastLife_1 12 rfl rfl)
theorem dX1_leastLife_38 : decode cX1_leastLife 38 = .ok (.goto 23, 3) := dk_167 0 23 (dk_at dksX1_leastLife_1 15 rfl rfl)
theorem dX1_leastLife_41 : decode cX1_leastLife 41 = .ok (.iload_n 1, 1) := dk_27 (dk_at dksX1_leastLife_1 18 rfl rfl)
theorem dX1_leastLife_42 : decode cX1_leastLife 42 = .ok (.aload_n 0, 1) := dk_42 (dk_at dksX1_leastLife_1 19 rfl rfl)
theorem dX1_leastLife_43 : decode cX1_leastLife 43 = .ok (.getfield 31, 3) := dk_180 0 31 (dk_at dksX1_leastLife_1 20 rfl rfl)
theorem dX1_leastLife_46 : decode cX1_leastLife 46 = .ok (.iload_n 2, 1) := dk_28 (dk_at dksX1_leastLife_1 23 rfl rfl)
theorem dX1_leastLife_47 : decode cX1_leastLife 47 = .ok (.invokeinterface 74 2, 5) := by decide +kernel
theorem dX1_leastLife_52 : decode cX1_leastLife 52 = .ok (.checkcast 164, 3) := dk_192 0 164 (dk_at dksX1_leastLife_2 5 rfl rfl)
theorem dX1_leastLife_55 : decode cX1_leastLife 55 = .ok (.getfield 166, 3) := dk_180 0 166 (dk_at dksX1_leastLife_2 8 rfl rfl)
theorem dX1_leastLife_58 : decode cX1_leastLife 58 = .ok (.invokestatic 274, 3) := dk_184 1 18 (dk_at dksX1_leastLife_2 11 rfl rfl)
theorem dX1_leastLife_61 : decode cX1_leastLife 61 = .ok (.istore_n 1, 1) := dk_60 (dk_at dksX1_leastLife_2 14 rfl rfl)
theorem dX1_leastLife_62 : decode cX1_leastLife 62 = .ok (.iinc 2 1, 3) := dk_132 2 1 (dk_at dksX1_leastLife_2 15 rfl rfl)
theorem dX1_leastLife_65 : decode cX1_leastLife 65 = .ok (.goto (-61), 3) := dk_167 255 195 (dk_at dksX1_leastLife_2 18 rfl rfl)
theorem dX1_leastLife_68 : decode cX1_leastLife 68 = .ok (.iload_n 1, 1) := dk_27 (dk_at dksX1_leastLife_2 21 rfl rfl)
theorem dX1_leastLife_69 : decode cX1_leastLife 69 = .ok (.ireturn, 1) := dk_172 (dk_at dksX1_leastLife_2 22 rfl rfl)
abbrev cX1_mix : ByteArray := prog_1_method_61_code
def yX1_mix : MethodName := ⟨RX1, "mix", "(JI)J"⟩
def dkwX1_mix_0 : List UInt8 := [30, 20, 1, 140, 105, 28, 133, 97, 173]
abbrev dktX1_mix_0 : List UInt8 := dkwX1_mix_0 ++ []
theorem dksX1_mix_0 : cX1_mix.data.toList.drop 0 = dktX1_mix_0 := by decide +kernel
theorem dX1_mix_0 : decode cX1_mix 0 = .ok (.lload_n 0, 1) := dk_30 (dk_at dksX1_mix_0 0 rfl rfl)
theorem dX1_mix_1 : decode cX1_mix 1 = .ok (.ldc2_w 396, 3) := dk_20 1 140 (dk_at dksX1_mix_0 1 rfl rfl)
theorem dX1_mix_4 : decode cX1_mix 4 = .ok (.lmul, 1) := dk_105 (dk_at dksX1_mix_0 4 rfl rfl)
theorem dX1_mix_5 : decode cX1_mix 5 = .ok (.iload_n 2, 1) := dk_28 (dk_at dksX1_mix_0 5 rfl rfl)
theorem dX1_mix_6 : decode cX1_mix 6 = .ok (.i2l, 1) := dk_133 (dk_at dksX1_mix_0 6 rfl rfl)
theorem dX1_mix_7 : decode cX1_mix 7 = .ok (.ladd, 1) := dk_97 (dk_at dksX1_mix_0 7 rfl rfl)
theorem dX1_mix_8 : decode cX1_mix 8 = .ok (.lreturn, 1) := dk_173 (dk_at dksX1_mix_0 8 rfl rfl)
abbrev cX1_mixGrown : ByteArray := prog_1_method_62_code
def yX1_mixGrown : MethodName := ⟨RX1, "mixGrown", "(J)J"⟩
def dkwX1_mixGrown_10 : List UInt8 := [132, 5, 1, 167, 255, 179, 33, 173]
abbrev dktX1_mixGrown_10 : List UInt8 := dkwX1_mixGrown_10 ++ []
def dkwX1_mixGrown_9 : List UInt8 := [167, 255, 222, 33, 42, 21, 5, 182, 1, 116, 184, 1, 142, 42, 21, 5, 182, 1, 119, 184, 1, 142, 66]
abbrev dktX1_mixGrown_9 : List UInt8 := dkwX1_mixGrown_9 ++ dktX1_mixGrown_10
def dkwX1_mixGrown_8 : List UInt8 := [21, 5, 185, 0, 74, 2, 0, 192, 0, 82, 21, 6, 182, 1, 93, 184, 1, 142, 66, 132, 6, 1]
abbrev dktX1_mixGrown_8 : List UInt8 := dkwX1_mixGrown_8 ++ dktX1_mixGrown_9
def dkwX1_mixGrown_7 : List UInt8 := [185, 0, 64, 1, 0, 162, 0, 69, 3, 54, 6, 21, 6, 16, 9, 163, 0, 33, 33, 42, 180, 0, 19]
abbrev dktX1_mixGrown_7 : List UInt8 := dkwX1_mixGrown_7 ++ dktX1_mixGrown_8
def dkwX1_mixGrown_6 : List UInt8 := [182, 1, 133, 184, 1, 142, 66, 132, 5, 1, 167, 255, 177, 3, 54, 5, 21, 5, 42, 180, 0, 19]
abbrev dktX1_mixGrown_6 : List UInt8 := dkwX1_mixGrown_6 ++ dktX1_mixGrown_7
def dkwX1_mixGrown_5 : List UInt8 := [132, 6, 1, 167, 255, 223, 33, 42, 42, 180, 0, 16, 21, 5, 185, 0, 74, 2, 0, 192, 0, 80]
abbrev dktX1_mixGrown_5 : List UInt8 := dkwX1_mixGrown_5 ++ dktX1_mixGrown_6
def dkwX1_mixGrown_4 : List UInt8 := [180, 0, 16, 21, 5, 185, 0, 74, 2, 0, 192, 0, 80, 21, 6, 182, 1, 90, 184, 1, 142, 66]
abbrev dktX1_mixGrown_4 : List UInt8 := dkwX1_mixGrown_4 ++ dktX1_mixGrown_5
def dkwX1_mixGrown_3 : List UInt8 := [42, 180, 0, 16, 185, 0, 64, 1, 0, 162, 0, 71, 3, 54, 6, 21, 6, 8, 163, 0, 33, 33, 42]
abbrev dktX1_mixGrown_3 : List UInt8 := dkwX1_mixGrown_3 ++ dktX1_mixGrown_4
def dkwX1_mixGrown_2 : List UInt8 := [182, 1, 97, 184, 1, 142, 66, 132, 6, 1, 167, 255, 222, 132, 5, 1, 167, 255, 199, 3, 54, 5, 21, 5]
abbrev dktX1_mixGrown_2 : List UInt8 := dkwX1_mixGrown_2 ++ dktX1_mixGrown_3
def dkwX1_mixGrown_1 : List UInt8 := [7, 163, 0, 34, 33, 42, 42, 180, 0, 12, 21, 5, 185, 0, 74, 2, 0, 192, 0, 78, 21, 6]
abbrev dktX1_mixGrown_1 : List UInt8 := dkwX1_mixGrown_1 ++ dktX1_mixGrown_2
def dkwX1_mixGrown_0 : List UInt8 := [31, 66, 3, 54, 5, 21, 5, 42, 180, 0, 12, 185, 0, 64, 1, 0, 162, 0, 49, 3, 54, 6, 21, 6]
abbrev dktX1_mixGrown_0 : List UInt8 := dkwX1_mixGrown_0 ++ dktX1_mixGrown_1
theorem dksX1_mixGrown_0 : cX1_mixGrown.data.toList.drop 0 = dktX1_mixGrown_0 := by decide +kernel
theorem dksX1_mixGrown_1 : cX1_mixGrown.data.toList.drop 24 = dktX1_mixGrown_1 := dk_seg dksX1_mixGrown_0 24 rfl rfl
theorem dksX1_mixGrown_2 : cX1_mixGrown.data.toList.drop 46 = dktX1_mixGrown_2 := dk_seg dksX1_mixGrown_1 22 rfl rfl
theorem dksX1_mixGrown_3 : cX1_mixGrown.data.toList.drop 70 = dktX1_mixGrown_3 := dk_seg dksX1_mixGrown_2 24 rfl rfl
theorem dksX1_mixGrown_4 : cX1_mixGrown.data.toList.drop 93 = dktX1_mixGrown_4 := dk_seg dksX1_mixGrown_3 23 rfl rfl
theorem dksX1_mixGrown_5 : cX1_mixGrown.data.toList.drop 115 = dktX1_mixGrown_5 := dk_seg dksX1_mixGrown_4 22 rfl rfl
theorem dksX1_mixGrown_6 : cX1_mixGrown.data.toList.drop 137 = dktX1_mixGrown_6 := dk_seg dksX1_mixGrown_5 22 rfl rfl
theorem dksX1_mixGrown_7 : cX1_mixGrown.data.toList.drop 159 = dktX1_mixGrown_7 := dk_seg dksX1_mixGrown_6 22 rfl rfl
theorem dksX1_mixGrown_8 : cX1_mixGrown.data.toList.drop 182 = dktX1_mixGrown_8 := dk_seg dksX1_mixGrown_7 23 rfl rfl
theorem dksX1_mixGrown_9 : cX1_mixGrown.data.toList.drop 204 = dktX1_mixGrown_9 := dk_seg dksX1_mixGrown_8 22 rfl rfl
theorem dksX1_mixGrown_10 : cX1_mixGrown.data.toList.drop 227 = dktX1_mixGrown_10 := dk_seg dksX1_mixGrown_9 23 rfl rfl
theorem dX1_mixGrown_0 : decode cX1_mixGrown 0 = .ok (.lload_n 1, 1) := dk_31 (dk_at dksX1_mixGrown_0 0 rfl rfl)
theorem dX1_mixGrown_1 : decode cX1_mixGrown 1 = .ok (.lstore_n 3, 1) := dk_66 (dk_at dksX1_mixGrown_0 1 rfl rfl)
theorem dX1_mixGrown_2 : decode cX1_mixGrown 2 = .ok (.iconst 0, 1) := dk_3 (dk_at dksX1_mixGrown_0 2 rfl rfl)
theorem dX1_mixGrown_3 : decode cX1_mixGrown 3 = .ok (.istore 5, 2) := dk_54 5 (dk_at dksX1_mixGrown_0 3 rfl rfl)
theorem dX1_mixGrown_5 : decode cX1_mixGrown 5 = .ok (.iload 5, 2) := dk_21 5 (dk_at dksX1_mixGrown_0 5 rfl rfl)
theorem dX1_mixGrown_7 : decode cX1_mixGrown 7 = .ok (.aload_n 0, 1) := dk_42 (dk_at dksX1_mixGrown_0 7 rfl rfl)
theorem dX1_mixGrown_8 : decode cX1_mixGrown 8 = .ok (.getfield 12, 3) := dk_180 0 12 (dk_at dksX1_mixGrown_0 8 rfl rfl)
theorem dX1_mixGrown_11 : decode cX1_mixGrown 11 = .ok (.invokeinterface 64 1, 5) := by decide +kernel
theorem dX1_mixGrown_16 : decode cX1_mixGrown 16 = .ok (.if_icmp .ge 49, 3) := dk_162 0 49 (dk_at dksX1_mixGrown_0 16 rfl rfl)
theorem dX1_mixGrown_19 : decode cX1_mixGrown 19 = .ok (.iconst 0, 1) := dk_3 (dk_at dksX1_mixGrown_0 19 rfl rfl)
theorem dX1_mixGrown_20 : decode cX1_mixGrown 20 = .ok (.istore 6, 2) := dk_54 6 (dk_at dksX1_mixGrown_0 20 rfl rfl)
theorem dX1_mixGrown_22 : decode cX1_mixGrown 22 = .ok (.iload 6, 2) := dk_21 6 (dk_at dksX1_mixGrown_0 22 rfl rfl)
theorem dX1_mixGrown_24 : decode cX1_mixGrown 24 = .ok (.iconst 4, 1) := dk_7 (dk_at dksX1_mixGrown_1 0 rfl rfl)
theorem dX1_mixGrown_25 : decode cX1_mixGrown 25 = .ok (.if_icmp .gt 34, 3) := dk_163 0 34 (dk_at dksX1_mixGrown_1 1 rfl rfl)
theorem dX1_mixGrown_28 : decode cX1_mixGrown 28 = .ok (.lload_n 3, 1) := dk_33 (dk_at dksX1_mixGrown_1 4 rfl rfl)
theorem dX1_mixGrown_29 : decode cX1_mixGrown 29 = .ok (.aload_n 0, 1) := dk_42 (dk_at dksX1_mixGrown_1 5 rfl rfl)
theorem dX1_mixGrown_30 : decode cX1_mixGrown 30 = .ok (.aload_n 0, 1) := dk_42 (dk_at dksX1_mixGrown_1 6 rfl rfl)
theorem dX1_mixGrown_31 : decode cX1_mixGrown 31 = .ok (.getfield 12, 3) := dk_180 0 12 (dk_at dksX1_mixGrown_1 7 rfl rfl)
theorem dX1_mixGrown_34 : decode cX1_mixGrown 34 = .ok (.iload 5, 2) := dk_21 5 (dk_at dksX1_mixGrown_1 10 rfl rfl)
theorem dX1_mixGrown_36 : decode cX1_mixGrown 36 = .ok (.invokeinterface 74 2, 5) := by decide +kernel
theorem dX1_mixGrown_41 : decode cX1_mixGrown 41 = .ok (.checkcast 78, 3) := dk_192 0 78 (dk_at dksX1_mixGrown_1 17 rfl rfl)
theorem dX1_mixGrown_44 : decode cX1_mixGrown 44 = .ok (.iload 6, 2) := dk_21 6 (dk_at dksX1_mixGrown_1 20 rfl rfl)
theorem dX1_mixGrown_46 : decode cX1_mixGrown 46 = .ok (.invokevirtual 353, 3) := dk_182 1 97 (dk_at dksX1_mixGrown_2 0 rfl rfl)
theorem dX1_mixGrown_49 : decode cX1_mixGrown 49 = .ok (.invokestatic 398, 3) := dk_184 1 142 (dk_at dksX1_mixGrown_2 3 rfl rfl)
theorem dX1_mixGrown_52 : decode cX1_mixGrown 52 = .ok (.lstore_n 3, 1) := dk_66 (dk_at dksX1_mixGrown_2 6 rfl rfl)
theorem dX1_mixGrown_53 : decode cX1_mixGrown 53 = .ok (.iinc 6 1, 3) := dk_132 6 1 (dk_at dksX1_mixGrown_2 7 rfl rfl)
theorem dX1_mixGrown_56 : decode cX1_mixGrown 56 = .ok (.goto (-34), 3) := dk_167 255 222 (dk_at dksX1_mixGrown_2 10 rfl rfl)
theorem dX1_mixGrown_59 : decode cX1_mixGrown 59 = .ok (.iinc 5 1, 3) := dk_132 5 1 (dk_at dksX1_mixGrown_2 13 rfl rfl)
theorem dX1_mixGrown_62 : decode cX1_mixGrown 62 = .ok (.goto (-57), 3) := dk_167 255 199 (dk_at dksX1_mixGrown_2 16 rfl rfl)
theorem dX1_mixGrown_65 : decode cX1_mixGrown 65 = .ok (.iconst 0, 1) := dk_3 (dk_at dksX1_mixGrown_2 19 rfl rfl)
theorem dX1_mixGrown_66 : decode cX1_mixGrown 66 = .ok (.istore 5, 2) := dk_54 5 (dk_at dksX1_mixGrown_2 20 rfl rfl)
theorem dX1_mixGrown_68 : decode cX1_mixGrown 68 = .ok (.iload 5, 2) := dk_21 5 (dk_at dksX1_mixGrown_2 22 rfl rfl)
theorem dX1_mixGrown_70 : decode cX1_mixGrown 70 = .ok (.aload_n 0, 1) := dk_42 (dk_at dksX1_mixGrown_3 0 rfl rfl)
theorem dX1_mixGrown_71 : decode cX1_mixGrown 71 = .ok (.getfield 16, 3) := dk_180 0 16 (dk_at dksX1_mixGrown_3 1 rfl rfl)
theorem dX1_mixGrown_74 : decode cX1_mixGrown 74 = .ok (.invokeinterface 64 1, 5) := by decide +kernel
theorem dX1_mixGrown_79 : decode cX1_mixGrown 79 = .ok (.if_icmp .ge 71, 3) := dk_162 0 71 (dk_at dksX1_mixGrown_3 9 rfl rfl)
theorem dX1_mixGrown_82 : decode cX1_mixGrown 82 = .ok (.iconst 0, 1) := dk_3 (dk_at dksX1_mixGrown_3 12 rfl rfl)
theorem dX1_mixGrown_83 : decode cX1_mixGrown 83 = .ok (.istore 6, 2) := dk_54 6 (dk_at dksX1_mixGrown_3 13 rfl rfl)
theorem dX1_mixGrown_85 : decode cX1_mixGrown 85 = .ok (.iload 6, 2) := dk_21 6 (dk_at dksX1_mixGrown_3 15 rfl rfl)
theorem dX1_mixGrown_87 : decode cX1_mixGrown 87 = .ok (.iconst 5, 1) := dk_8 (dk_at dksX1_mixGrown_3 17 rfl rfl)
theorem dX1_mixGrown_88 : decode cX1_mixGrown 88 = .ok (.if_icmp .gt 33, 3) := dk_163 0 33 (dk_at dksX1_mixGrown_3 18 rfl rfl)
theorem dX1_mixGrown_91 : decode cX1_mixGrown 91 = .ok (.lload_n 3, 1) := dk_33 (dk_at dksX1_mixGrown_3 21 rfl rfl)
theorem dX1_mixGrown_92 : decode cX1_mixGrown 92 = .ok (.aload_n 0, 1) := dk_42 (dk_at dksX1_mixGrown_3 22 rfl rfl)
theorem dX1_mixGrown_93 : decode cX1_mixGrown 93 = .ok (.getfield 16, 3) := dk_180 0 16 (dk_at dksX1_mixGrown_4 0 rfl rfl)
theorem dX1_mixGrown_96 : decode cX1_mixGrown 96 = .ok (.iload 5, 2) := dk_21 5 (dk_at dksX1_mixGrown_4 3 rfl rfl)
theorem dX1_mixGrown_98 : decode cX1_mixGrown 98 = .ok (.invokeinterface 74 2, 5) := by decide +kernel
theorem dX1_mixGrown_103 : decode cX1_mixGrown 103 = .ok (.checkcast 80, 3) := dk_192 0 80 (dk_at dksX1_mixGrown_4 10 rfl rfl)
theorem dX1_mixGrown_106 : decode cX1_mixGrown 106 = .ok (.iload 6, 2) := dk_21 6 (dk_at dksX1_mixGrown_4 13 rfl rfl)
theorem dX1_mixGrown_108 : decode cX1_mixGrown 108 = .ok (.invokevirtual 346, 3) := dk_182 1 90 (dk_at dksX1_mixGrown_4 15 rfl rfl)
theorem dX1_mixGrown_111 : decode cX1_mixGrown 111 = .ok (.invokestatic 398, 3) := dk_184 1 142 (dk_at dksX1_mixGrown_4 18 rfl rfl)
theorem dX1_mixGrown_114 : decode cX1_mixGrown 114 = .ok (.lstore_n 3, 1) := dk_66 (dk_at dksX1_mixGrown_4 21 rfl rfl)
theorem dX1_mixGrown_115 : decode cX1_mixGrown 115 = .ok (.iinc 6 1, 3) := dk_132 6 1 (dk_at dksX1_mixGrown_5 0 rfl rfl)
theorem dX1_mixGrown_118 : decode cX1_mixGrown 118 = .ok (.goto (-33), 3) := dk_167 255 223 (dk_at dksX1_mixGrown_5 3 rfl rfl)
theorem dX1_mixGrown_121 : decode cX1_mixGrown 121 = .ok (.lload_n 3, 1) := dk_33 (dk_at dksX1_mixGrown_5 6 rfl rfl)
theorem dX1_mixGrown_122 : decode cX1_mixGrown 122 = .ok (.aload_n 0, 1) := dk_42 (dk_at dksX1_mixGrown_5 7 rfl rfl)
theorem dX1_mixGrown_123 : decode cX1_mixGrown 123 = .ok (.aload_n 0, 1) := dk_42 (dk_at dksX1_mixGrown_5 8 rfl rfl)
theorem dX1_mixGrown_124 : decode cX1_mixGrown 124 = .ok (.getfield 16, 3) := dk_180 0 16 (dk_at dksX1_mixGrown_5 9 rfl rfl)
theorem dX1_mixGrown_127 : decode cX1_mixGrown 127 = .ok (.iload 5, 2) := dk_21 5 (dk_at dksX1_mixGrown_5 12 rfl rfl)
theorem dX1_mixGrown_129 : decode cX1_mixGrown 129 = .ok (.invokeinterface 74 2, 5) := by decide +kernel
theorem dX1_mixGrown_134 : decode cX1_mixGrown 134 = .ok (.checkcast 80, 3) := dk_192 0 80 (dk_at dksX1_mixGrown_5 19 rfl rfl)
theorem dX1_mixGrown_137 : decode cX1_mixGrown 137 = .ok (.invokevirtual 389, 3) := dk_182 1 133 (dk_at dksX1_mixGrown_6 0 rfl rfl)
theorem dX1_mixGrown_140 : decode cX1_mixGrown 140 = .ok (.invokestatic 398, 3) := dk_184 1 142 (dk_at dksX1_mixGrown_6 3 rfl rfl)
theorem dX1_mixGrown_143 : decode cX1_mixGrown 143 = .ok (.lstore_n 3, 1) := dk_66 (dk_at dksX1_mixGrown_6 6 rfl rfl)
theorem dX1_mixGrown_144 : decode cX1_mixGrown 144 = .ok (.iinc 5 1, 3) := dk_132 5 1 (dk_at dksX1_mixGrown_6 7 rfl rfl)
theorem dX1_mixGrown_147 : decode cX1_mixGrown 147 = .ok (.goto (-79), 3) := dk_167 255 177 (dk_at dksX1_mixGrown_6 10 rfl rfl)
theorem dX1_mixGrown_150 : decode cX1_mixGrown 150 = .ok (.iconst 0, 1) := dk_3 (dk_at dksX1_mixGrown_6 13 rfl rfl)
theorem dX1_mixGrown_151 : decode cX1_mixGrown 151 = .ok (.istore 5, 2) := dk_54 5 (dk_at dksX1_mixGrown_6 14 rfl rfl)
theorem dX1_mixGrown_153 : decode cX1_mixGrown 153 = .ok (.iload 5, 2) := dk_21 5 (dk_at dksX1_mixGrown_6 16 rfl rfl)
theorem dX1_mixGrown_155 : decode cX1_mixGrown 155 = .ok (.aload_n 0, 1) := dk_42 (dk_at dksX1_mixGrown_6 18 rfl rfl)
theorem dX1_mixGrown_156 : decode cX1_mixGrown 156 = .ok (.getfield 19, 3) := dk_180 0 19 (dk_at dksX1_mixGrown_6 19 rfl rfl)
theorem dX1_mixGrown_159 : decode cX1_mixGrown 159 = .ok (.invokeinterface 64 1, 5) := by decide +kernel
theorem dX1_mixGrown_164 : decode cX1_mixGrown 164 = .ok (.if_icmp .ge 69, 3) := dk_162 0 69 (dk_at dksX1_mixGrown_7 5 rfl rfl)
theorem dX1_mixGrown_167 : decode cX1_mixGrown 167 = .ok (.iconst 0, 1) := dk_3 (dk_at dksX1_mixGrown_7 8 rfl rfl)
theorem dX1_mixGrown_168 : decode cX1_mixGrown 168 = .ok (.istore 6, 2) := dk_54 6 (dk_at dksX1_mixGrown_7 9 rfl rfl)
theorem dX1_mixGrown_170 : decode cX1_mixGrown 170 = .ok (.iload 6, 2) := dk_21 6 (dk_at dksX1_mixGrown_7 11 rfl rfl)
theorem dX1_mixGrown_172 : decode cX1_mixGrown 172 = .ok (.bipush 9, 2) := dk_16 9 (dk_at dksX1_mixGrown_7 13 rfl rfl)
theorem dX1_mixGrown_174 : decode cX1_mixGrown 174 = .ok (.if_icmp .gt 33, 3) := dk_163 0 33 (dk_at dksX1_mixGrown_7 15 rfl rfl)
theorem dX1_mixGrown_177 : decode cX1_mixGrown 177 = .ok (.lload_n 3, 1) := dk_33 (dk_at dksX1_mixGrown_7 18 rfl rfl)
theorem dX1_mixGrown_178 : decode cX1_mixGrown 178 = .ok (.aload_n 0, 1) := dk_42 (dk_at dksX1_mixGrown_7 19 rfl rfl)
theorem dX1_mixGrown_179 : decode cX1_mixGrown 179 = .ok (.getfield 19, 3) := dk_180 0 19 (dk_at dksX1_mixGrown_7 20 rfl rfl)
theorem dX1_mixGrown_182 : decode cX1_mixGrown 182 = .ok (.iload 5, 2) := dk_21 5 (dk_at dksX1_mixGrown_8 0 rfl rfl)
theorem dX1_mixGrown_184 : decode cX1_mixGrown 184 = .ok (.invokeinterface 74 2, 5) := by decide +kernel
theorem dX1_mixGrown_189 : decode cX1_mixGrown 189 = .ok (.checkcast 82, 3) := dk_192 0 82 (dk_at dksX1_mixGrown_8 7 rfl rfl)
theorem dX1_mixGrown_192 : decode cX1_mixGrown 192 = .ok (.iload 6, 2) := dk_21 6 (dk_at dksX1_mixGrown_8 10 rfl rfl)
theorem dX1_mixGrown_194 : decode cX1_mixGrown 194 = .ok (.invokevirtual 349, 3) := dk_182 1 93 (dk_at dksX1_mixGrown_8 12 rfl rfl)
theorem dX1_mixGrown_197 : decode cX1_mixGrown 197 = .ok (.invokestatic 398, 3) := dk_184 1 142 (dk_at dksX1_mixGrown_8 15 rfl rfl)
theorem dX1_mixGrown_200 : decode cX1_mixGrown 200 = .ok (.lstore_n 3, 1) := dk_66 (dk_at dksX1_mixGrown_8 18 rfl rfl)
theorem dX1_mixGrown_201 : decode cX1_mixGrown 201 = .ok (.iinc 6 1, 3) := dk_132 6 1 (dk_at dksX1_mixGrown_8 19 rfl rfl)
theorem dX1_mixGrown_204 : decode cX1_mixGrown 204 = .ok (.goto (-34), 3) := dk_167 255 222 (dk_at dksX1_mixGrown_9 0 rfl rfl)
theorem dX1_mixGrown_207 : decode cX1_mixGrown 207 = .ok (.lload_n 3, 1) := dk_33 (dk_at dksX1_mixGrown_9 3 rfl rfl)
theorem dX1_mixGrown_208 : decode cX1_mixGrown 208 = .ok (.aload_n 0, 1) := dk_42 (dk_at dksX1_mixGrown_9 4 rfl rfl)
theorem dX1_mixGrown_209 : decode cX1_mixGrown 209 = .ok (.iload 5, 2) := dk_21 5 (dk_at dksX1_mixGrown_9 5 rfl rfl)
theorem dX1_mixGrown_211 : decode cX1_mixGrown 211 = .ok (.invokevirtual 372, 3) := dk_182 1 116 (dk_at dksX1_mixGrown_9 7 rfl rfl)
theorem dX1_mixGrown_214 : decode cX1_mixGrown 214 = .ok (.invokestatic 398, 3) := dk_184 1 142 (dk_at dksX1_mixGrown_9 10 rfl rfl)
theorem dX1_mixGrown_217 : decode cX1_mixGrown 217 = .ok (.aload_n 0, 1) := dk_42 (dk_at dksX1_mixGrown_9 13 rfl rfl)
theorem dX1_mixGrown_218 : decode cX1_mixGrown 218 = .ok (.iload 5, 2) := dk_21 5 (dk_at dksX1_mixGrown_9 14 rfl rfl)
theorem dX1_mixGrown_220 : decode cX1_mixGrown 220 = .ok (.invokevirtual 375, 3) := dk_182 1 119 (dk_at dksX1_mixGrown_9 16 rfl rfl)
theorem dX1_mixGrown_223 : decode cX1_mixGrown 223 = .ok (.invokestatic 398, 3) := dk_184 1 142 (dk_at dksX1_mixGrown_9 19 rfl rfl)
theorem dX1_mixGrown_226 : decode cX1_mixGrown 226 = .ok (.lstore_n 3, 1) := dk_66 (dk_at dksX1_mixGrown_9 22 rfl rfl)
theorem dX1_mixGrown_227 : decode cX1_mixGrown 227 = .ok (.iinc 5 1, 3) := dk_132 5 1 (dk_at dksX1_mixGrown_10 0 rfl rfl)
theorem dX1_mixGrown_230 : decode cX1_mixGrown 230 = .ok (.goto (-77), 3) := dk_167 255 179 (dk_at dksX1_mixGrown_10 3 rfl rfl)
theorem dX1_mixGrown_233 : decode cX1_mixGrown 233 = .ok (.lload_n 3, 1) := dk_33 (dk_at dksX1_mixGrown_10 6 rfl rfl)
theorem dX1_mixGrown_234 : decode cX1_mixGrown 234 = .ok (.lreturn, 1) := dk_173 (dk_at dksX1_mixGrown_10 7 rfl rfl)
abbrev cX1_growerNow : ByteArray := prog_1_method_41_code
def yX1_growerNow : MethodName := ⟨RX1, "growerNow", "(LBloomclock$Grower;I)I"⟩
def dkwX1_growerNow_2 : List UInt8 := [42, 182, 0, 221, 182, 1, 94, 172]
abbrev dktX1_growerNow_2 : List UInt8 := dkwX1_growerNow_2 ++ []
def dkwX1_growerNow_1 : List UInt8 := [5, 160, 0, 10, 43, 180, 0, 247, 167, 0, 23, 28, 6, 160, 0, 10, 43, 180, 1, 72, 167, 0, 11, 43]
abbrev dktX1_growerNow_1 : List UInt8 := dkwX1_growerNow_1 ++ dktX1_growerNow_2
def dkwX1_growerNow_0 : List UInt8 := [28, 154, 0, 10, 43, 180, 0, 158, 167, 0, 47, 28, 4, 160, 0, 10, 43, 180, 0, 105, 167, 0, 35, 28]
abbrev dktX1_growerNow_0 : List UInt8 := dkwX1_growerNow_0 ++ dktX1_growerNow_1
theorem dksX1_growerNow_0 : cX1_growerNow.data.toList.drop 0 = dktX1_growerNow_0 := by decide +kernel
theorem dksX1_growerNow_1 : cX1_growerNow.data.toList.drop 24 = dktX1_growerNow_1 := dk_seg dksX1_growerNow_0 24 rfl rfl
theorem dksX1_growerNow_2 : cX1_growerNow.data.toList.drop 48 = dktX1_growerNow_2 := dk_seg dksX1_growerNow_1 24 rfl rfl
theorem dX1_growerNow_0 : decode cX1_growerNow 0 = .ok (.iload_n 2, 1) := dk_28 (dk_at dksX1_growerNow_0 0 rfl rfl)
theorem dX1_growerNow_1 : decode cX1_growerNow 1 = .ok (.ifCond .ne 10, 3) := dk_154 0 10 (dk_at dksX1_growerNow_0 1 rfl rfl)
theorem dX1_growerNow_4 : decode cX1_growerNow 4 = .ok (.aload_n 1, 1) := dk_43 (dk_at dksX1_growerNow_0 4 rfl rfl)
theorem dX1_growerNow_5 : decode cX1_growerNow 5 = .ok (.getfield 158, 3) := dk_180 0 158 (dk_at dksX1_growerNow_0 5 rfl rfl)
theorem dX1_growerNow_8 : decode cX1_growerNow 8 = .ok (.goto 47, 3) := dk_167 0 47 (dk_at dksX1_growerNow_0 8 rfl rfl)
theorem dX1_growerNow_11 : decode cX1_growerNow 11 = .ok (.iload_n 2, 1) := dk_28 (dk_at dksX1_growerNow_0 11 rfl rfl)
theorem dX1_growerNow_12 : decode cX1_growerNow 12 = .ok (.iconst 1, 1) := dk_4 (dk_at dksX1_growerNow_0 12 rfl rfl)
theorem dX1_growerNow_13 : decode cX1_growerNow 13 = .ok (.if_icmp .ne 10, 3) := dk_160 0 10 (dk_at dksX1_growerNow_0 13 rfl rfl)
theorem dX1_growerNow_16 : decode cX1_growerNow 16 = .ok (.aload_n 1, 1) := dk_43 (dk_at dksX1_growerNow_0 16 rfl rfl)
theorem dX1_growerNow_17 : decode cX1_growerNow 17 = .ok (.getfield 105, 3) := dk_180 0 105 (dk_at dksX1_growerNow_0 17 rfl rfl)
theorem dX1_growerNow_20 : decode cX1_growerNow 20 = .ok (.goto 35, 3) := dk_167 0 35 (dk_at dksX1_growerNow_0 20 rfl rfl)
theorem dX1_growerNow_23 : decode cX1_growerNow 23 = .ok (.iload_n 2, 1) := dk_28 (dk_at dksX1_growerNow_0 23 rfl rfl)
theorem dX1_growerNow_24 : decode cX1_growerNow 24 = .ok (.iconst 2, 1) := dk_5 (dk_at dksX1_growerNow_1 0 rfl rfl)
theorem dX1_growerNow_25 : decode cX1_growerNow 25 = .ok (.if_icmp .ne 10, 3) := dk_160 0 10 (dk_at dksX1_growerNow_1 1 rfl rfl)
theorem dX1_growerNow_28 : decode cX1_growerNow 28 = .ok (.aload_n 1, 1) := dk_43 (dk_at dksX1_growerNow_1 4 rfl rfl)
theorem dX1_growerNow_29 : decode cX1_growerNow 29 = .ok (.getfield 247, 3) := dk_180 0 247 (dk_at dksX1_growerNow_1 5 rfl rfl)
theorem dX1_growerNow_32 : decode cX1_growerNow 32 = .ok (.goto 23, 3) := dk_167 0 23 (dk_at dksX1_growerNow_1 8 rfl rfl)
theorem dX1_growerNow_35 : decode cX1_growerNow 35 = .ok (.iload_n 2, 1) := dk_28 (dk_at dksX1_growerNow_1 11 rfl rfl)
theorem dX1_growerNow_36 : decode cX1_growerNow 36 = .ok (.iconst 3, 1) := dk_6 (dk_at dksX1_growerNow_1 12 rfl rfl)
theorem dX1_growerNow_37 : decode cX1_growerNow 37 = .ok (.if_icmp .ne 10, 3) := dk_160 0 10 (dk_at dksX1_growerNow_1 13 rfl rfl)
theorem dX1_growerNow_40 : decode cX1_growerNow 40 = .ok (.aload_n 1, 1) := dk_43 (dk_at dksX1_growerNow_1 16 rfl rfl)
theorem dX1_growerNow_41 : decode cX1_growerNow 41 = .ok (.getfield 328, 3) := dk_180 1 72 (dk_at dksX1_growerNow_1 17 rfl rfl)
theorem dX1_growerNow_44 : decode cX1_growerNow 44 = .ok (.goto 11, 3) := dk_167 0 11 (dk_at dksX1_growerNow_1 20 rfl rfl)
theorem dX1_growerNow_47 : decode cX1_growerNow 47 = .ok (.aload_n 1, 1) := dk_43 (dk_at dksX1_growerNow_1 23 rfl rfl)
theorem dX1_growerNow_48 : decode cX1_growerNow 48 = .ok (.aload_n 0, 1) := dk_42 (dk_at dksX1_growerNow_2 0 rfl rfl)
theorem dX1_growerNow_49 : decode cX1_growerNow 49 = .ok (.invokevirtual 221, 3) := dk_182 0 221 (dk_at dksX1_growerNow_2 1 rfl rfl)
theorem dX1_growerNow_52 : decode cX1_growerNow 52 = .ok (.invokevirtual 350, 3) := dk_182 1 94 (dk_at dksX1_growerNow_2 4 rfl rfl)
theorem dX1_growerNow_55 : decode cX1_growerNow 55 = .ok (.ireturn, 1) := dk_172 (dk_at dksX1_growerNow_2 7 rfl rfl)
abbrev cX1_today : ByteArray := prog_1_method_11_code
def yX1_today : MethodName := ⟨RX1, "today", "()I"⟩
def dkwX1_today_0 : List UInt8 := [42, 180, 0, 86, 16, 24, 108, 172]
abbrev dktX1_today_0 : List UInt8 := dkwX1_today_0 ++ []
theorem dksX1_today_0 : cX1_today.data.toList.drop 0 = dktX1_today_0 := by decide +kernel
theorem dX1_today_0 : decode cX1_today 0 = .ok (.aload_n 0, 1) := dk_42 (dk_at dksX1_today_0 0 rfl rfl)
theorem dX1_today_1 : decode cX1_today 1 = .ok (.getfield 86, 3) := dk_180 0 86 (dk_at dksX1_today_0 1 rfl rfl)
theorem dX1_today_4 : decode cX1_today 4 = .ok (.bipush 24, 2) := dk_16 24 (dk_at dksX1_today_0 4 rfl rfl)
theorem dX1_today_6 : decode cX1_today 6 = .ok (.idiv, 1) := dk_108 (dk_at dksX1_today_0 6 rfl rfl)
theorem dX1_today_7 : decode cX1_today 7 = .ok (.ireturn, 1) := dk_172 (dk_at dksX1_today_0 7 rfl rfl)
abbrev cX1_readyNow : ByteArray := prog_1_method_57_code
def yX1_readyNow : MethodName := ⟨RX1, "readyNow", "(LBloomclock$Crop;)I"⟩
def dkwX1_readyNow_2 : List UInt8 := [3, 167, 0, 18, 29, 154, 0, 7, 2, 167, 0, 10, 28, 29, 96, 4, 100, 29, 108, 172]
abbrev dktX1_readyNow_2 : List UInt8 := dkwX1_readyNow_2 ++ []
def dkwX1_readyNow_1 : List UInt8 := [43, 180, 0, 151, 185, 0, 74, 2, 0, 192, 0, 78, 180, 0, 105, 96, 62, 43, 180, 0, 114, 153, 0, 7]
abbrev dktX1_readyNow_1 : List UInt8 := dkwX1_readyNow_1 ++ dktX1_readyNow_2
def dkwX1_readyNow_0 : List UInt8 := [43, 180, 1, 122, 184, 1, 123, 180, 1, 129, 43, 180, 1, 130, 100, 61, 42, 180, 0, 41, 42, 180, 0, 12]
abbrev dktX1_readyNow_0 : List UInt8 := dkwX1_readyNow_0 ++ dktX1_readyNow_1
theorem dksX1_readyNow_0 : cX1_readyNow.data.toList.drop 0 = dktX1_readyNow_0 := by decide +kernel
theorem dksX1_readyNow_1 : cX1_readyNow.data.toList.drop 24 = dktX1_readyNow_1 := dk_seg dksX1_readyNow_0 24 rfl rfl
theorem dksX1_readyNow_2 : cX1_readyNow.data.toList.drop 48 = dktX1_readyNow_2 := dk_seg dksX1_readyNow_1 24 rfl rfl
theorem dX1_readyNow_0 : decode cX1_readyNow 0 = .ok (.aload_n 1, 1) := dk_43 (dk_at dksX1_readyNow_0 0 rfl rfl)
theorem dX1_readyNow_1 : decode cX1_readyNow 1 = .ok (.getfield 378, 3) := dk_180 1 122 (dk_at dksX1_readyNow_0 1 rfl rfl)
theorem dX1_readyNow_4 : decode cX1_readyNow 4 = .ok (.invokestatic 379, 3) := dk_184 1 123 (dk_at dksX1_readyNow_0 4 rfl rfl)
theorem dX1_readyNow_7 : decode cX1_readyNow 7 = .ok (.getfield 385, 3) := dk_180 1 129 (dk_at dksX1_readyNow_0 7 rfl rfl)
theorem dX1_readyNow_10 : decode cX1_readyNow 10 = .ok (.aload_n 1, 1) := dk_43 (dk_at dksX1_readyNow_0 10 rfl rfl)
theorem dX1_readyNow_11 : decode cX1_readyNow 11 = .ok (.getfield 386, 3) := dk_180 1 130 (dk_at dksX1_readyNow_0 11 rfl rfl)
theorem dX1_readyNow_14 : decode cX1_readyNow 14 = .ok (.isub, 1) := dk_100 (dk_at dksX1_readyNow_0 14 rfl rfl)
theorem dX1_readyNow_15 : decode cX1_readyNow 15 = .ok (.istore_n 2, 1) := dk_61 (dk_at dksX1_readyNow_0 15 rfl rfl)
theorem dX1_readyNow_16 : decode cX1_readyNow 16 = .ok (.aload_n 0, 1) := dk_42 (dk_at dksX1_readyNow_0 16 rfl rfl)
theorem dX1_readyNow_17 : decode cX1_readyNow 17 = .ok (.getfield 41, 3) := dk_180 0 41 (dk_at dksX1_readyNow_0 17 rfl rfl)
theorem dX1_readyNow_20 : decode cX1_readyNow 20 = .ok (.aload_n 0, 1) := dk_42 (dk_at dksX1_readyNow_0 20 rfl rfl)
theorem dX1_readyNow_21 : decode cX1_readyNow 21 = .ok (.getfield 12, 3) := dk_180 0 12 (dk_at dksX1_readyNow_0 21 rfl rfl)
theorem dX1_readyNow_24 : decode cX1_readyNow 24 = .ok (.aload_n 1, 1) := dk_43 (dk_at dksX1_readyNow_1 0 rfl rfl)
theorem dX1_readyNow_25 : decode cX1_readyNow 25 = .ok (.getfield 151, 3) := dk_180 0 151 (dk_at dksX1_readyNow_1 1 rfl rfl)
theorem dX1_readyNow_28 : decode cX1_readyNow 28 = .ok (.invokeinterface 74 2, 5) := by decide +kernel
theorem dX1_readyNow_33 : decode cX1_readyNow 33 = .ok (.checkcast 78, 3) := dk_192 0 78 (dk_at dksX1_readyNow_1 9 rfl rfl)
theorem dX1_readyNow_36 : decode cX1_readyNow 36 = .ok (.getfield 105, 3) := dk_180 0 105 (dk_at dksX1_readyNow_1 12 rfl rfl)
theorem dX1_readyNow_39 : decode cX1_readyNow 39 = .ok (.iadd, 1) := dk_96 (dk_at dksX1_readyNow_1 15 rfl rfl)
theorem dX1_readyNow_40 : decode cX1_readyNow 40 = .ok (.istore_n 3, 1) := dk_62 (dk_at dksX1_readyNow_1 16 rfl rfl)
theorem dX1_readyNow_41 : decode cX1_readyNow 41 = .ok (.aload_n 1, 1) := dk_43 (dk_at dksX1_readyNow_1 17 rfl rfl)
theorem dX1_readyNow_42 : decode cX1_readyNow 42 = .ok (.getfield 114, 3) := dk_180 0 114 (dk_at dksX1_readyNow_1 18 rfl rfl)
theorem dX1_readyNow_45 : decode cX1_readyNow 45 = .ok (.ifCond .eq 7, 3) := dk_153 0 7 (dk_at dksX1_readyNow_1 21 rfl rfl)
theorem dX1_readyNow_48 : decode cX1_readyNow 48 = .ok (.iconst 0, 1) := dk_3 (dk_at dksX1_readyNow_2 0 rfl rfl)
theorem dX1_readyNow_49 : decode cX1_readyNow 49 = .ok (.goto 18, 3) := dk_167 0 18 (dk_at dksX1_readyNow_2 1 rfl rfl)
theorem dX1_readyNow_52 : decode cX1_readyNow 52 = .ok (.iload_n 3, 1) := dk_29 (dk_at dksX1_readyNow_2 4 rfl rfl)
theorem dX1_readyNow_53 : decode cX1_readyNow 53 = .ok (.ifCond .ne 7, 3) := dk_154 0 7 (dk_at dksX1_readyNow_2 5 rfl rfl)
theorem dX1_readyNow_56 : decode cX1_readyNow 56 = .ok (.iconst (-1), 1) := dk_2 (dk_at dksX1_readyNow_2 8 rfl rfl)
theorem dX1_readyNow_57 : decode cX1_readyNow 57 = .ok (.goto 10, 3) := dk_167 0 10 (dk_at dksX1_readyNow_2 9 rfl rfl)
theorem dX1_readyNow_60 : decode cX1_readyNow 60 = .ok (.iload_n 2, 1) := dk_28 (dk_at dksX1_readyNow_2 12 rfl rfl)
theorem dX1_readyNow_61 : decode cX1_readyNow 61 = .ok (.iload_n 3, 1) := dk_29 (dk_at dksX1_readyNow_2 13 rfl rfl)
theorem dX1_readyNow_62 : decode cX1_readyNow 62 = .ok (.iadd, 1) := dk_96 (dk_at dksX1_readyNow_2 14 rfl rfl)
theorem dX1_readyNow_63 : decode cX1_readyNow 63 = .ok (.iconst 1, 1) := dk_4 (dk_at dksX1_readyNow_2 15 rfl rfl)
theorem dX1_readyNow_64 : decode cX1_readyNow 64 = .ok (.isub, 1) := dk_100 (dk_at dksX1_readyNow_2 16 rfl rfl)
theorem dX1_readyNow_65 : decode cX1_readyNow 65 = .ok (.iload_n 3, 1) := dk_29 (dk_at dksX1_readyNow_2 17 rfl rfl)
theorem dX1_readyNow_66 : decode cX1_readyNow 66 = .ok (.idiv, 1) := dk_108 (dk_at dksX1_readyNow_2 18 rfl rfl)
theorem dX1_readyNow_67 : decode cX1_readyNow 67 = .ok (.ireturn, 1) := dk_172 (dk_at dksX1_readyNow_2 19 rfl rfl)
abbrev cX1_fetchNow : ByteArray := prog_1_method_53_code
def yX1_fetchNow : MethodName := ⟨RX1, "fetchNow", "(I)I"⟩
def dkwX1_fetchNow_0 : List UInt8 := [42, 27, 182, 1, 112, 77, 44, 182, 1, 24, 153, 0, 10, 44, 180, 1, 34, 167, 0, 4, 2, 172]
abbrev dktX1_fetchNow_0 : List UInt8 := dkwX1_fetchNow_0 ++ []
theorem dksX1_fetchNow_0 : cX1_fetchNow.data.toList.drop 0 = dktX1_fetchNow_0 := by decide +kernel
theorem dX1_fetchNow_0 : decode cX1_fetchNow 0 = .ok (.aload_n 0, 1) := dk_42 (dk_at dksX1_fetchNow_0 0 rfl rfl)
theorem dX1_fetchNow_1 : decode cX1_fetchNow 1 = .ok (.iload_n 1, 1) := dk_27 (dk_at dksX1_fetchNow_0 1 rfl rfl)
theorem dX1_fetchNow_2 : decode cX1_fetchNow 2 = .ok (.invokevirtual 368, 3) := dk_182 1 112 (dk_at dksX1_fetchNow_0 2 rfl rfl)
theorem dX1_fetchNow_5 : decode cX1_fetchNow 5 = .ok (.astore_n 2, 1) := dk_77 (dk_at dksX1_fetchNow_0 5 rfl rfl)
theorem dX1_fetchNow_6 : decode cX1_fetchNow 6 = .ok (.aload_n 2, 1) := dk_44 (dk_at dksX1_fetchNow_0 6 rfl rfl)
theorem dX1_fetchNow_7 : decode cX1_fetchNow 7 = .ok (.invokevirtual 280, 3) := dk_182 1 24 (dk_at dksX1_fetchNow_0 7 rfl rfl)
theorem dX1_fetchNow_10 : decode cX1_fetchNow 10 = .ok (.ifCond .eq 10, 3) := dk_153 0 10 (dk_at dksX1_fetchNow_0 10 rfl rfl)
theorem dX1_fetchNow_13 : decode cX1_fetchNow 13 = .ok (.aload_n 2, 1) := dk_44 (dk_at dksX1_fetchNow_0 13 rfl rfl)
theorem dX1_fetchNow_14 : decode cX1_fetchNow 14 = .ok (.getfield 290, 3) := dk_180 1 34 (dk_at dksX1_fetchNow_0 14 rfl rfl)
theorem dX1_fetchNow_17 : decode cX1_fetchNow 17 = .ok (.goto 4, 3) := dk_167 0 4 (dk_at dksX1_fetchNow_0 17 rfl rfl)
theorem dX1_fetchNow_20 : decode cX1_fetchNow 20 = .ok (.iconst (-1), 1) := dk_2 (dk_at dksX1_fetchNow_0 20 rfl rfl)
theorem dX1_fetchNow_21 : decode cX1_fetchNow 21 = .ok (.ireturn, 1) := dk_172 (dk_at dksX1_fetchNow_0 21 rfl rfl)
abbrev cX1_look : ByteArray := prog_1_method_52_code
def yX1_look : MethodName := ⟨RX1, "look", "(I)LBloomclock$Auction;"⟩
def dkwX1_look_2 : List UInt8 := [180, 0, 22, 183, 1, 21, 176]
abbrev dktX1_look_2 : List UInt8 := dkwX1_look_2 ++ []
def dkwX1_look_1 : List UInt8 := [180, 0, 12, 44, 180, 0, 219, 185, 0, 74, 2, 0, 192, 0, 78, 180, 0, 247, 4, 42, 180, 0, 25, 42]
abbrev dktX1_look_1 : List UInt8 := dkwX1_look_1 ++ dktX1_look_2
def dkwX1_look_0 : List UInt8 := [42, 180, 0, 19, 27, 185, 0, 74, 2, 0, 192, 0, 82, 77, 187, 1, 16, 89, 44, 44, 180, 0, 243, 42]
abbrev dktX1_look_0 : List UInt8 := dkwX1_look_0 ++ dktX1_look_1
theorem dksX1_look_0 : cX1_look.data.toList.drop 0 = dktX1_look_0 := by decide +kernel
theorem dksX1_look_1 : cX1_look.data.toList.drop 24 = dktX1_look_1 := dk_seg dksX1_look_0 24 rfl rfl
theorem dksX1_look_2 : cX1_look.data.toList.drop 48 = dktX1_look_2 := dk_seg dksX1_look_1 24 rfl rfl
theorem dX1_look_0 : decode cX1_look 0 = .ok (.aload_n 0, 1) := dk_42 (dk_at dksX1_look_0 0 rfl rfl)
theorem dX1_look_1 : decode cX1_look 1 = .ok (.getfield 19, 3) := dk_180 0 19 (dk_at dksX1_look_0 1 rfl rfl)
theorem dX1_look_4 : decode cX1_look 4 = .ok (.iload_n 1, 1) := dk_27 (dk_at dksX1_look_0 4 rfl rfl)
theorem dX1_look_5 : decode cX1_look 5 = .ok (.invokeinterface 74 2, 5) := by decide +kernel
theorem dX1_look_10 : decode cX1_look 10 = .ok (.checkcast 82, 3) := dk_192 0 82 (dk_at dksX1_look_0 10 rfl rfl)
theorem dX1_look_13 : decode cX1_look 13 = .ok (.astore_n 2, 1) := dk_77 (dk_at dksX1_look_0 13 rfl rfl)
theorem dX1_look_14 : decode cX1_look 14 = .ok (.new 272, 3) := dk_187 1 16 (dk_at dksX1_look_0 14 rfl rfl)
theorem dX1_look_17 : decode cX1_look 17 = .ok (.dup, 1) := dk_89 (dk_at dksX1_look_0 17 rfl rfl)
theorem dX1_look_18 : decode cX1_look 18 = .ok (.aload_n 2, 1) := dk_44 (dk_at dksX1_look_0 18 rfl rfl)
theorem dX1_look_19 : decode cX1_look 19 = .ok (.aload_n 2, 1) := dk_44 (dk_at dksX1_look_0 19 rfl rfl)
theorem dX1_look_20 : decode cX1_look 20 = .ok (.getfield 243, 3) := dk_180 0 243 (dk_at dksX1_look_0 20 rfl rfl)
theorem dX1_look_23 : decode cX1_look 23 = .ok (.aload_n 0, 1) := dk_42 (dk_at dksX1_look_0 23 rfl rfl)
theorem dX1_look_24 : decode cX1_look 24 = .ok (.getfield 12, 3) := dk_180 0 12 (dk_at dksX1_look_1 0 rfl rfl)
theorem dX1_look_27 : decode cX1_look 27 = .ok (.aload_n 2, 1) := dk_44 (dk_at dksX1_look_1 3 rfl rfl)
theorem dX1_look_28 : decode cX1_look 28 = .ok (.getfield 219, 3) := dk_180 0 219 (dk_at dksX1_look_1 4 rfl rfl)
theorem dX1_look_31 : decode cX1_look 31 = .ok (.invokeinterface 74 2, 5) := by decide +kernel
theorem dX1_look_36 : decode cX1_look 36 = .ok (.checkcast 78, 3) := dk_192 0 78 (dk_at dksX1_look_1 12 rfl rfl)
theorem dX1_look_39 : decode cX1_look 39 = .ok (.getfield 247, 3) := dk_180 0 247 (dk_at dksX1_look_1 15 rfl rfl)
theorem dX1_look_42 : decode cX1_look 42 = .ok (.iconst 1, 1) := dk_4 (dk_at dksX1_look_1 18 rfl rfl)
theorem dX1_look_43 : decode cX1_look 43 = .ok (.aload_n 0, 1) := dk_42 (dk_at dksX1_look_1 19 rfl rfl)
theorem dX1_look_44 : decode cX1_look 44 = .ok (.getfield 25, 3) := dk_180 0 25 (dk_at dksX1_look_1 20 rfl rfl)
theorem dX1_look_47 : decode cX1_look 47 = .ok (.aload_n 0, 1) := dk_42 (dk_at dksX1_look_1 23 rfl rfl)
theorem dX1_look_48 : decode cX1_look 48 = .ok (.getfield 22, 3) := dk_180 0 22 (dk_at dksX1_look_2 0 rfl rfl)
theorem dX1_look_51 : decode cX1_look 51 = .ok (.invokespecial 277, 3) := dk_183 1 21 (dk_at dksX1_look_2 3 rfl rfl)
theorem dX1_look_54 : decode cX1_look 54 = .ok (.areturn, 1) := dk_176 (dk_at dksX1_look_2 6 rfl rfl)
abbrev cX1_buckets : ByteArray := prog_1_method_1_code
def yX1_buckets : MethodName := ⟨RX1, "buckets", "(I)I"⟩
def dkwX1_buckets_0 : List UInt8 := [26, 16, 20, 96, 4, 100, 16, 20, 108, 172]
abbrev dktX1_buckets_0 : List UInt8 := dkwX1_buckets_0 ++ []
theorem dksX1_buckets_0 : cX1_buckets.data.toList.drop 0 = dktX1_buckets_0 := by decide +kernel
theorem dX1_buckets_0 : decode cX1_buckets 0 = .ok (.iload_n 0, 1) := dk_26 (dk_at dksX1_buckets_0 0 rfl rfl)
theorem dX1_buckets_1 : decode cX1_buckets 1 = .ok (.bipush 20, 2) := dk_16 20 (dk_at dksX1_buckets_0 1 rfl rfl)
theorem dX1_buckets_3 : decode cX1_buckets 3 = .ok (.iadd, 1) := dk_96 (dk_at dksX1_buckets_0 3 rfl rfl)
theorem dX1_buckets_4 : decode cX1_buckets 4 = .ok (.iconst 1, 1) := dk_4 (dk_at dksX1_buckets_0 4 rfl rfl)
theorem dX1_buckets_5 : decode cX1_buckets 5 = .ok (.isub, 1) := dk_100 (dk_at dksX1_buckets_0 5 rfl rfl)
theorem dX1_buckets_6 : decode cX1_buckets 6 = .ok (.bipush 20, 2) := dk_16 20 (dk_at dksX1_buckets_0 6 rfl rfl)
theorem dX1_buckets_8 : decode cX1_buckets 8 = .ok (.idiv, 1) := dk_108 (dk_at dksX1_buckets_0 8 rfl rfl)
theorem dX1_buckets_9 : decode cX1_buckets 9 = .ok (.ireturn, 1) := dk_172 (dk_at dksX1_buckets_0 9 rfl rfl)
abbrev cX1_bestNow : ByteArray := prog_1_method_55_code
def yX1_bestNow : MethodName := ⟨RX1, "bestNow", "(I)I"⟩
def dkwX1_bestNow_1 : List UInt8 := [62, 167, 255, 240, 29, 172]
abbrev dktX1_bestNow_1 : List UInt8 := dkwX1_bestNow_1 ++ []
def dkwX1_bestNow_0 : List UInt8 := [42, 27, 182, 1, 112, 77, 16, 99, 62, 44, 182, 1, 24, 153, 0, 15, 29, 44, 180, 1, 34, 184, 1, 18]
abbrev dktX1_bestNow_0 : List UInt8 := dkwX1_bestNow_0 ++ dktX1_bestNow_1
theorem dksX1_bestNow_0 : cX1_bestNow.data.toList.drop 0 = dktX1_bestNow_0 := by decide +kernel
theorem dksX1_bestNow_1 : cX1_bestNow.data.toList.drop 24 = dktX1_bestNow_1 := dk_seg dksX1_bestNow_0 24 rfl rfl
theorem dX1_bestNow_0 : decode cX1_bestNow 0 = .ok (.aload_n 0, 1) := dk_42 (dk_at dksX1_bestNow_0 0 rfl rfl)
theorem dX1_bestNow_1 : decode cX1_bestNow 1 = .ok (.iload_n 1, 1) := dk_27 (dk_at dksX1_bestNow_0 1 rfl rfl)
theorem dX1_bestNow_2 : decode cX1_bestNow 2 = .ok (.invokevirtual 368, 3) := dk_182 1 112 (dk_at dksX1_bestNow_0 2 rfl rfl)
theorem dX1_bestNow_5 : decode cX1_bestNow 5 = .ok (.astore_n 2, 1) := dk_77 (dk_at dksX1_bestNow_0 5 rfl rfl)
theorem dX1_bestNow_6 : decode cX1_bestNow 6 = .ok (.bipush 99, 2) := dk_16 99 (dk_at dksX1_bestNow_0 6 rfl rfl)
theorem dX1_bestNow_8 : decode cX1_bestNow 8 = .ok (.istore_n 3, 1) := dk_62 (dk_at dksX1_bestNow_0 8 rfl rfl)
theorem dX1_bestNow_9 : decode cX1_bestNow 9 = .ok (.aload_n 2, 1) := dk_44 (dk_at dksX1_bestNow_0 9 rfl rfl)
theorem dX1_bestNow_10 : decode cX1_bestNow 10 = .ok (.invokevirtual 280, 3) := dk_182 1 24 (dk_at dksX1_bestNow_0 10 rfl rfl)
theorem dX1_bestNow_13 : decode cX1_bestNow 13 = .ok (.ifCond .eq 15, 3) := dk_153 0 15 (dk_at dksX1_bestNow_0 13 rfl rfl)
theorem dX1_bestNow_16 : decode cX1_bestNow 16 = .ok (.iload_n 3, 1) := dk_29 (dk_at dksX1_bestNow_0 16 rfl rfl)
theorem dX1_bestNow_17 : decode cX1_bestNow 17 = .ok (.aload_n 2, 1) := dk_44 (dk_at dksX1_bestNow_0 17 rfl rfl)
theorem dX1_bestNow_18 : decode cX1_bestNow 18 = .ok (.getfield 290, 3) := dk_180 1 34 (dk_at dksX1_bestNow_0 18 rfl rfl)
theorem dX1_bestNow_21 : decode cX1_bestNow 21 = .ok (.invokestatic 274, 3) := dk_184 1 18 (dk_at dksX1_bestNow_0 21 rfl rfl)
theorem dX1_bestNow_24 : decode cX1_bestNow 24 = .ok (.istore_n 3, 1) := dk_62 (dk_at dksX1_bestNow_1 0 rfl rfl)
theorem dX1_bestNow_25 : decode cX1_bestNow 25 = .ok (.goto (-16), 3) := dk_167 255 240 (dk_at dksX1_bestNow_1 1 rfl rfl)
theorem dX1_bestNow_28 : decode cX1_bestNow 28 = .ok (.iload_n 3, 1) := dk_29 (dk_at dksX1_bestNow_1 4 rfl rfl)
theorem dX1_bestNow_29 : decode cX1_bestNow 29 = .ok (.ireturn, 1) := dk_172 (dk_at dksX1_bestNow_1 5 rfl rfl)
abbrev cX1_rowNow : ByteArray := prog_1_method_46_code
def yX1_rowNow : MethodName := ⟨RX1, "rowNow", "(I)I"⟩
def dkwX1_rowNow_0 : List UInt8 := [27, 42, 180, 0, 240, 162, 0, 12, 42, 180, 0, 34, 27, 46, 167, 0, 4, 2, 172]
abbrev dktX1_rowNow_0 : List UInt8 := dkwX1_rowNow_0 ++ []
theorem dksX1_rowNow_0 : cX1_rowNow.data.toList.drop 0 = dktX1_rowNow_0 := by decide +kernel
theorem dX1_rowNow_0 : decode cX1_rowNow 0 = .ok (.iload_n 1, 1) := dk_27 (dk_at dksX1_rowNow_0 0 rfl rfl)
theorem dX1_rowNow_1 : decode cX1_rowNow 1 = .ok (.aload_n 0, 1) := dk_42 (dk_at dksX1_rowNow_0 1 rfl rfl)
theorem dX1_rowNow_2 : decode cX1_rowNow 2 = .ok (.getfield 240, 3) := dk_180 0 240 (dk_at dksX1_rowNow_0 2 rfl rfl)
theorem dX1_rowNow_5 : decode cX1_rowNow 5 = .ok (.if_icmp .ge 12, 3) := dk_162 0 12 (dk_at dksX1_rowNow_0 5 rfl rfl)
theorem dX1_rowNow_8 : decode cX1_rowNow 8 = .ok (.aload_n 0, 1) := dk_42 (dk_at dksX1_rowNow_0 8 rfl rfl)
theorem dX1_rowNow_9 : decode cX1_rowNow 9 = .ok (.getfield 34, 3) := dk_180 0 34 (dk_at dksX1_rowNow_0 9 rfl rfl)
theorem dX1_rowNow_12 : decode cX1_rowNow 12 = .ok (.iload_n 1, 1) := dk_27 (dk_at dksX1_rowNow_0 12 rfl rfl)
theorem dX1_rowNow_13 : decode cX1_rowNow 13 = .ok (.iaload, 1) := dk_46 (dk_at dksX1_rowNow_0 13 rfl rfl)
theorem dX1_rowNow_14 : decode cX1_rowNow 14 = .ok (.goto 4, 3) := dk_167 0 4 (dk_at dksX1_rowNow_0 14 rfl rfl)
theorem dX1_rowNow_17 : decode cX1_rowNow 17 = .ok (.iconst (-1), 1) := dk_2 (dk_at dksX1_rowNow_0 17 rfl rfl)
theorem dX1_rowNow_18 : decode cX1_rowNow 18 = .ok (.ireturn, 1) := dk_172 (dk_at dksX1_rowNow_0 18 rfl rfl)
abbrev cX1_lampsNow : ByteArray := prog_1_method_59_code
def yX1_lampsNow : MethodName := ⟨RX1, "lampsNow", "(II)I"⟩
def dkwX1_lampsNow_1 : List UInt8 := [161, 0, 5, 29, 172, 132, 3, 1, 167, 255, 228, 2, 172]
abbrev dktX1_lampsNow_1 : List UInt8 := dkwX1_lampsNow_1 ++ []
def dkwX1_lampsNow_0 : List UInt8 := [3, 62, 29, 6, 163, 0, 29, 42, 180, 0, 41, 29, 96, 28, 104, 27, 184, 1, 123, 180, 1, 129]
abbrev dktX1_lampsNow_0 : List UInt8 := dkwX1_lampsNow_0 ++ dktX1_lampsNow_1
theorem dksX1_lampsNow_0 : cX1_lampsNow.data.toList.drop 0 = dktX1_lampsNow_0 := by decide +kernel
theorem dksX1_lampsNow_1 : cX1_lampsNow.data.toList.drop 22 = dktX1_lampsNow_1 := dk_seg dksX1_lampsNow_0 22 rfl rfl
theorem dX1_lampsNow_0 : decode cX1_lampsNow 0 = .ok (.iconst 0, 1) := dk_3 (dk_at dksX1_lampsNow_0 0 rfl rfl)
theorem dX1_lampsNow_1 : decode cX1_lampsNow 1 = .ok (.istore_n 3, 1) := dk_62 (dk_at dksX1_lampsNow_0 1 rfl rfl)
theorem dX1_lampsNow_2 : decode cX1_lampsNow 2 = .ok (.iload_n 3, 1) := dk_29 (dk_at dksX1_lampsNow_0 2 rfl rfl)
theorem dX1_lampsNow_3 : decode cX1_lampsNow 3 = .ok (.iconst 3, 1) := dk_6 (dk_at dksX1_lampsNow_0 3 rfl rfl)
theorem dX1_lampsNow_4 : decode cX1_lampsNow 4 = .ok (.if_icmp .gt 29, 3) := dk_163 0 29 (dk_at dksX1_lampsNow_0 4 rfl rfl)
theorem dX1_lampsNow_7 : decode cX1_lampsNow 7 = .ok (.aload_n 0, 1) := dk_42 (dk_at dksX1_lampsNow_0 7 rfl rfl)
theorem dX1_lampsNow_8 : decode cX1_lampsNow 8 = .ok (.getfield 41, 3) := dk_180 0 41 (dk_at dksX1_lampsNow_0 8 rfl rfl)
theorem dX1_lampsNow_11 : decode cX1_lampsNow 11 = .ok (.iload_n 3, 1) := dk_29 (dk_at dksX1_lampsNow_0 11 rfl rfl)
theorem dX1_lampsNow_12 : decode cX1_lampsNow 12 = .ok (.iadd, 1) := dk_96 (dk_at dksX1_lampsNow_0 12 rfl rfl)
theorem dX1_lampsNow_13 : decode cX1_lampsNow 13 = .ok (.iload_n 2, 1) := dk_28 (dk_at dksX1_lampsNow_0 13 rfl rfl)
theorem dX1_lampsNow_14 : decode cX1_lampsNow 14 = .ok (.imul, 1) := dk_104 (dk_at dksX1_lampsNow_0 14 rfl rfl)
theorem dX1_lampsNow_15 : decode cX1_lampsNow 15 = .ok (.iload_n 1, 1) := dk_27 (dk_at dksX1_lampsNow_0 15 rfl rfl)
theorem dX1_lampsNow_16 : decode cX1_lampsNow 16 = .ok (.invokestatic 379, 3) := dk_184 1 123 (dk_at dksX1_lampsNow_0 16 rfl rfl)
theorem dX1_lampsNow_19 : decode cX1_lampsNow 19 = .ok (.getfield 385, 3) := dk_180 1 129 (dk_at dksX1_lampsNow_0 19 rfl rfl)
theorem dX1_lampsNow_22 : decode cX1_lampsNow 22 = .ok (.if_icmp .lt 5, 3) := dk_161 0 5 (dk_at dksX1_lampsNow_1 0 rfl rfl)
theorem dX1_lampsNow_25 : decode cX1_lampsNow 25 = .ok (.iload_n 3, 1) := dk_29 (dk_at dksX1_lampsNow_1 3 rfl rfl)
theorem dX1_lampsNow_26 : decode cX1_lampsNow 26 = .ok (.ireturn, 1) := dk_172 (dk_at dksX1_lampsNow_1 4 rfl rfl)
theorem dX1_lampsNow_27 : decode cX1_lampsNow 27 = .ok (.iinc 3 1, 3) := dk_132 3 1 (dk_at dksX1_lampsNow_1 5 rfl rfl)
theorem dX1_lampsNow_30 : decode cX1_lampsNow 30 = .ok (.goto (-28), 3) := dk_167 255 228 (dk_at dksX1_lampsNow_1 8 rfl rfl)
theorem dX1_lampsNow_33 : decode cX1_lampsNow 33 = .ok (.iconst (-1), 1) := dk_2 (dk_at dksX1_lampsNow_1 11 rfl rfl)
theorem dX1_lampsNow_34 : decode cX1_lampsNow 34 = .ok (.ireturn, 1) := dk_172 (dk_at dksX1_lampsNow_1 12 rfl rfl)
abbrev cX1_grower : ByteArray := prog_1_method_12_code
def yX1_grower : MethodName := ⟨RX1, "grower", "()I"⟩
def dkwX1_grower_2 : List UInt8 := [185, 0, 64, 1, 0, 4, 100, 172]
abbrev dktX1_grower_2 : List UInt8 := dkwX1_grower_2 ++ []
def dkwX1_grower_1 : List UInt8 := [180, 0, 12, 187, 0, 78, 89, 183, 0, 92, 185, 0, 93, 2, 0, 87, 42, 180, 0, 12]
abbrev dktX1_grower_1 : List UInt8 := dkwX1_grower_1 ++ dktX1_grower_2
def dkwX1_grower_0 : List UInt8 := [42, 180, 0, 12, 185, 0, 64, 1, 0, 7, 162, 0, 7, 4, 167, 0, 4, 3, 184, 0, 89, 42]
abbrev dktX1_grower_0 : List UInt8 := dkwX1_grower_0 ++ dktX1_grower_1
theorem dksX1_grower_0 : cX1_grower.data.toList.drop 0 = dktX1_grower_0 := by decide +kernel
theorem dksX1_grower_1 : cX1_grower.data.toList.drop 22 = dktX1_grower_1 := dk_seg dksX1_grower_0 22 rfl rfl
theorem dksX1_grower_2 : cX1_grower.data.toList.drop 42 = dktX1_grower_2 := dk_seg dksX1_grower_1 20 rfl rfl
theorem dX1_grower_0 : decode cX1_grower 0 = .ok (.aload_n 0, 1) := dk_42 (dk_at dksX1_grower_0 0 rfl rfl)
theorem dX1_grower_1 : decode cX1_grower 1 = .ok (.getfield 12, 3) := dk_180 0 12 (dk_at dksX1_grower_0 1 rfl rfl)
theorem dX1_grower_4 : decode cX1_grower 4 = .ok (.invokeinterface 64 1, 5) := by decide +kernel
theorem dX1_grower_9 : decode cX1_grower 9 = .ok (.iconst 4, 1) := dk_7 (dk_at dksX1_grower_0 9 rfl rfl)
theorem dX1_grower_10 : decode cX1_grower 10 = .ok (.if_icmp .ge 7, 3) := dk_162 0 7 (dk_at dksX1_grower_0 10 rfl rfl)
theorem dX1_grower_13 : decode cX1_grower 13 = .ok (.iconst 1, 1) := dk_4 (dk_at dksX1_grower_0 13 rfl rfl)
theorem dX1_grower_14 : decode cX1_grower 14 = .ok (.goto 4, 3) := dk_167 0 4 (dk_at dksX1_grower_0 14 rfl rfl)
theorem dX1_grower_17 : decode cX1_grower 17 = .ok (.iconst 0, 1) := dk_3 (dk_at dksX1_grower_0 17 rfl rfl)
theorem dX1_grower_18 : decode cX1_grower 18 = .ok (.invokestatic 89, 3) := dk_184 0 89 (dk_at dksX1_grower_0 18 rfl rfl)
theorem dX1_grower_21 : decode cX1_grower 21 = .ok (.aload_n 0, 1) := dk_42 (dk_at dksX1_grower_0 21 rfl rfl)
theorem dX1_grower_22 : decode cX1_grower 22 = .ok (.getfield 12, 3) := dk_180 0 12 (dk_at dksX1_grower_1 0 rfl rfl)
theorem dX1_grower_25 : decode cX1_grower 25 = .ok (.new 78, 3) := dk_187 0 78 (dk_at dksX1_grower_1 3 rfl rfl)
theorem dX1_grower_28 : decode cX1_grower 28 = .ok (.dup, 1) := dk_89 (dk_at dksX1_grower_1 6 rfl rfl)
theorem dX1_grower_29 : decode cX1_grower 29 = .ok (.invokespecial 92, 3) := dk_183 0 92 (dk_at dksX1_grower_1 7 rfl rfl)
theorem dX1_grower_32 : decode cX1_grower 32 = .ok (.invokeinterface 93 2, 5) := by decide +kernel
theorem dX1_grower_37 : decode cX1_grower 37 = .ok (.pop, 1) := dk_87 (dk_at dksX1_grower_1 15 rfl rfl)
theorem dX1_grower_38 : decode cX1_grower 38 = .ok (.aload_n 0, 1) := dk_42 (dk_at dksX1_grower_1 16 rfl rfl)
theorem dX1_grower_39 : decode cX1_grower 39 = .ok (.getfield 12, 3) := dk_180 0 12 (dk_at dksX1_grower_1 17 rfl rfl)
theorem dX1_grower_42 : decode cX1_grower 42 = .ok (.invokeinterface 64 1, 5) := by decide +kernel
theorem dX1_grower_47 : decode cX1_grower 47 = .ok (.iconst 1, 1) := dk_4 (dk_at dksX1_grower_2 5 rfl rfl)
theorem dX1_grower_48 : decode cX1_grower 48 = .ok (.isub, 1) := dk_100 (dk_at dksX1_grower_2 6 rfl rfl)
theorem dX1_grower_49 : decode cX1_grower 49 = .ok (.ireturn, 1) := dk_172 (dk_at dksX1_grower_2 7 rfl rfl)
abbrev cX1_checkState : ByteArray := prog_1_method_5_code
def yX1_checkState : MethodName := ⟨RX1, "checkState", "(Z)V"⟩
def dkwX1_checkState_0 : List UInt8 := [26, 154, 0, 11, 187, 0, 58, 89, 183, 0, 60, 191, 177]
abbrev dktX1_checkState_0 : List UInt8 := dkwX1_checkState_0 ++ []
theorem dksX1_checkState_0 : cX1_checkState.data.toList.drop 0 = dktX1_checkState_0 := by decide +kernel
theorem dX1_checkState_0 : decode cX1_checkState 0 = .ok (.iload_n 0, 1) := dk_26 (dk_at dksX1_checkState_0 0 rfl rfl)
theorem dX1_checkState_1 : decode cX1_checkState 1 = .ok (.ifCond .ne 11, 3) := dk_154 0 11 (dk_at dksX1_checkState_0 1 rfl rfl)
theorem dX1_checkState_4 : decode cX1_checkState 4 = .ok (.new 58, 3) := dk_187 0 58 (dk_at dksX1_checkState_0 4 rfl rfl)
theorem dX1_checkState_7 : decode cX1_checkState 7 = .ok (.dup, 1) := dk_89 (dk_at dksX1_checkState_0 7 rfl rfl)
theorem dX1_checkState_8 : decode cX1_checkState 8 = .ok (.invokespecial 60, 3) := dk_183 0 60 (dk_at dksX1_checkState_0 8 rfl rfl)
theorem dX1_checkState_11 : decode cX1_checkState 11 = .ok (.athrow, 1) := dk_191 (dk_at dksX1_checkState_0 11 rfl rfl)
theorem dX1_checkState_12 : decode cX1_checkState 12 = .ok (.return_, 1) := dk_177 (dk_at dksX1_checkState_0 12 rfl rfl)
abbrev cX1_lamps : ByteArray := prog_1_method_13_code
def yX1_lamps : MethodName := ⟨RX1, "lamps", "(II)I"⟩
def dkwX1_lamps_1 : List UInt8 := [21, 4, 172]
abbrev dktX1_lamps_1 : List UInt8 := dkwX1_lamps_1 ++ []
def dkwX1_lamps_0 : List UInt8 := [42, 27, 182, 0, 97, 78, 28, 3, 6, 184, 0, 101, 45, 180, 0, 105, 54, 4, 45, 28, 181, 0, 105]
abbrev dktX1_lamps_0 : List UInt8 := dkwX1_lamps_0 ++ dktX1_lamps_1
theorem dksX1_lamps_0 : cX1_lamps.data.toList.drop 0 = dktX1_lamps_0 := by decide +kernel
theorem dksX1_lamps_1 : cX1_lamps.data.toList.drop 23 = dktX1_lamps_1 := dk_seg dksX1_lamps_0 23 rfl rfl
theorem dX1_lamps_0 : decode cX1_lamps 0 = .ok (.aload_n 0, 1) := dk_42 (dk_at dksX1_lamps_0 0 rfl rfl)
theorem dX1_lamps_1 : decode cX1_lamps 1 = .ok (.iload_n 1, 1) := dk_27 (dk_at dksX1_lamps_0 1 rfl rfl)
theorem dX1_lamps_2 : decode cX1_lamps 2 = .ok (.invokevirtual 97, 3) := dk_182 0 97 (dk_at dksX1_lamps_0 2 rfl rfl)
theorem dX1_lamps_5 : decode cX1_lamps 5 = .ok (.astore_n 3, 1) := dk_78 (dk_at dksX1_lamps_0 5 rfl rfl)
theorem dX1_lamps_6 : decode cX1_lamps 6 = .ok (.iload_n 2, 1) := dk_28 (dk_at dksX1_lamps_0 6 rfl rfl)
theorem dX1_lamps_7 : decode cX1_lamps 7 = .ok (.iconst 0, 1) := dk_3 (dk_at dksX1_lamps_0 7 rfl rfl)
theorem dX1_lamps_8 : decode cX1_lamps 8 = .ok (.iconst 3, 1) := dk_6 (dk_at dksX1_lamps_0 8 rfl rfl)
theorem dX1_lamps_9 : decode cX1_lamps 9 = .ok (.invokestatic 101, 3) := dk_184 0 101 (dk_at dksX1_lamps_0 9 rfl rfl)
theorem dX1_lamps_12 : decode cX1_lamps 12 = .ok (.aload_n 3, 1) := dk_45 (dk_at dksX1_lamps_0 12 rfl rfl)
theorem dX1_lamps_13 : decode cX1_lamps 13 = .ok (.getfield 105, 3) := dk_180 0 105 (dk_at dksX1_lamps_0 13 rfl rfl)
theorem dX1_lamps_16 : decode cX1_lamps 16 = .ok (.istore 4, 2) := dk_54 4 (dk_at dksX1_lamps_0 16 rfl rfl)
theorem dX1_lamps_18 : decode cX1_lamps 18 = .ok (.aload_n 3, 1) := dk_45 (dk_at dksX1_lamps_0 18 rfl rfl)
theorem dX1_lamps_19 : decode cX1_lamps 19 = .ok (.iload_n 2, 1) := dk_28 (dk_at dksX1_lamps_0 19 rfl rfl)
theorem dX1_lamps_20 : decode cX1_lamps 20 = .ok (.putfield 105, 3) := dk_181 0 105 (dk_at dksX1_lamps_0 20 rfl rfl)
theorem dX1_lamps_23 : decode cX1_lamps 23 = .ok (.iload 4, 2) := dk_21 4 (dk_at dksX1_lamps_1 0 rfl rfl)
theorem dX1_lamps_25 : decode cX1_lamps 25 = .ok (.ireturn, 1) := dk_172 (dk_at dksX1_lamps_1 2 rfl rfl)
abbrev cX1_growerAt : ByteArray := prog_1_method_7_code
def yX1_growerAt : MethodName := ⟨RX1, "growerAt", "(I)LBloomclock$Grower;"⟩
def dkwX1_growerAt_1 : List UInt8 := [192, 0, 78, 176]
abbrev dktX1_growerAt_1 : List UInt8 := dkwX1_growerAt_1 ++ []
def dkwX1_growerAt_0 : List UInt8 := [27, 42, 180, 0, 12, 185, 0, 64, 1, 0, 184, 0, 70, 42, 180, 0, 12, 27, 185, 0, 74, 2, 0]
abbrev dktX1_growerAt_0 : List UInt8 := dkwX1_growerAt_0 ++ dktX1_growerAt_1
theorem dksX1_growerAt_0 : cX1_growerAt.data.toList.drop 0 = dktX1_growerAt_0 := by decide +kernel
theorem dksX1_growerAt_1 : cX1_growerAt.data.toList.drop 23 = dktX1_growerAt_1 := dk_seg dksX1_growerAt_0 23 rfl rfl
theorem dX1_growerAt_0 : decode cX1_growerAt 0 = .ok (.iload_n 1, 1) := dk_27 (dk_at dksX1_growerAt_0 0 rfl rfl)
theorem dX1_growerAt_1 : decode cX1_growerAt 1 = .ok (.aload_n 0, 1) := dk_42 (dk_at dksX1_growerAt_0 1 rfl rfl)
theorem dX1_growerAt_2 : decode cX1_growerAt 2 = .ok (.getfield 12, 3) := dk_180 0 12 (dk_at dksX1_growerAt_0 2 rfl rfl)
theorem dX1_growerAt_5 : decode cX1_growerAt 5 = .ok (.invokeinterface 64 1, 5) := by decide +kernel
theorem dX1_growerAt_10 : decode cX1_growerAt 10 = .ok (.invokestatic 70, 3) := dk_184 0 70 (dk_at dksX1_growerAt_0 10 rfl rfl)
theorem dX1_growerAt_13 : decode cX1_growerAt 13 = .ok (.aload_n 0, 1) := dk_42 (dk_at dksX1_growerAt_0 13 rfl rfl)
theorem dX1_growerAt_14 : decode cX1_growerAt 14 = .ok (.getfield 12, 3) := dk_180 0 12 (dk_at dksX1_growerAt_0 14 rfl rfl)
theorem dX1_growerAt_17 : decode cX1_growerAt 17 = .ok (.iload_n 1, 1) := dk_27 (dk_at dksX1_growerAt_0 17 rfl rfl)
theorem dX1_growerAt_18 : decode cX1_growerAt 18 = .ok (.invokeinterface 74 2, 5) := by decide +kernel
theorem dX1_growerAt_23 : decode cX1_growerAt 23 = .ok (.checkcast 78, 3) := dk_192 0 78 (dk_at dksX1_growerAt_1 0 rfl rfl)
theorem dX1_growerAt_26 : decode cX1_growerAt 26 = .ok (.areturn, 1) := dk_176 (dk_at dksX1_growerAt_1 3 rfl rfl)
abbrev cX1_checkPlace : ByteArray := prog_1_method_6_code
def yX1_checkPlace : MethodName := ⟨RX1, "checkPlace", "(II)V"⟩
def dkwX1_checkPlace_0 : List UInt8 := [26, 155, 0, 8, 26, 27, 161, 0, 11, 187, 0, 61, 89, 183, 0, 63, 191, 177]
abbrev dktX1_checkPlace_0 : List UInt8 := dkwX1_checkPlace_0 ++ []
theorem dksX1_checkPlace_0 : cX1_checkPlace.data.toList.drop 0 = dktX1_checkPlace_0 := by decide +kernel
theorem dX1_checkPlace_0 : decode cX1_checkPlace 0 = .ok (.iload_n 0, 1) := dk_26 (dk_at dksX1_checkPlace_0 0 rfl rfl)
theorem dX1_checkPlace_1 : decode cX1_checkPlace 1 = .ok (.ifCond .lt 8, 3) := dk_155 0 8 (dk_at dksX1_checkPlace_0 1 rfl rfl)
theorem dX1_checkPlace_4 : decode cX1_checkPlace 4 = .ok (.iload_n 0, 1) := dk_26 (dk_at dksX1_checkPlace_0 4 rfl rfl)
theorem dX1_checkPlace_5 : decode cX1_checkPlace 5 = .ok (.iload_n 1, 1) := dk_27 (dk_at dksX1_checkPlace_0 5 rfl rfl)
theorem dX1_checkPlace_6 : decode cX1_checkPlace 6 = .ok (.if_icmp .lt 11, 3) := dk_161 0 11 (dk_at dksX1_checkPlace_0 6 rfl rfl)
theorem dX1_checkPlace_9 : decode cX1_checkPlace 9 = .ok (.new 61, 3) := dk_187 0 61 (dk_at dksX1_checkPlace_0 9 rfl rfl)
theorem dX1_checkPlace_12 : decode cX1_checkPlace 12 = .ok (.dup, 1) := dk_89 (dk_at dksX1_checkPlace_0 12 rfl rfl)
theorem dX1_checkPlace_13 : decode cX1_checkPlace 13 = .ok (.invokespecial 63, 3) := dk_183 0 63 (dk_at dksX1_checkPlace_0 13 rfl rfl)
theorem dX1_checkPlace_16 : decode cX1_checkPlace 16 = .ok (.athrow, 1) := dk_191 (dk_at dksX1_checkPlace_0 16 rfl rfl)
theorem dX1_checkPlace_17 : decode cX1_checkPlace 17 = .ok (.return_, 1) := dk_177 (dk_at dksX1_checkPlace_0 17 rfl rfl)
abbrev cX1_mustBeIn : ByteArray := prog_1_method_4_code
def yX1_mustBeIn : MethodName := ⟨RX1, "mustBeIn", "(III)V"⟩
def dkwX1_mustBeIn_0 : List UInt8 := [26, 27, 161, 0, 12, 26, 28, 163, 0, 7, 4, 167, 0, 4, 3, 184, 0, 54, 177]
abbrev dktX1_mustBeIn_0 : List UInt8 := dkwX1_mustBeIn_0 ++ []
theorem dksX1_mustBeIn_0 : cX1_mustBeIn.data.toList.drop 0 = dktX1_mustBeIn_0 := by decide +kernel
theorem dX1_mustBeIn_0 : decode cX1_mustBeIn 0 = .ok (.iload_n 0, 1) := dk_26 (dk_at dksX1_mustBeIn_0 0 rfl rfl)
theorem dX1_mustBeIn_1 : decode cX1_mustBeIn 1 = .ok (.iload_n 1, 1) := dk_27 (dk_at dksX1_mustBeIn_0 1 rfl rfl)
theorem dX1_mustBeIn_2 : decode cX1_mustBeIn 2 = .ok (.if_icmp .lt 12, 3) := dk_161 0 12 (dk_at dksX1_mustBeIn_0 2 rfl rfl)
theorem dX1_mustBeIn_5 : decode cX1_mustBeIn 5 = .ok (.iload_n 0, 1) := dk_26 (dk_at dksX1_mustBeIn_0 5 rfl rfl)
theorem dX1_mustBeIn_6 : decode cX1_mustBeIn 6 = .ok (.iload_n 2, 1) := dk_28 (dk_at dksX1_mustBeIn_0 6 rfl rfl)
theorem dX1_mustBeIn_7 : decode cX1_mustBeIn 7 = .ok (.if_icmp .gt 7, 3) := dk_163 0 7 (dk_at dksX1_mustBeIn_0 7 rfl rfl)
theorem dX1_mustBeIn_10 : decode cX1_mustBeIn 10 = .ok (.iconst 1, 1) := dk_4 (dk_at dksX1_mustBeIn_0 10 rfl rfl)
theorem dX1_mustBeIn_11 : decode cX1_mustBeIn 11 = .ok (.goto 4, 3) := dk_167 0 4 (dk_at dksX1_mustBeIn_0 11 rfl rfl)
theorem dX1_mustBeIn_14 : decode cX1_mustBeIn 14 = .ok (.iconst 0, 1) := dk_3 (dk_at dksX1_mustBeIn_0 14 rfl rfl)
theorem dX1_mustBeIn_15 : decode cX1_mustBeIn 15 = .ok (.invokestatic 54, 3) := dk_184 0 54 (dk_at dksX1_mustBeIn_0 15 rfl rfl)
theorem dX1_mustBeIn_18 : decode cX1_mustBeIn 18 = .ok (.return_, 1) := dk_177 (dk_at dksX1_mustBeIn_0 18 rfl rfl)
abbrev cX1_must : ByteArray := prog_1_method_3_code
def yX1_must : MethodName := ⟨RX1, "must", "(Z)V"⟩
def dkwX1_must_0 : List UInt8 := [26, 154, 0, 11, 187, 0, 51, 89, 183, 0, 53, 191, 177]
abbrev dktX1_must_0 : List UInt8 := dkwX1_must_0 ++ []
theorem dksX1_must_0 : cX1_must.data.toList.drop 0 = dktX1_must_0 := by decide +kernel
theorem dX1_must_0 : decode cX1_must 0 = .ok (.iload_n 0, 1) := dk_26 (dk_at dksX1_must_0 0 rfl rfl)
theorem dX1_must_1 : decode cX1_must 1 = .ok (.ifCond .ne 11, 3) := dk_154 0 11 (dk_at dksX1_must_0 1 rfl rfl)
theorem dX1_must_4 : decode cX1_must 4 = .ok (.new 51, 3) := dk_187 0 51 (dk_at dksX1_must_0 4 rfl rfl)
theorem dX1_must_7 : decode cX1_must 7 = .ok (.dup, 1) := dk_89 (dk_at dksX1_must_0 7 rfl rfl)
theorem dX1_must_8 : decode cX1_must 8 = .ok (.invokespecial 53, 3) := dk_183 0 53 (dk_at dksX1_must_0 8 rfl rfl)
theorem dX1_must_11 : decode cX1_must 11 = .ok (.athrow, 1) := dk_191 (dk_at dksX1_must_0 11 rfl rfl)
theorem dX1_must_12 : decode cX1_must 12 = .ok (.return_, 1) := dk_177 (dk_at dksX1_must_0 12 rfl rfl)
abbrev cX1_plant : ByteArray := prog_1_method_14_code
def yX1_plant : MethodName := ⟨RX1, "plant", "(III)I"⟩
def dkwX1_plant_3 : List UInt8 := [185, 0, 64, 1, 0, 4, 100, 172]
abbrev dktX1_plant_3 : List UInt8 := dkwX1_plant_3 ++ []
def dkwX1_plant_2 : List UInt8 := [187, 0, 80, 89, 27, 28, 29, 183, 0, 108, 185, 0, 93, 2, 0, 87, 42, 180, 0, 16]
abbrev dktX1_plant_2 : List UInt8 := dkwX1_plant_2 ++ dktX1_plant_3
def dkwX1_plant_1 : List UInt8 := [185, 0, 64, 1, 0, 16, 8, 162, 0, 7, 4, 167, 0, 4, 3, 184, 0, 89, 42, 180, 0, 16]
abbrev dktX1_plant_1 : List UInt8 := dkwX1_plant_1 ++ dktX1_plant_2
def dkwX1_plant_0 : List UInt8 := [42, 27, 182, 0, 97, 87, 28, 3, 5, 184, 0, 101, 29, 4, 17, 0, 200, 184, 0, 101, 42, 180, 0, 16]
abbrev dktX1_plant_0 : List UInt8 := dkwX1_plant_0 ++ dktX1_plant_1
theorem dksX1_plant_0 : cX1_plant.data.toList.drop 0 = dktX1_plant_0 := by decide +kernel
theorem dksX1_plant_1 : cX1_plant.data.toList.drop 24 = dktX1_plant_1 := dk_seg dksX1_plant_0 24 rfl rfl
theorem dksX1_plant_2 : cX1_plant.data.toList.drop 46 = dktX1_plant_2 := dk_seg dksX1_plant_1 22 rfl rfl
theorem dksX1_plant_3 : cX1_plant.data.toList.drop 66 = dktX1_plant_3 := dk_seg dksX1_plant_2 20 rfl rfl
theorem dX1_plant_0 : decode cX1_plant 0 = .ok (.aload_n 0, 1) := dk_42 (dk_at dksX1_plant_0 0 rfl rfl)
theorem dX1_plant_1 : decode cX1_plant 1 = .ok (.iload_n 1, 1) := dk_27 (dk_at dksX1_plant_0 1 rfl rfl)
theorem dX1_plant_2 : decode cX1_plant 2 = .ok (.invokevirtual 97, 3) := dk_182 0 97 (dk_at dksX1_plant_0 2 rfl rfl)
theorem dX1_plant_5 : decode cX1_plant 5 = .ok (.pop, 1) := dk_87 (dk_at dksX1_plant_0 5 rfl rfl)
theorem dX1_plant_6 : decode cX1_plant 6 = .ok (.iload_n 2, 1) := dk_28 (dk_at dksX1_plant_0 6 rfl rfl)
theorem dX1_plant_7 : decode cX1_plant 7 = .ok (.iconst 0, 1) := dk_3 (dk_at dksX1_plant_0 7 rfl rfl)
theorem dX1_plant_8 : decode cX1_plant 8 = .ok (.iconst 2, 1) := dk_5 (dk_at dksX1_plant_0 8 rfl rfl)
theorem dX1_plant_9 : decode cX1_plant 9 = .ok (.invokestatic 101, 3) := dk_184 0 101 (dk_at dksX1_plant_0 9 rfl rfl)
theorem dX1_plant_12 : decode cX1_plant 12 = .ok (.iload_n 3, 1) := dk_29 (dk_at dksX1_plant_0 12 rfl rfl)
theorem dX1_plant_13 : decode cX1_plant 13 = .ok (.iconst 1, 1) := dk_4 (dk_at dksX1_plant_0 13 rfl rfl)
theorem dX1_plant_14 : decode cX1_plant 14 = .ok (.sipush 200, 3) := dk_17 0 200 (dk_at dksX1_plant_0 14 rfl rfl)
theorem dX1_plant_17 : decode cX1_plant 17 = .ok (.invokestatic 101, 3) := dk_184 0 101 (dk_at dksX1_plant_0 17 rfl rfl)
theorem dX1_plant_20 : decode cX1_plant 20 = .ok (.aload_n 0, 1) := dk_42 (dk_at dksX1_plant_0 20 rfl rfl)
theorem dX1_plant_21 : decode cX1_plant 21 = .ok (.getfield 16, 3) := dk_180 0 16 (dk_at dksX1_plant_0 21 rfl rfl)
theorem dX1_plant_24 : decode cX1_plant 24 = .ok (.invokeinterface 64 1, 5) := by decide +kernel
theorem dX1_plant_29 : decode cX1_plant 29 = .ok (.bipush 8, 2) := dk_16 8 (dk_at dksX1_plant_1 5 rfl rfl)
theorem dX1_plant_31 : decode cX1_plant 31 = .ok (.if_icmp .ge 7, 3) := dk_162 0 7 (dk_at dksX1_plant_1 7 rfl rfl)
theorem dX1_plant_34 : decode cX1_plant 34 = .ok (.iconst 1, 1) := dk_4 (dk_at dksX1_plant_1 10 rfl rfl)
theorem dX1_plant_35 : decode cX1_plant 35 = .ok (.goto 4, 3) := dk_167 0 4 (dk_at dksX1_plant_1 11 rfl rfl)
theorem dX1_plant_38 : decode cX1_plant 38 = .ok (.iconst 0, 1) := dk_3 (dk_at dksX1_plant_1 14 rfl rfl)
theorem dX1_plant_39 : decode cX1_plant 39 = .ok (.invokestatic 89, 3) := dk_184 0 89 (dk_at dksX1_plant_1 15 rfl rfl)
theorem dX1_plant_42 : decode cX1_plant 42 = .ok (.aload_n 0, 1) := dk_42 (dk_at dksX1_plant_1 18 rfl rfl)
theorem dX1_plant_43 : decode cX1_plant 43 = .ok (.getfield 16, 3) := dk_180 0 16 (dk_at dksX1_plant_1 19 rfl rfl)
theorem dX1_plant_46 : decode cX1_plant 46 = .ok (.new 80, 3) := dk_187 0 80 (dk_at dksX1_plant_2 0 rfl rfl)
theorem dX1_plant_49 : decode cX1_plant 49 = .ok (.dup, 1) := dk_89 (dk_at dksX1_plant_2 3 rfl rfl)
theorem dX1_plant_50 : decode cX1_plant 50 = .ok (.iload_n 1, 1) := dk_27 (dk_at dksX1_plant_2 4 rfl rfl)
theorem dX1_plant_51 : decode cX1_plant 51 = .ok (.iload_n 2, 1) := dk_28 (dk_at dksX1_plant_2 5 rfl rfl)
theorem dX1_plant_52 : decode cX1_plant 52 = .ok (.iload_n 3, 1) := dk_29 (dk_at dksX1_plant_2 6 rfl rfl)
theorem dX1_plant_53 : decode cX1_plant 53 = .ok (.invokespecial 108, 3) := dk_183 0 108 (dk_at dksX1_plant_2 7 rfl rfl)
theorem dX1_plant_56 : decode cX1_plant 56 = .ok (.invokeinterface 93 2, 5) := by decide +kernel
theorem dX1_plant_61 : decode cX1_plant 61 = .ok (.pop, 1) := dk_87 (dk_at dksX1_plant_2 15 rfl rfl)
theorem dX1_plant_62 : decode cX1_plant 62 = .ok (.aload_n 0, 1) := dk_42 (dk_at dksX1_plant_2 16 rfl rfl)
theorem dX1_plant_63 : decode cX1_plant 63 = .ok (.getfield 16, 3) := dk_180 0 16 (dk_at dksX1_plant_2 17 rfl rfl)
theorem dX1_plant_66 : decode cX1_plant 66 = .ok (.invokeinterface 64 1, 5) := by decide +kernel
theorem dX1_plant_71 : decode cX1_plant 71 = .ok (.iconst 1, 1) := dk_4 (dk_at dksX1_plant_3 5 rfl rfl)
theorem dX1_plant_72 : decode cX1_plant 72 = .ok (.isub, 1) := dk_100 (dk_at dksX1_plant_3 6 rfl rfl)
theorem dX1_plant_73 : decode cX1_plant 73 = .ok (.ireturn, 1) := dk_172 (dk_at dksX1_plant_3 7 rfl rfl)
abbrev cX1_cut : ByteArray := prog_1_method_15_code
def yX1_cut : MethodName := ⟨RX1, "cut", "(II)I"⟩
def dkwX1_cut_5 : List UInt8 := [185, 0, 64, 1, 0, 4, 100, 172]
abbrev dktX1_cut_5 : List UInt8 := dkwX1_cut_5 ++ []
def dkwX1_cut_4 : List UInt8 := [180, 0, 19, 187, 0, 82, 89, 45, 28, 183, 0, 125, 185, 0, 93, 2, 0, 87, 42, 180, 0, 19]
abbrev dktX1_cut_4 : List UInt8 := dkwX1_cut_4 ++ dktX1_cut_5
def dkwX1_cut_3 : List UInt8 := [180, 0, 118, 28, 100, 181, 0, 118, 42, 89, 180, 0, 45, 28, 184, 0, 121, 100, 181, 0, 45, 42]
abbrev dktX1_cut_3 : List UInt8 := dkwX1_cut_3 ++ dktX1_cut_4
def dkwX1_cut_2 : List UInt8 := [162, 0, 18, 28, 184, 0, 121, 42, 180, 0, 45, 163, 0, 7, 4, 167, 0, 4, 3, 184, 0, 89, 45, 89]
abbrev dktX1_cut_2 : List UInt8 := dkwX1_cut_2 ++ dktX1_cut_3
def dkwX1_cut_1 : List UInt8 := [153, 0, 40, 28, 45, 180, 0, 118, 163, 0, 32, 42, 180, 0, 19, 185, 0, 64, 1, 0, 16, 16]
abbrev dktX1_cut_1 : List UInt8 := dkwX1_cut_1 ++ dktX1_cut_2
def dkwX1_cut_0 : List UInt8 := [42, 27, 182, 0, 110, 78, 28, 4, 161, 0, 7, 4, 167, 0, 4, 3, 184, 0, 54, 45, 180, 0, 114]
abbrev dktX1_cut_0 : List UInt8 := dkwX1_cut_0 ++ dktX1_cut_1
theorem dksX1_cut_0 : cX1_cut.data.toList.drop 0 = dktX1_cut_0 := by decide +kernel
theorem dksX1_cut_1 : cX1_cut.data.toList.drop 23 = dktX1_cut_1 := dk_seg dksX1_cut_0 23 rfl rfl
theorem dksX1_cut_2 : cX1_cut.data.toList.drop 45 = dktX1_cut_2 := dk_seg dksX1_cut_1 22 rfl rfl
theorem dksX1_cut_3 : cX1_cut.data.toList.drop 69 = dktX1_cut_3 := dk_seg dksX1_cut_2 24 rfl rfl
theorem dksX1_cut_4 : cX1_cut.data.toList.drop 91 = dktX1_cut_4 := dk_seg dksX1_cut_3 22 rfl rfl
theorem dksX1_cut_5 : cX1_cut.data.toList.drop 113 = dktX1_cut_5 := dk_seg dksX1_cut_4 22 rfl rfl
theorem dX1_cut_0 : decode cX1_cut 0 = .ok (.aload_n 0, 1) := dk_42 (dk_at dksX1_cut_0 0 rfl rfl)
theorem dX1_cut_1 : decode cX1_cut 1 = .ok (.iload_n 1, 1) := dk_27 (dk_at dksX1_cut_0 1 rfl rfl)
theorem dX1_cut_2 : decode cX1_cut 2 = .ok (.invokevirtual 110, 3) := dk_182 0 110 (dk_at dksX1_cut_0 2 rfl rfl)
theorem dX1_cut_5 : decode cX1_cut 5 = .ok (.astore_n 3, 1) := dk_78 (dk_at dksX1_cut_0 5 rfl rfl)
theorem dX1_cut_6 : decode cX1_cut 6 = .ok (.iload_n 2, 1) := dk_28 (dk_at dksX1_cut_0 6 rfl rfl)
theorem dX1_cut_7 : decode cX1_cut 7 = .ok (.iconst 1, 1) := dk_4 (dk_at dksX1_cut_0 7 rfl rfl)
theorem dX1_cut_8 : decode cX1_cut 8 = .ok (.if_icmp .lt 7, 3) := dk_161 0 7 (dk_at dksX1_cut_0 8 rfl rfl)
theorem dX1_cut_11 : decode cX1_cut 11 = .ok (.iconst 1, 1) := dk_4 (dk_at dksX1_cut_0 11 rfl rfl)
theorem dX1_cut_12 : decode cX1_cut 12 = .ok (.goto 4, 3) := dk_167 0 4 (dk_at dksX1_cut_0 12 rfl rfl)
theorem dX1_cut_15 : decode cX1_cut 15 = .ok (.iconst 0, 1) := dk_3 (dk_at dksX1_cut_0 15 rfl rfl)
theorem dX1_cut_16 : decode cX1_cut 16 = .ok (.invokestatic 54, 3) := dk_184 0 54 (dk_at dksX1_cut_0 16 rfl rfl)
theorem dX1_cut_19 : decode cX1_cut 19 = .ok (.aload_n 3, 1) := dk_45 (dk_at dksX1_cut_0 19 rfl rfl)
theorem dX1_cut_20 : decode cX1_cut 20 = .ok (.getfield 114, 3) := dk_180 0 114 (dk_at dksX1_cut_0 20 rfl rfl)
theorem dX1_cut_23 : decode cX1_cut 23 = .ok (.ifCond .eq 40, 3) := dk_153 0 40 (dk_at dksX1_cut_1 0 rfl rfl)
theorem dX1_cut_26 : decode cX1_cut 26 = .ok (.iload_n 2, 1) := dk_28 (dk_at dksX1_cut_1 3 rfl rfl)
theorem dX1_cut_27 : decode cX1_cut 27 = .ok (.aload_n 3, 1) := dk_45 (dk_at dksX1_cut_1 4 rfl rfl)
theorem dX1_cut_28 : decode cX1_cut 28 = .ok (.getfield 118, 3) := dk_180 0 118 (dk_at dksX1_cut_1 5 rfl rfl)
theorem dX1_cut_31 : decode cX1_cut 31 = .ok (.if_icmp .gt 32, 3) := dk_163 0 32 (dk_at dksX1_cut_1 8 rfl rfl)
theorem dX1_cut_34 : decode cX1_cut 34 = .ok (.aload_n 0, 1) := dk_42 (dk_at dksX1_cut_1 11 rfl rfl)
theorem dX1_cut_35 : decode cX1_cut 35 = .ok (.getfield 19, 3) := dk_180 0 19 (dk_at dksX1_cut_1 12 rfl rfl)
theorem dX1_cut_38 : decode cX1_cut 38 = .ok (.invokeinterface 64 1, 5) := by decide +kernel
theorem dX1_cut_43 : decode cX1_cut 43 = .ok (.bipush 16, 2) := dk_16 16 (dk_at dksX1_cut_1 20 rfl rfl)
theorem dX1_cut_45 : decode cX1_cut 45 = .ok (.if_icmp .ge 18, 3) := dk_162 0 18 (dk_at dksX1_cut_2 0 rfl rfl)
theorem dX1_cut_48 : decode cX1_cut 48 = .ok (.iload_n 2, 1) := dk_28 (dk_at dksX1_cut_2 3 rfl rfl)
theorem dX1_cut_49 : decode cX1_cut 49 = .ok (.invokestatic 121, 3) := dk_184 0 121 (dk_at dksX1_cut_2 4 rfl rfl)
theorem dX1_cut_52 : decode cX1_cut 52 = .ok (.aload_n 0, 1) := dk_42 (dk_at dksX1_cut_2 7 rfl rfl)
theorem dX1_cut_53 : decode cX1_cut 53 = .ok (.getfield 45, 3) := dk_180 0 45 (dk_at dksX1_cut_2 8 rfl rfl)
theorem dX1_cut_56 : decode cX1_cut 56 = .ok (.if_icmp .gt 7, 3) := dk_163 0 7 (dk_at dksX1_cut_2 11 rfl rfl)
theorem dX1_cut_59 : decode cX1_cut 59 = .ok (.iconst 1, 1) := dk_4 (dk_at dksX1_cut_2 14 rfl rfl)
theorem dX1_cut_60 : decode cX1_cut 60 = .ok (.goto 4, 3) := dk_167 0 4 (dk_at dksX1_cut_2 15 rfl rfl)
theorem dX1_cut_63 : decode cX1_cut 63 = .ok (.iconst 0, 1) := dk_3 (dk_at dksX1_cut_2 18 rfl rfl)
theorem dX1_cut_64 : decode cX1_cut 64 = .ok (.invokestatic 89, 3) := dk_184 0 89 (dk_at dksX1_cut_2 19 rfl rfl)
theorem dX1_cut_67 : decode cX1_cut 67 = .ok (.aload_n 3, 1) := dk_45 (dk_at dksX1_cut_2 22 rfl rfl)
theorem dX1_cut_68 : decode cX1_cut 68 = .ok (.dup, 1) := dk_89 (dk_at dksX1_cut_2 23 rfl rfl)
theorem dX1_cut_69 : decode cX1_cut 69 = .ok (.getfield 118, 3) := dk_180 0 118 (dk_at dksX1_cut_3 0 rfl rfl)
theorem dX1_cut_72 : decode cX1_cut 72 = .ok (.iload_n 2, 1) := dk_28 (dk_at dksX1_cut_3 3 rfl rfl)
theorem dX1_cut_73 : decode cX1_cut 73 = .ok (.isub, 1) := dk_100 (dk_at dksX1_cut_3 4 rfl rfl)
theorem dX1_cut_74 : decode cX1_cut 74 = .ok (.putfield 118, 3) := dk_181 0 118 (dk_at dksX1_cut_3 5 rfl rfl)
theorem dX1_cut_77 : decode cX1_cut 77 = .ok (.aload_n 0, 1) := dk_42 (dk_at dksX1_cut_3 8 rfl rfl)
theorem dX1_cut_78 : decode cX1_cut 78 = .ok (.dup, 1) := dk_89 (dk_at dksX1_cut_3 9 rfl rfl)
theorem dX1_cut_79 : decode cX1_cut 79 = .ok (.getfield 45, 3) := dk_180 0 45 (dk_at dksX1_cut_3 10 rfl rfl)
theorem dX1_cut_82 : decode cX1_cut 82 = .ok (.iload_n 2, 1) := dk_28 (dk_at dksX1_cut_3 13 rfl rfl)
theorem dX1_cut_83 : decode cX1_cut 83 = .ok (.invokestatic 121, 3) := dk_184 0 121 (dk_at dksX1_cut_3 14 rfl rfl)
theorem dX1_cut_86 : decode cX1_cut 86 = .ok (.isub, 1) := dk_100 (dk_at dksX1_cut_3 17 rfl rfl)
theorem dX1_cut_87 : decode cX1_cut 87 = .ok (.putfield 45, 3) := dk_181 0 45 (dk_at dksX1_cut_3 18 rfl rfl)
theorem dX1_cut_90 : decode cX1_cut 90 = .ok (.aload_n 0, 1) := dk_42 (dk_at dksX1_cut_3 21 rfl rfl)
theorem dX1_cut_91 : decode cX1_cut 91 = .ok (.getfield 19, 3) := dk_180 0 19 (dk_at dksX1_cut_4 0 rfl rfl)
theorem dX1_cut_94 : decode cX1_cut 94 = .ok (.new 82, 3) := dk_187 0 82 (dk_at dksX1_cut_4 3 rfl rfl)
theorem dX1_cut_97 : decode cX1_cut 97 = .ok (.dup, 1) := dk_89 (dk_at dksX1_cut_4 6 rfl rfl)
theorem dX1_cut_98 : decode cX1_cut 98 = .ok (.aload_n 3, 1) := dk_45 (dk_at dksX1_cut_4 7 rfl rfl)
theorem dX1_cut_99 : decode cX1_cut 99 = .ok (.iload_n 2, 1) := dk_28 (dk_at dksX1_cut_4 8 rfl rfl)
theorem dX1_cut_100 : decode cX1_cut 100 = .ok (.invokespecial 125, 3) := dk_183 0 125 (dk_at dksX1_cut_4 9 rfl rfl)
theorem dX1_cut_103 : decode cX1_cut 103 = .ok (.invokeinterface 93 2, 5) := by decide +kernel
theorem dX1_cut_108 : decode cX1_cut 108 = .ok (.pop, 1) := dk_87 (dk_at dksX1_cut_4 17 rfl rfl)
theorem dX1_cut_109 : decode cX1_cut 109 = .ok (.aload_n 0, 1) := dk_42 (dk_at dksX1_cut_4 18 rfl rfl)
theorem dX1_cut_110 : decode cX1_cut 110 = .ok (.getfield 19, 3) := dk_180 0 19 (dk_at dksX1_cut_4 19 rfl rfl)
theorem dX1_cut_113 : decode cX1_cut 113 = .ok (.invokeinterface 64 1, 5) := by decide +kernel
theorem dX1_cut_118 : decode cX1_cut 118 = .ok (.iconst 1, 1) := dk_4 (dk_at dksX1_cut_5 5 rfl rfl)
theorem dX1_cut_119 : decode cX1_cut 119 = .ok (.isub, 1) := dk_100 (dk_at dksX1_cut_5 6 rfl rfl)
theorem dX1_cut_120 : decode cX1_cut 120 = .ok (.ireturn, 1) := dk_172 (dk_at dksX1_cut_5 7 rfl rfl)
abbrev cX1_cropAt : ByteArray := prog_1_method_8_code
def yX1_cropAt : MethodName := ⟨RX1, "cropAt", "(I)LBloomclock$Crop;"⟩
def dkwX1_cropAt_1 : List UInt8 := [192, 0, 80, 176]
abbrev dktX1_cropAt_1 : List UInt8 := dkwX1_cropAt_1 ++ []
def dkwX1_cropAt_0 : List UInt8 := [27, 42, 180, 0, 16, 185, 0, 64, 1, 0, 184, 0, 70, 42, 180, 0, 16, 27, 185, 0, 74, 2, 0]
abbrev dktX1_cropAt_0 : List UInt8 := dkwX1_cropAt_0 ++ dktX1_cropAt_1
theorem dksX1_cropAt_0 : cX1_cropAt.data.toList.drop 0 = dktX1_cropAt_0 := by decide +kernel
theorem dksX1_cropAt_1 : cX1_cropAt.data.toList.drop 23 = dktX1_cropAt_1 := dk_seg dksX1_cropAt_0 23 rfl rfl
theorem dX1_cropAt_0 : decode cX1_cropAt 0 = .ok (.iload_n 1, 1) := dk_27 (dk_at dksX1_cropAt_0 0 rfl rfl)
theorem dX1_cropAt_1 : decode cX1_cropAt 1 = .ok (.aload_n 0, 1) := dk_42 (dk_at dksX1_cropAt_0 1 rfl rfl)
theorem dX1_cropAt_2 : decode cX1_cropAt 2 = .ok (.getfield 16, 3) := dk_180 0 16 (dk_at dksX1_cropAt_0 2 rfl rfl)
theorem dX1_cropAt_5 : decode cX1_cropAt 5 = .ok (.invokeinterface 64 1, 5) := by decide +kernel
theorem dX1_cropAt_10 : decode cX1_cropAt 10 = .ok (.invokestatic 70, 3) := dk_184 0 70 (dk_at dksX1_cropAt_0 10 rfl rfl)
theorem dX1_cropAt_13 : decode cX1_cropAt 13 = .ok (.aload_n 0, 1) := dk_42 (dk_at dksX1_cropAt_0 13 rfl rfl)
theorem dX1_cropAt_14 : decode cX1_cropAt 14 = .ok (.getfield 16, 3) := dk_180 0 16 (dk_at dksX1_cropAt_0 14 rfl rfl)
theorem dX1_cropAt_17 : decode cX1_cropAt 17 = .ok (.iload_n 1, 1) := dk_27 (dk_at dksX1_cropAt_0 17 rfl rfl)
theorem dX1_cropAt_18 : decode cX1_cropAt 18 = .ok (.invokeinterface 74 2, 5) := by decide +kernel
theorem dX1_cropAt_23 : decode cX1_cropAt 23 = .ok (.checkcast 80, 3) := dk_192 0 80 (dk_at dksX1_cropAt_1 0 rfl rfl)
theorem dX1_cropAt_26 : decode cX1_cropAt 26 = .ok (.areturn, 1) := dk_176 (dk_at dksX1_cropAt_1 3 rfl rfl)
abbrev cX1_move : ByteArray := prog_1_method_16_code
def yX1_move : MethodName := ⟨RX1, "move", "(II)I"⟩
def dkwX1_move_2 : List UInt8 := [28, 181, 0, 145, 21, 4, 172]
abbrev dktX1_move_2 : List UInt8 := dkwX1_move_2 ++ []
def dkwX1_move_1 : List UInt8 := [178, 0, 142, 182, 0, 138, 153, 0, 7, 4, 167, 0, 4, 3, 184, 0, 89, 45, 180, 0, 145, 54, 4, 45]
abbrev dktX1_move_1 : List UInt8 := dkwX1_move_1 ++ dktX1_move_2
def dkwX1_move_0 : List UInt8 := [42, 27, 182, 0, 128, 78, 28, 3, 5, 184, 0, 101, 45, 178, 0, 132, 182, 0, 138, 154, 0, 13, 45]
abbrev dktX1_move_0 : List UInt8 := dkwX1_move_0 ++ dktX1_move_1
theorem dksX1_move_0 : cX1_move.data.toList.drop 0 = dktX1_move_0 := by decide +kernel
theorem dksX1_move_1 : cX1_move.data.toList.drop 23 = dktX1_move_1 := dk_seg dksX1_move_0 23 rfl rfl
theorem dksX1_move_2 : cX1_move.data.toList.drop 47 = dktX1_move_2 := dk_seg dksX1_move_1 24 rfl rfl
theorem dX1_move_0 : decode cX1_move 0 = .ok (.aload_n 0, 1) := dk_42 (dk_at dksX1_move_0 0 rfl rfl)
theorem dX1_move_1 : decode cX1_move 1 = .ok (.iload_n 1, 1) := dk_27 (dk_at dksX1_move_0 1 rfl rfl)
theorem dX1_move_2 : decode cX1_move 2 = .ok (.invokevirtual 128, 3) := dk_182 0 128 (dk_at dksX1_move_0 2 rfl rfl)
theorem dX1_move_5 : decode cX1_move 5 = .ok (.astore_n 3, 1) := dk_78 (dk_at dksX1_move_0 5 rfl rfl)
theorem dX1_move_6 : decode cX1_move 6 = .ok (.iload_n 2, 1) := dk_28 (dk_at dksX1_move_0 6 rfl rfl)
theorem dX1_move_7 : decode cX1_move 7 = .ok (.iconst 0, 1) := dk_3 (dk_at dksX1_move_0 7 rfl rfl)
theorem dX1_move_8 : decode cX1_move 8 = .ok (.iconst 2, 1) := dk_5 (dk_at dksX1_move_0 8 rfl rfl)
theorem dX1_move_9 : decode cX1_move 9 = .ok (.invokestatic 101, 3) := dk_184 0 101 (dk_at dksX1_move_0 9 rfl rfl)
theorem dX1_move_12 : decode cX1_move 12 = .ok (.aload_n 3, 1) := dk_45 (dk_at dksX1_move_0 12 rfl rfl)
theorem dX1_move_13 : decode cX1_move 13 = .ok (.getstatic 132, 3) := dk_178 0 132 (dk_at dksX1_move_0 13 rfl rfl)
theorem dX1_move_16 : decode cX1_move 16 = .ok (.invokevirtual 138, 3) := dk_182 0 138 (dk_at dksX1_move_0 16 rfl rfl)
theorem dX1_move_19 : decode cX1_move 19 = .ok (.ifCond .ne 13, 3) := dk_154 0 13 (dk_at dksX1_move_0 19 rfl rfl)
theorem dX1_move_22 : decode cX1_move 22 = .ok (.aload_n 3, 1) := dk_45 (dk_at dksX1_move_0 22 rfl rfl)
theorem dX1_move_23 : decode cX1_move 23 = .ok (.getstatic 142, 3) := dk_178 0 142 (dk_at dksX1_move_1 0 rfl rfl)
theorem dX1_move_26 : decode cX1_move 26 = .ok (.invokevirtual 138, 3) := dk_182 0 138 (dk_at dksX1_move_1 3 rfl rfl)
theorem dX1_move_29 : decode cX1_move 29 = .ok (.ifCond .eq 7, 3) := dk_153 0 7 (dk_at dksX1_move_1 6 rfl rfl)
theorem dX1_move_32 : decode cX1_move 32 = .ok (.iconst 1, 1) := dk_4 (dk_at dksX1_move_1 9 rfl rfl)
theorem dX1_move_33 : decode cX1_move 33 = .ok (.goto 4, 3) := dk_167 0 4 (dk_at dksX1_move_1 10 rfl rfl)
theorem dX1_move_36 : decode cX1_move 36 = .ok (.iconst 0, 1) := dk_3 (dk_at dksX1_move_1 13 rfl rfl)
theorem dX1_move_37 : decode cX1_move 37 = .ok (.invokestatic 89, 3) := dk_184 0 89 (dk_at dksX1_move_1 14 rfl rfl)
theorem dX1_move_40 : decode cX1_move 40 = .ok (.aload_n 3, 1) := dk_45 (dk_at dksX1_move_1 17 rfl rfl)
theorem dX1_move_41 : decode cX1_move 41 = .ok (.getfield 145, 3) := dk_180 0 145 (dk_at dksX1_move_1 18 rfl rfl)
theorem dX1_move_44 : decode cX1_move 44 = .ok (.istore 4, 2) := dk_54 4 (dk_at dksX1_move_1 21 rfl rfl)
theorem dX1_move_46 : decode cX1_move 46 = .ok (.aload_n 3, 1) := dk_45 (dk_at dksX1_move_1 23 rfl rfl)
theorem dX1_move_47 : decode cX1_move 47 = .ok (.iload_n 2, 1) := dk_28 (dk_at dksX1_move_2 0 rfl rfl)
theorem dX1_move_48 : decode cX1_move 48 = .ok (.putfield 145, 3) := dk_181 0 145 (dk_at dksX1_move_2 1 rfl rfl)
theorem dX1_move_51 : decode cX1_move 51 = .ok (.iload 4, 2) := dk_21 4 (dk_at dksX1_move_2 4 rfl rfl)
theorem dX1_move_53 : decode cX1_move 53 = .ok (.ireturn, 1) := dk_172 (dk_at dksX1_move_2 6 rfl rfl)
abbrev cX1_lotAt : ByteArray := prog_1_method_9_code
def yX1_lotAt : MethodName := ⟨RX1, "lotAt", "(I)LBloomclock$Lot;"⟩
def dkwX1_lotAt_1 : List UInt8 := [192, 0, 82, 176]
abbrev dktX1_lotAt_1 : List UInt8 := dkwX1_lotAt_1 ++ []
def dkwX1_lotAt_0 : List UInt8 := [27, 42, 180, 0, 19, 185, 0, 64, 1, 0, 184, 0, 70, 42, 180, 0, 19, 27, 185, 0, 74, 2, 0]
abbrev dktX1_lotAt_0 : List UInt8 := dkwX1_lotAt_0 ++ dktX1_lotAt_1
theorem dksX1_lotAt_0 : cX1_lotAt.data.toList.drop 0 = dktX1_lotAt_0 := by decide +kernel
theorem dksX1_lotAt_1 : cX1_lotAt.data.toList.drop 23 = dktX1_lotAt_1 := dk_seg dksX1_lotAt_0 23 rfl rfl
theorem dX1_lotAt_0 : decode cX1_lotAt 0 = .ok (.iload_n 1, 1) := dk_27 (dk_at dksX1_lotAt_0 0 rfl rfl)
theorem dX1_lotAt_1 : decode cX1_lotAt 1 = .ok (.aload_n 0, 1) := dk_42 (dk_at dksX1_lotAt_0 1 rfl rfl)
theorem dX1_lotAt_2 : decode cX1_lotAt 2 = .ok (.getfield 19, 3) := dk_180 0 19 (dk_at dksX1_lotAt_0 2 rfl rfl)
theorem dX1_lotAt_5 : decode cX1_lotAt 5 = .ok (.invokeinterface 64 1, 5) := by decide +kernel
theorem dX1_lotAt_10 : decode cX1_lotAt 10 = .ok (.invokestatic 70, 3) := dk_184 0 70 (dk_at dksX1_lotAt_0 10 rfl rfl)
theorem dX1_lotAt_13 : decode cX1_lotAt 13 = .ok (.aload_n 0, 1) := dk_42 (dk_at dksX1_lotAt_0 13 rfl rfl)
theorem dX1_lotAt_14 : decode cX1_lotAt 14 = .ok (.getfield 19, 3) := dk_180 0 19 (dk_at dksX1_lotAt_0 14 rfl rfl)
theorem dX1_lotAt_17 : decode cX1_lotAt 17 = .ok (.iload_n 1, 1) := dk_27 (dk_at dksX1_lotAt_0 17 rfl rfl)
theorem dX1_lotAt_18 : decode cX1_lotAt 18 = .ok (.invokeinterface 74 2, 5) := by decide +kernel
theorem dX1_lotAt_23 : decode cX1_lotAt 23 = .ok (.checkcast 82, 3) := dk_192 0 82 (dk_at dksX1_lotAt_1 0 rfl rfl)
theorem dX1_lotAt_26 : decode cX1_lotAt 26 = .ok (.areturn, 1) := dk_176 (dk_at dksX1_lotAt_1 3 rfl rfl)
abbrev cX1_pass : ByteArray := prog_1_method_17_code
def yX1_pass : MethodName := ⟨RX1, "pass", "(II)I"⟩
def dkwX1_pass_1 : List UInt8 := [21, 4, 27, 162, 0, 16, 29, 42, 182, 0, 148, 96, 62, 132, 4, 1, 167, 255, 240, 29, 172]
abbrev dktX1_pass_1 : List UInt8 := dkwX1_pass_1 ++ []
def dkwX1_pass_0 : List UInt8 := [27, 4, 16, 48, 184, 0, 101, 28, 3, 16, 9, 184, 0, 101, 42, 28, 181, 0, 41, 3, 62, 3, 54, 4]
abbrev dktX1_pass_0 : List UInt8 := dkwX1_pass_0 ++ dktX1_pass_1
theorem dksX1_pass_0 : cX1_pass.data.toList.drop 0 = dktX1_pass_0 := by decide +kernel
theorem dksX1_pass_1 : cX1_pass.data.toList.drop 24 = dktX1_pass_1 := dk_seg dksX1_pass_0 24 rfl rfl
theorem dX1_pass_0 : decode cX1_pass 0 = .ok (.iload_n 1, 1) := dk_27 (dk_at dksX1_pass_0 0 rfl rfl)
theorem dX1_pass_1 : decode cX1_pass 1 = .ok (.iconst 1, 1) := dk_4 (dk_at dksX1_pass_0 1 rfl rfl)
theorem dX1_pass_2 : decode cX1_pass 2 = .ok (.bipush 48, 2) := dk_16 48 (dk_at dksX1_pass_0 2 rfl rfl)
theorem dX1_pass_4 : decode cX1_pass 4 = .ok (.invokestatic 101, 3) := dk_184 0 101 (dk_at dksX1_pass_0 4 rfl rfl)
theorem dX1_pass_7 : decode cX1_pass 7 = .ok (.iload_n 2, 1) := dk_28 (dk_at dksX1_pass_0 7 rfl rfl)
theorem dX1_pass_8 : decode cX1_pass 8 = .ok (.iconst 0, 1) := dk_3 (dk_at dksX1_pass_0 8 rfl rfl)
theorem dX1_pass_9 : decode cX1_pass 9 = .ok (.bipush 9, 2) := dk_16 9 (dk_at dksX1_pass_0 9 rfl rfl)
theorem dX1_pass_11 : decode cX1_pass 11 = .ok (.invokestatic 101, 3) := dk_184 0 101 (dk_at dksX1_pass_0 11 rfl rfl)
theorem dX1_pass_14 : decode cX1_pass 14 = .ok (.aload_n 0, 1) := dk_42 (dk_at dksX1_pass_0 14 rfl rfl)
theorem dX1_pass_15 : decode cX1_pass 15 = .ok (.iload_n 2, 1) := dk_28 (dk_at dksX1_pass_0 15 rfl rfl)
theorem dX1_pass_16 : decode cX1_pass 16 = .ok (.putfield 41, 3) := dk_181 0 41 (dk_at dksX1_pass_0 16 rfl rfl)
theorem dX1_pass_19 : decode cX1_pass 19 = .ok (.iconst 0, 1) := dk_3 (dk_at dksX1_pass_0 19 rfl rfl)
theorem dX1_pass_20 : decode cX1_pass 20 = .ok (.istore_n 3, 1) := dk_62 (dk_at dksX1_pass_0 20 rfl rfl)
theorem dX1_pass_21 : decode cX1_pass 21 = .ok (.iconst 0, 1) := dk_3 (dk_at dksX1_pass_0 21 rfl rfl)
theorem dX1_pass_22 : decode cX1_pass 22 = .ok (.istore 4, 2) := dk_54 4 (dk_at dksX1_pass_0 22 rfl rfl)
theorem dX1_pass_24 : decode cX1_pass 24 = .ok (.iload 4, 2) := dk_21 4 (dk_at dksX1_pass_1 0 rfl rfl)
theorem dX1_pass_26 : decode cX1_pass 26 = .ok (.iload_n 1, 1) := dk_27 (dk_at dksX1_pass_1 2 rfl rfl)
theorem dX1_pass_27 : decode cX1_pass 27 = .ok (.if_icmp .ge 16, 3) := dk_162 0 16 (dk_at dksX1_pass_1 3 rfl rfl)
theorem dX1_pass_30 : decode cX1_pass 30 = .ok (.iload_n 3, 1) := dk_29 (dk_at dksX1_pass_1 6 rfl rfl)
theorem dX1_pass_31 : decode cX1_pass 31 = .ok (.aload_n 0, 1) := dk_42 (dk_at dksX1_pass_1 7 rfl rfl)
theorem dX1_pass_32 : decode cX1_pass 32 = .ok (.invokevirtual 148, 3) := dk_182 0 148 (dk_at dksX1_pass_1 8 rfl rfl)
theorem dX1_pass_35 : decode cX1_pass 35 = .ok (.iadd, 1) := dk_96 (dk_at dksX1_pass_1 11 rfl rfl)
theorem dX1_pass_36 : decode cX1_pass 36 = .ok (.istore_n 3, 1) := dk_62 (dk_at dksX1_pass_1 12 rfl rfl)
theorem dX1_pass_37 : decode cX1_pass 37 = .ok (.iinc 4 1, 3) := dk_132 4 1 (dk_at dksX1_pass_1 13 rfl rfl)
theorem dX1_pass_40 : decode cX1_pass 40 = .ok (.goto (-16), 3) := dk_167 255 240 (dk_at dksX1_pass_1 16 rfl rfl)
theorem dX1_pass_43 : decode cX1_pass 43 = .ok (.iload_n 3, 1) := dk_29 (dk_at dksX1_pass_1 19 rfl rfl)
theorem dX1_pass_44 : decode cX1_pass 44 = .ok (.ireturn, 1) := dk_172 (dk_at dksX1_pass_1 20 rfl rfl)
abbrev cX1_goOn : ByteArray := prog_1_method_18_code
def yX1_goOn : MethodName := ⟨RX1, "goOn", "()I"⟩
def dkwX1_goOn_12 : List UInt8 := [185, 0, 182, 2, 0, 192, 0, 164, 182, 0, 185, 132, 1, 1, 167, 255, 213, 27, 172]
abbrev dktX1_goOn_12 : List UInt8 := dkwX1_goOn_12 ++ []
def dkwX1_goOn_11 : List UInt8 := [180, 0, 31, 185, 0, 175, 1, 0, 154, 0, 29, 42, 42, 180, 0, 31, 42, 182, 0, 179]
abbrev dktX1_goOn_11 : List UInt8 := dkwX1_goOn_11 ++ dktX1_goOn_12
def dkwX1_goOn_10 : List UInt8 := [184, 0, 169, 181, 0, 166, 132, 1, 1, 167, 255, 202, 3, 60, 27, 42, 180, 0, 48, 162, 0, 41, 42]
abbrev dktX1_goOn_10 : List UInt8 := dkwX1_goOn_10 ++ dktX1_goOn_11
def dkwX1_goOn_9 : List UInt8 := [192, 0, 164, 3, 42, 180, 0, 31, 27, 185, 0, 74, 2, 0, 192, 0, 164, 180, 0, 166, 6, 100]
abbrev dktX1_goOn_9 : List UInt8 := dkwX1_goOn_9 ++ dktX1_goOn_10
def dkwX1_goOn_8 : List UInt8 := [42, 180, 0, 31, 185, 0, 64, 1, 0, 162, 0, 47, 42, 180, 0, 31, 27, 185, 0, 74, 2, 0]
abbrev dktX1_goOn_8 : List UInt8 := dkwX1_goOn_8 ++ dktX1_goOn_9
def dkwX1_goOn_7 : List UInt8 := [180, 0, 19, 27, 185, 0, 74, 2, 0, 192, 0, 82, 182, 0, 161, 132, 1, 1, 167, 255, 224, 3, 60, 27]
abbrev dktX1_goOn_7 : List UInt8 := dkwX1_goOn_7 ++ dktX1_goOn_8
def dkwX1_goOn_6 : List UInt8 := [132, 1, 1, 167, 255, 203, 3, 60, 27, 42, 180, 0, 19, 185, 0, 64, 1, 0, 162, 0, 25, 42]
abbrev dktX1_goOn_6 : List UInt8 := dkwX1_goOn_6 ++ dktX1_goOn_7
def dkwX1_goOn_5 : List UInt8 := [180, 0, 158, 42, 180, 0, 12, 27, 185, 0, 74, 2, 0, 192, 0, 78, 180, 0, 105, 100, 181, 0, 158]
abbrev dktX1_goOn_5 : List UInt8 := dkwX1_goOn_5 ++ dktX1_goOn_6
def dkwX1_goOn_4 : List UInt8 := [185, 0, 64, 1, 0, 162, 0, 46, 42, 180, 0, 12, 27, 185, 0, 74, 2, 0, 192, 0, 78, 89]
abbrev dktX1_goOn_4 : List UInt8 := dkwX1_goOn_4 ++ dktX1_goOn_5
def dkwX1_goOn_3 : List UInt8 := [180, 0, 105, 96, 182, 0, 154, 132, 1, 1, 167, 255, 188, 3, 60, 27, 42, 180, 0, 12]
abbrev dktX1_goOn_3 : List UInt8 := dkwX1_goOn_3 ++ dktX1_goOn_4
def dkwX1_goOn_2 : List UInt8 := [42, 180, 0, 16, 27, 185, 0, 74, 2, 0, 192, 0, 80, 180, 0, 151, 185, 0, 74, 2, 0, 192, 0, 78]
abbrev dktX1_goOn_2 : List UInt8 := dkwX1_goOn_2 ++ dktX1_goOn_3
def dkwX1_goOn_1 : List UInt8 := [162, 0, 61, 42, 180, 0, 16, 27, 185, 0, 74, 2, 0, 192, 0, 80, 42, 180, 0, 41, 42, 180, 0, 12]
abbrev dktX1_goOn_1 : List UInt8 := dkwX1_goOn_1 ++ dktX1_goOn_2
def dkwX1_goOn_0 : List UInt8 := [42, 89, 180, 0, 86, 4, 96, 181, 0, 86, 3, 60, 27, 42, 180, 0, 16, 185, 0, 64, 1, 0]
abbrev dktX1_goOn_0 : List UInt8 := dkwX1_goOn_0 ++ dktX1_goOn_1
theorem dksX1_goOn_0 : cX1_goOn.data.toList.drop 0 = dktX1_goOn_0 := by decide +kernel
theorem dksX1_goOn_1 : cX1_goOn.data.toList.drop 22 = dktX1_goOn_1 := dk_seg dksX1_goOn_0 22 rfl rfl
theorem dksX1_goOn_2 : cX1_goOn.data.toList.drop 46 = dktX1_goOn_2 := dk_seg dksX1_goOn_1 24 rfl rfl
theorem dksX1_goOn_3 : cX1_goOn.data.toList.drop 70 = dktX1_goOn_3 := dk_seg dksX1_goOn_2 24 rfl rfl
theorem dksX1_goOn_4 : cX1_goOn.data.toList.drop 90 = dktX1_goOn_4 := dk_seg dksX1_goOn_3 20 rfl rfl
theorem dksX1_goOn_5 : cX1_goOn.data.toList.drop 112 = dktX1_goOn_5 := dk_seg dksX1_goOn_4 22 rfl rfl
theorem dksX1_goOn_6 : cX1_goOn.data.toList.drop 135 = dktX1_goOn_6 := dk_seg dksX1_goOn_5 23 rfl rfl
theorem dksX1_goOn_7 : cX1_goOn.data.toList.drop 157 = dktX1_goOn_7 := dk_seg dksX1_goOn_6 22 rfl rfl
theorem dksX1_goOn_8 : cX1_goOn.data.toList.drop 181 = dktX1_goOn_8 := dk_seg dksX1_goOn_7 24 rfl rfl
theorem dksX1_goOn_9 : cX1_goOn.data.toList.drop 203 = dktX1_goOn_9 := dk_seg dksX1_goOn_8 22 rfl rfl
theorem dksX1_goOn_10 : cX1_goOn.data.toList.drop 225 = dktX1_goOn_10 := dk_seg dksX1_goOn_9 22 rfl rfl
theorem dksX1_goOn_11 : cX1_goOn.data.toList.drop 248 = dktX1_goOn_11 := dk_seg dksX1_goOn_10 23 rfl rfl
theorem dksX1_goOn_12 : cX1_goOn.data.toList.drop 268 = dktX1_goOn_12 := dk_seg dksX1_goOn_11 20 rfl rfl
theorem dX1_goOn_0 : decode cX1_goOn 0 = .ok (.aload_n 0, 1) := dk_42 (dk_at dksX1_goOn_0 0 rfl rfl)
theorem dX1_goOn_1 : decode cX1_goOn 1 = .ok (.dup, 1) := dk_89 (dk_at dksX1_goOn_0 1 rfl rfl)
theorem dX1_goOn_2 : decode cX1_goOn 2 = .ok (.getfield 86, 3) := dk_180 0 86 (dk_at dksX1_goOn_0 2 rfl rfl)
theorem dX1_goOn_5 : decode cX1_goOn 5 = .ok (.iconst 1, 1) := dk_4 (dk_at dksX1_goOn_0 5 rfl rfl)
theorem dX1_goOn_6 : decode cX1_goOn 6 = .ok (.iadd, 1) := dk_96 (dk_at dksX1_goOn_0 6 rfl rfl)
theorem dX1_goOn_7 : decode cX1_goOn 7 = .ok (.putfield 86, 3) := dk_181 0 86 (dk_at dksX1_goOn_0 7 rfl rfl)
theorem dX1_goOn_10 : decode cX1_goOn 10 = .ok (.iconst 0, 1) := dk_3 (dk_at dksX1_goOn_0 10 rfl rfl)
theorem dX1_goOn_11 : decode cX1_goOn 11 = .ok (.istore_n 1, 1) := dk_60 (dk_at dksX1_goOn_0 11 rfl rfl)
theorem dX1_goOn_12 : decode cX1_goOn 12 = .ok (.iload_n 1, 1) := dk_27 (dk_at dksX1_goOn_0 12 rfl rfl)
theorem dX1_goOn_13 : decode cX1_goOn 13 = .ok (.aload_n 0, 1) := dk_42 (dk_at dksX1_goOn_0 13 rfl rfl)
theorem dX1_goOn_14 : decode cX1_goOn 14 = .ok (.getfield 16, 3) := dk_180 0 16 (dk_at dksX1_goOn_0 14 rfl rfl)
theorem dX1_goOn_17 : decode cX1_goOn 17 = .ok (.invokeinterface 64 1, 5) := by decide +kernel
theorem dX1_goOn_22 : decode cX1_goOn 22 = .ok (.if_icmp .ge 61, 3) := dk_162 0 61 (dk_at dksX1_goOn_1 0 rfl rfl)
theorem dX1_goOn_25 : decode cX1_goOn 25 = .ok (.aload_n 0, 1) := dk_42 (dk_at dksX1_goOn_1 3 rfl rfl)
theorem dX1_goOn_26 : decode cX1_goOn 26 = .ok (.getfield 16, 3) := dk_180 0 16 (dk_at dksX1_goOn_1 4 rfl rfl)
theorem dX1_goOn_29 : decode cX1_goOn 29 = .ok (.iload_n 1, 1) := dk_27 (dk_at dksX1_goOn_1 7 rfl rfl)
theorem dX1_goOn_30 : decode cX1_goOn 30 = .ok (.invokeinterface 74 2, 5) := by decide +kernel
theorem dX1_goOn_35 : decode cX1_goOn 35 = .ok (.checkcast 80, 3) := dk_192 0 80 (dk_at dksX1_goOn_1 13 rfl rfl)
theorem dX1_goOn_38 : decode cX1_goOn 38 = .ok (.aload_n 0, 1) := dk_42 (dk_at dksX1_goOn_1 16 rfl rfl)
theorem dX1_goOn_39 : decode cX1_goOn 39 = .ok (.getfield 41, 3) := dk_180 0 41 (dk_at dksX1_goOn_1 17 rfl rfl)
theorem dX1_goOn_42 : decode cX1_goOn 42 = .ok (.aload_n 0, 1) := dk_42 (dk_at dksX1_goOn_1 20 rfl rfl)
theorem dX1_goOn_43 : decode cX1_goOn 43 = .ok (.getfield 12, 3) := dk_180 0 12 (dk_at dksX1_goOn_1 21 rfl rfl)
theorem dX1_goOn_46 : decode cX1_goOn 46 = .ok (.aload_n 0, 1) := dk_42 (dk_at dksX1_goOn_2 0 rfl rfl)
theorem dX1_goOn_47 : decode cX1_goOn 47 = .ok (.getfield 16, 3) := dk_180 0 16 (dk_at dksX1_goOn_2 1 rfl rfl)
theorem dX1_goOn_50 : decode cX1_goOn 50 = .ok (.iload_n 1, 1) := dk_27 (dk_at dksX1_goOn_2 4 rfl rfl)
theorem dX1_goOn_51 : decode cX1_goOn 51 = .ok (.invokeinterface 74 2, 5) := by decide +kernel
theorem dX1_goOn_56 : decode cX1_goOn 56 = .ok (.checkcast 80, 3) := dk_192 0 80 (dk_at dksX1_goOn_2 10 rfl rfl)
theorem dX1_goOn_59 : decode cX1_goOn 59 = .ok (.getfield 151, 3) := dk_180 0 151 (dk_at dksX1_goOn_2 13 rfl rfl)
theorem dX1_goOn_62 : decode cX1_goOn 62 = .ok (.invokeinterface 74 2, 5) := by decide +kernel
theorem dX1_goOn_67 : decode cX1_goOn 67 = .ok (.checkcast 78, 3) := dk_192 0 78 (dk_at dksX1_goOn_2 21 rfl rfl)
theorem dX1_goOn_70 : decode cX1_goOn 70 = .ok (.getfield 105, 3) := dk_180 0 105 (dk_at dksX1_goOn_3 0 rfl rfl)
theorem dX1_goOn_73 : decode cX1_goOn 73 = .ok (.iadd, 1) := dk_96 (dk_at dksX1_goOn_3 3 rfl rfl)
theorem dX1_goOn_74 : decode cX1_goOn 74 = .ok (.invokevirtual 154, 3) := dk_182 0 154 (dk_at dksX1_goOn_3 4 rfl rfl)
theorem dX1_goOn_77 : decode cX1_goOn 77 = .ok (.iinc 1 1, 3) := dk_132 1 1 (dk_at dksX1_goOn_3 7 rfl rfl)
theorem dX1_goOn_80 : decode cX1_goOn 80 = .ok (.goto (-68), 3) := dk_167 255 188 (dk_at dksX1_goOn_3 10 rfl rfl)
theorem dX1_goOn_83 : decode cX1_goOn 83 = .ok (.iconst 0, 1) := dk_3 (dk_at dksX1_goOn_3 13 rfl rfl)
theorem dX1_goOn_84 : decode cX1_goOn 84 = .ok (.istore_n 1, 1) := dk_60 (dk_at dksX1_goOn_3 14 rfl rfl)
theorem dX1_goOn_85 : decode cX1_goOn 85 = .ok (.iload_n 1, 1) := dk_27 (dk_at dksX1_goOn_3 15 rfl rfl)
theorem dX1_goOn_86 : decode cX1_goOn 86 = .ok (.aload_n 0, 1) := dk_42 (dk_at dksX1_goOn_3 16 rfl rfl)
theorem dX1_goOn_87 : decode cX1_goOn 87 = .ok (.getfield 12, 3) := dk_180 0 12 (dk_at dksX1_goOn_3 17 rfl rfl)
theorem dX1_goOn_90 : decode cX1_goOn 90 = .ok (.invokeinterface 64 1, 5) := by decide +kernel
theorem dX1_goOn_95 : decode cX1_goOn 95 = .ok (.if_icmp .ge 46, 3) := dk_162 0 46 (dk_at dksX1_goOn_4 5 rfl rfl)
theorem dX1_goOn_98 : decode cX1_goOn 98 = .ok (.aload_n 0, 1) := dk_42 (dk_at dksX1_goOn_4 8 rfl rfl)
theorem dX1_goOn_99 : decode cX1_goOn 99 = .ok (.getfield 12, 3) := dk_180 0 12 (dk_at dksX1_goOn_4 9 rfl rfl)
theorem dX1_goOn_102 : decode cX1_goOn 102 = .ok (.iload_n 1, 1) := dk_27 (dk_at dksX1_goOn_4 12 rfl rfl)
theorem dX1_goOn_103 : decode cX1_goOn 103 = .ok (.invokeinterface 74 2, 5) := by decide +kernel
theorem dX1_goOn_108 : decode cX1_goOn 108 = .ok (.checkcast 78, 3) := dk_192 0 78 (dk_at dksX1_goOn_4 18 rfl rfl)
theorem dX1_goOn_111 : decode cX1_goOn 111 = .ok (.dup, 1) := dk_89 (dk_at dksX1_goOn_4 21 rfl rfl)
theorem dX1_goOn_112 : decode cX1_goOn 112 = .ok (.getfield 158, 3) := dk_180 0 158 (dk_at dksX1_goOn_5 0 rfl rfl)
theorem dX1_goOn_115 : decode cX1_goOn 115 = .ok (.aload_n 0, 1) := dk_42 (dk_at dksX1_goOn_5 3 rfl rfl)
theorem dX1_goOn_116 : decode cX1_goOn 116 = .ok (.getfield 12, 3) := dk_180 0 12 (dk_at dksX1_goOn_5 4 rfl rfl)
theorem dX1_goOn_119 : decode cX1_goOn 119 = .ok (.iload_n 1, 1) := dk_27 (dk_at dksX1_goOn_5 7 rfl rfl)
theorem dX1_goOn_120 : decode cX1_goOn 120 = .ok (.invokeinterface 74 2, 5) := by decide +kernel
theorem dX1_goOn_125 : decode cX1_goOn 125 = .ok (.checkcast 78, 3) := dk_192 0 78 (dk_at dksX1_goOn_5 13 rfl rfl)
theorem dX1_goOn_128 : decode cX1_goOn 128 = .ok (.getfield 105, 3) := dk_180 0 105 (dk_at dksX1_goOn_5 16 rfl rfl)
theorem dX1_goOn_131 : decode cX1_goOn 131 = .ok (.isub, 1) := dk_100 (dk_at dksX1_goOn_5 19 rfl rfl)
theorem dX1_goOn_132 : decode cX1_goOn 132 = .ok (.putfield 158, 3) := dk_181 0 158 (dk_at dksX1_goOn_5 20 rfl rfl)
theorem dX1_goOn_135 : decode cX1_goOn 135 = .ok (.iinc 1 1, 3) := dk_132 1 1 (dk_at dksX1_goOn_6 0 rfl rfl)
theorem dX1_goOn_138 : decode cX1_goOn 138 = .ok (.goto (-53), 3) := dk_167 255 203 (dk_at dksX1_goOn_6 3 rfl rfl)
theorem dX1_goOn_141 : decode cX1_goOn 141 = .ok (.iconst 0, 1) := dk_3 (dk_at dksX1_goOn_6 6 rfl rfl)
theorem dX1_goOn_142 : decode cX1_goOn 142 = .ok (.istore_n 1, 1) := dk_60 (dk_at dksX1_goOn_6 7 rfl rfl)
theorem dX1_goOn_143 : decode cX1_goOn 143 = .ok (.iload_n 1, 1) := dk_27 (dk_at dksX1_goOn_6 8 rfl rfl)
theorem dX1_goOn_144 : decode cX1_goOn 144 = .ok (.aload_n 0, 1) := dk_42 (dk_at dksX1_goOn_6 9 rfl rfl)
theorem dX1_goOn_145 : decode cX1_goOn 145 = .ok (.getfield 19, 3) := dk_180 0 19 (dk_at dksX1_goOn_6 10 rfl rfl)
theorem dX1_goOn_148 : decode cX1_goOn 148 = .ok (.invokeinterface 64 1, 5) := by decide +kernel
theorem dX1_goOn_153 : decode cX1_goOn 153 = .ok (.if_icmp .ge 25, 3) := dk_162 0 25 (dk_at dksX1_goOn_6 18 rfl rfl)
theorem dX1_goOn_156 : decode cX1_goOn 156 = .ok (.aload_n 0, 1) := dk_42 (dk_at dksX1_goOn_6 21 rfl rfl)
theorem dX1_goOn_157 : decode cX1_goOn 157 = .ok (.getfield 19, 3) := dk_180 0 19 (dk_at dksX1_goOn_7 0 rfl rfl)
theorem dX1_goOn_160 : decode cX1_goOn 160 = .ok (.iload_n 1, 1) := dk_27 (dk_at dksX1_goOn_7 3 rfl rfl)
theorem dX1_goOn_161 : decode cX1_goOn 161 = .ok (.invokeinterface 74 2, 5) := by decide +kernel
theorem dX1_goOn_166 : decode cX1_goOn 166 = .ok (.checkcast 82, 3) := dk_192 0 82 (dk_at dksX1_goOn_7 9 rfl rfl)
theorem dX1_goOn_169 : decode cX1_goOn 169 = .ok (.invokevirtual 161, 3) := dk_182 0 161 (dk_at dksX1_goOn_7 12 rfl rfl)
theorem dX1_goOn_172 : decode cX1_goOn 172 = .ok (.iinc 1 1, 3) := dk_132 1 1 (dk_at dksX1_goOn_7 15 rfl rfl)
theorem dX1_goOn_175 : decode cX1_goOn 175 = .ok (.goto (-32), 3) := dk_167 255 224 (dk_at dksX1_goOn_7 18 rfl rfl)
theorem dX1_goOn_178 : decode cX1_goOn 178 = .ok (.iconst 0, 1) := dk_3 (dk_at dksX1_goOn_7 21 rfl rfl)
theorem dX1_goOn_179 : decode cX1_goOn 179 = .ok (.istore_n 1, 1) := dk_60 (dk_at dksX1_goOn_7 22 rfl rfl)
theorem dX1_goOn_180 : decode cX1_goOn 180 = .ok (.iload_n 1, 1) := dk_27 (dk_at dksX1_goOn_7 23 rfl rfl)
theorem dX1_goOn_181 : decode cX1_goOn 181 = .ok (.aload_n 0, 1) := dk_42 (dk_at dksX1_goOn_8 0 rfl rfl)
theorem dX1_goOn_182 : decode cX1_goOn 182 = .ok (.getfield 31, 3) := dk_180 0 31 (dk_at dksX1_goOn_8 1 rfl rfl)
theorem dX1_goOn_185 : decode cX1_goOn 185 = .ok (.invokeinterface 64 1, 5) := by decide +kernel
theorem dX1_goOn_190 : decode cX1_goOn 190 = .ok (.if_icmp .ge 47, 3) := dk_162 0 47 (dk_at dksX1_goOn_8 9 rfl rfl)
theorem dX1_goOn_193 : decode cX1_goOn 193 = .ok (.aload_n 0, 1) := dk_42 (dk_at dksX1_goOn_8 12 rfl rfl)
theorem dX1_goOn_194 : decode cX1_goOn 194 = .ok (.getfield 31, 3) := dk_180 0 31 (dk_at dksX1_goOn_8 13 rfl rfl)
theorem dX1_goOn_197 : decode cX1_goOn 197 = .ok (.iload_n 1, 1) := dk_27 (dk_at dksX1_goOn_8 16 rfl rfl)
theorem dX1_goOn_198 : decode cX1_goOn 198 = .ok (.invokeinterface 74 2, 5) := by decide +kernel
theorem dX1_goOn_203 : decode cX1_goOn 203 = .ok (.checkcast 164, 3) := dk_192 0 164 (dk_at dksX1_goOn_9 0 rfl rfl)
theorem dX1_goOn_206 : decode cX1_goOn 206 = .ok (.iconst 0, 1) := dk_3 (dk_at dksX1_goOn_9 3 rfl rfl)
theorem dX1_goOn_207 : decode cX1_goOn 207 = .ok (.aload_n 0, 1) := dk_42 (dk_at dksX1_goOn_9 4 rfl rfl)
theorem dX1_goOn_208 : decode cX1_goOn 208 = .ok (.getfield 31, 3) := dk_180 0 31 (dk_at dksX1_goOn_9 5 rfl rfl)
theorem dX1_goOn_211 : decode cX1_goOn 211 = .ok (.iload_n 1, 1) := dk_27 (dk_at dksX1_goOn_9 8 rfl rfl)
theorem dX1_goOn_212 : decode cX1_goOn 212 = .ok (.invokeinterface 74 2, 5) := by decide +kernel
theorem dX1_goOn_217 : decode cX1_goOn 217 = .ok (.checkcast 164, 3) := dk_192 0 164 (dk_at dksX1_goOn_9 14 rfl rfl)
theorem dX1_goOn_220 : decode cX1_goOn 220 = .ok (.getfield 166, 3) := dk_180 0 166 (dk_at dksX1_goOn_9 17 rfl rfl)
theorem dX1_goOn_223 : decode cX1_goOn 223 = .ok (.iconst 3, 1) := dk_6 (dk_at dksX1_goOn_9 20 rfl rfl)
theorem dX1_goOn_224 : decode cX1_goOn 224 = .ok (.isub, 1) := dk_100 (dk_at dksX1_goOn_9 21 rfl rfl)
theorem dX1_goOn_225 : decode cX1_goOn 225 = .ok (.invokestatic 169, 3) := dk_184 0 169 (dk_at dksX1_goOn_10 0 rfl rfl)
theorem dX1_goOn_228 : decode cX1_goOn 228 = .ok (.putfield 166, 3) := dk_181 0 166 (dk_at dksX1_goOn_10 3 rfl rfl)
theorem dX1_goOn_231 : decode cX1_goOn 231 = .ok (.iinc 1 1, 3) := dk_132 1 1 (dk_at dksX1_goOn_10 6 rfl rfl)
theorem dX1_goOn_234 : decode cX1_goOn 234 = .ok (.goto (-54), 3) := dk_167 255 202 (dk_at dksX1_goOn_10 9 rfl rfl)
theorem dX1_goOn_237 : decode cX1_goOn 237 = .ok (.iconst 0, 1) := dk_3 (dk_at dksX1_goOn_10 12 rfl rfl)
theorem dX1_goOn_238 : decode cX1_goOn 238 = .ok (.istore_n 1, 1) := dk_60 (dk_at dksX1_goOn_10 13 rfl rfl)
theorem dX1_goOn_239 : decode cX1_goOn 239 = .ok (.iload_n 1, 1) := dk_27 (dk_at dksX1_goOn_10 14 rfl rfl)
theorem dX1_goOn_240 : decode cX1_goOn 240 = .ok (.aload_n 0, 1) := dk_42 (dk_at dksX1_goOn_10 15 rfl rfl)
theorem dX1_goOn_241 : decode cX1_goOn 241 = .ok (.getfield 48, 3) := dk_180 0 48 (dk_at dksX1_goOn_10 16 rfl rfl)
theorem dX1_goOn_244 : decode cX1_goOn 244 = .ok (.if_icmp .ge 41, 3) := dk_162 0 41 (dk_at dksX1_goOn_10 19 rfl rfl)
theorem dX1_goOn_247 : decode cX1_goOn 247 = .ok (.aload_n 0, 1) := dk_42 (dk_at dksX1_goOn_10 22 rfl rfl)
theorem dX1_goOn_248 : decode cX1_goOn 248 = .ok (.getfield 31, 3) := dk_180 0 31 (dk_at dksX1_goOn_11 0 rfl rfl)
theorem dX1_goOn_251 : decode cX1_goOn 251 = .ok (.invokeinterface 175 1, 5) := by decide +kernel
theorem dX1_goOn_256 : decode cX1_goOn 256 = .ok (.ifCond .ne 29, 3) := dk_154 0 29 (dk_at dksX1_goOn_11 8 rfl rfl)
theorem dX1_goOn_259 : decode cX1_goOn 259 = .ok (.aload_n 0, 1) := dk_42 (dk_at dksX1_goOn_11 11 rfl rfl)
theorem dX1_goOn_260 : decode cX1_goOn 260 = .ok (.aload_n 0, 1) := dk_42 (dk_at dksX1_goOn_11 12 rfl rfl)
theorem dX1_goOn_261 : decode cX1_goOn 261 = .ok (.getfield 31, 3) := dk_180 0 31 (dk_at dksX1_goOn_11 13 rfl rfl)
theorem dX1_goOn_264 : decode cX1_goOn 264 = .ok (.aload_n 0, 1) := dk_42 (dk_at dksX1_goOn_11 16 rfl rfl)
theorem dX1_goOn_265 : decode cX1_goOn 265 = .ok (.invokevirtual 179, 3) := dk_182 0 179 (dk_at dksX1_goOn_11 17 rfl rfl)
theorem dX1_goOn_268 : decode cX1_goOn 268 = .ok (.invokeinterface 182 2, 5) := by decide +kernel
theorem dX1_goOn_273 : decode cX1_goOn 273 = .ok (.checkcast 164, 3) := dk_192 0 164 (dk_at dksX1_goOn_12 5 rfl rfl)
theorem dX1_goOn_276 : decode cX1_goOn 276 = .ok (.invokevirtual 185, 3) := dk_182 0 185 (dk_at dksX1_goOn_12 8 rfl rfl)
theorem dX1_goOn_279 : decode cX1_goOn 279 = .ok (.iinc 1 1, 3) := dk_132 1 1 (dk_at dksX1_goOn_12 11 rfl rfl)
theorem dX1_goOn_282 : decode cX1_goOn 282 = .ok (.goto (-43), 3) := dk_167 255 213 (dk_at dksX1_goOn_12 14 rfl rfl)
theorem dX1_goOn_285 : decode cX1_goOn 285 = .ok (.iload_n 1, 1) := dk_27 (dk_at dksX1_goOn_12 17 rfl rfl)
theorem dX1_goOn_286 : decode cX1_goOn 286 = .ok (.ireturn, 1) := dk_172 (dk_at dksX1_goOn_12 18 rfl rfl)
abbrev cX1_next : ByteArray := prog_1_method_19_code
def yX1_next : MethodName := ⟨RX1, "next", "()I"⟩
def dkwX1_next_1 : List UInt8 := [182, 0, 189, 162, 0, 7, 28, 167, 0, 4, 27, 60, 132, 2, 1, 167, 255, 221, 27, 172]
abbrev dktX1_next_1 : List UInt8 := dkwX1_next_1 ++ []
def dkwX1_next_0 : List UInt8 := [3, 60, 4, 61, 28, 42, 180, 0, 31, 185, 0, 64, 1, 0, 162, 0, 28, 42, 28, 182, 0, 189, 42, 27]
abbrev dktX1_next_0 : List UInt8 := dkwX1_next_0 ++ dktX1_next_1
theorem dksX1_next_0 : cX1_next.data.toList.drop 0 = dktX1_next_0 := by decide +kernel
theorem dksX1_next_1 : cX1_next.data.toList.drop 24 = dktX1_next_1 := dk_seg dksX1_next_0 24 rfl rfl
theorem dX1_next_0 : decode cX1_next 0 = .ok (.iconst 0, 1) := dk_3 (dk_at dksX1_next_0 0 rfl rfl)
theorem dX1_next_1 : decode cX1_next 1 = .ok (.istore_n 1, 1) := dk_60 (dk_at dksX1_next_0 1 rfl rfl)
theorem dX1_next_2 : decode cX1_next 2 = .ok (.iconst 1, 1) := dk_4 (dk_at dksX1_next_0 2 rfl rfl)
theorem dX1_next_3 : decode cX1_next 3 = .ok (.istore_n 2, 1) := dk_61 (dk_at dksX1_next_0 3 rfl rfl)
theorem dX1_next_4 : decode cX1_next 4 = .ok (.iload_n 2, 1) := dk_28 (dk_at dksX1_next_0 4 rfl rfl)
theorem dX1_next_5 : decode cX1_next 5 = .ok (.aload_n 0, 1) := dk_42 (dk_at dksX1_next_0 5 rfl rfl)
theorem dX1_next_6 : decode cX1_next 6 = .ok (.getfield 31, 3) := dk_180 0 31 (dk_at dksX1_next_0 6 rfl rfl)
theorem dX1_next_9 : decode cX1_next 9 = .ok (.invokeinterface 64 1, 5) := by decide +kernel
theorem dX1_next_14 : decode cX1_next 14 = .ok (.if_icmp .ge 28, 3) := dk_162 0 28 (dk_at dksX1_next_0 14 rfl rfl)
theorem dX1_next_17 : decode cX1_next 17 = .ok (.aload_n 0, 1) := dk_42 (dk_at dksX1_next_0 17 rfl rfl)
theorem dX1_next_18 : decode cX1_next 18 = .ok (.iload_n 2, 1) := dk_28 (dk_at dksX1_next_0 18 rfl rfl)
theorem dX1_next_19 : decode cX1_next 19 = .ok (.invokevirtual 189, 3) := dk_182 0 189 (dk_at dksX1_next_0 19 rfl rfl)
theorem dX1_next_22 : decode cX1_next 22 = .ok (.aload_n 0, 1) := dk_42 (dk_at dksX1_next_0 22 rfl rfl)
theorem dX1_next_23 : decode cX1_next 23 = .ok (.iload_n 1, 1) := dk_27 (dk_at dksX1_next_0 23 rfl rfl)
theorem dX1_next_24 : decode cX1_next 24 = .ok (.invokevirtual 189, 3) := dk_182 0 189 (dk_at dksX1_next_1 0 rfl rfl)
theorem dX1_next_27 : decode cX1_next 27 = .ok (.if_icmp .ge 7, 3) := dk_162 0 7 (dk_at dksX1_next_1 3 rfl rfl)
theorem dX1_next_30 : decode cX1_next 30 = .ok (.iload_n 2, 1) := dk_28 (dk_at dksX1_next_1 6 rfl rfl)
theorem dX1_next_31 : decode cX1_next 31 = .ok (.goto 4, 3) := dk_167 0 4 (dk_at dksX1_next_1 7 rfl rfl)
theorem dX1_next_34 : decode cX1_next 34 = .ok (.iload_n 1, 1) := dk_27 (dk_at dksX1_next_1 10 rfl rfl)
theorem dX1_next_35 : decode cX1_next 35 = .ok (.istore_n 1, 1) := dk_60 (dk_at dksX1_next_1 11 rfl rfl)
theorem dX1_next_36 : decode cX1_next 36 = .ok (.iinc 2 1, 3) := dk_132 2 1 (dk_at dksX1_next_1 12 rfl rfl)
theorem dX1_next_39 : decode cX1_next 39 = .ok (.goto (-35), 3) := dk_167 255 221 (dk_at dksX1_next_1 15 rfl rfl)
theorem dX1_next_42 : decode cX1_next 42 = .ok (.iload_n 1, 1) := dk_27 (dk_at dksX1_next_1 18 rfl rfl)
theorem dX1_next_43 : decode cX1_next 43 = .ok (.ireturn, 1) := dk_172 (dk_at dksX1_next_1 19 rfl rfl)
abbrev cX1_rankOf : ByteArray := prog_1_method_20_code
def yX1_rankOf : MethodName := ⟨RX1, "rankOf", "(I)I"⟩
def dkwX1_rankOf_1 : List UInt8 := [185, 0, 74, 2, 0, 192, 0, 84, 182, 0, 201, 172]
abbrev dktX1_rankOf_1 : List UInt8 := dkwX1_rankOf_1 ++ []
def dkwX1_rankOf_0 : List UInt8 := [42, 180, 0, 22, 42, 180, 0, 31, 27, 185, 0, 74, 2, 0, 192, 0, 164, 180, 0, 192, 180, 0, 196]
abbrev dktX1_rankOf_0 : List UInt8 := dkwX1_rankOf_0 ++ dktX1_rankOf_1
theorem dksX1_rankOf_0 : cX1_rankOf.data.toList.drop 0 = dktX1_rankOf_0 := by decide +kernel
theorem dksX1_rankOf_1 : cX1_rankOf.data.toList.drop 23 = dktX1_rankOf_1 := dk_seg dksX1_rankOf_0 23 rfl rfl
theorem dX1_rankOf_0 : decode cX1_rankOf 0 = .ok (.aload_n 0, 1) := dk_42 (dk_at dksX1_rankOf_0 0 rfl rfl)
theorem dX1_rankOf_1 : decode cX1_rankOf 1 = .ok (.getfield 22, 3) := dk_180 0 22 (dk_at dksX1_rankOf_0 1 rfl rfl)
theorem dX1_rankOf_4 : decode cX1_rankOf 4 = .ok (.aload_n 0, 1) := dk_42 (dk_at dksX1_rankOf_0 4 rfl rfl)
theorem dX1_rankOf_5 : decode cX1_rankOf 5 = .ok (.getfield 31, 3) := dk_180 0 31 (dk_at dksX1_rankOf_0 5 rfl rfl)
theorem dX1_rankOf_8 : decode cX1_rankOf 8 = .ok (.iload_n 1, 1) := dk_27 (dk_at dksX1_rankOf_0 8 rfl rfl)
theorem dX1_rankOf_9 : decode cX1_rankOf 9 = .ok (.invokeinterface 74 2, 5) := by decide +kernel
theorem dX1_rankOf_14 : decode cX1_rankOf 14 = .ok (.checkcast 164, 3) := dk_192 0 164 (dk_at dksX1_rankOf_0 14 rfl rfl)
theorem dX1_rankOf_17 : decode cX1_rankOf 17 = .ok (.getfield 192, 3) := dk_180 0 192 (dk_at dksX1_rankOf_0 17 rfl rfl)
theorem dX1_rankOf_20 : decode cX1_rankOf 20 = .ok (.getfield 196, 3) := dk_180 0 196 (dk_at dksX1_rankOf_0 20 rfl rfl)
theorem dX1_rankOf_23 : decode cX1_rankOf 23 = .ok (.invokeinterface 74 2, 5) := by decide +kernel
theorem dX1_rankOf_28 : decode cX1_rankOf 28 = .ok (.checkcast 84, 3) := dk_192 0 84 (dk_at dksX1_rankOf_1 5 rfl rfl)
theorem dX1_rankOf_31 : decode cX1_rankOf 31 = .ok (.invokevirtual 201, 3) := dk_182 0 201 (dk_at dksX1_rankOf_1 8 rfl rfl)
theorem dX1_rankOf_34 : decode cX1_rankOf 34 = .ok (.ireturn, 1) := dk_172 (dk_at dksX1_rankOf_1 11 rfl rfl)
abbrev cX1_arrive : ByteArray := prog_1_method_21_code
def yX1_arrive : MethodName := ⟨RX1, "arrive", "(LBloomclock$Trolley;)V"⟩
def dkwX1_arrive_3 : List UInt8 := [180, 0, 210, 96, 79, 177]
abbrev dktX1_arrive_3 : List UInt8 := dkwX1_arrive_3 ++ []
def dkwX1_arrive_2 : List UInt8 := [180, 0, 210, 96, 181, 0, 207, 167, 0, 22, 44, 180, 0, 213, 43, 180, 0, 216, 92, 46, 43, 180, 0, 192]
abbrev dktX1_arrive_2 : List UInt8 := dkwX1_arrive_2 ++ dktX1_arrive_3
def dkwX1_arrive_1 : List UInt8 := [2, 159, 0, 33, 44, 180, 0, 204, 42, 180, 0, 86, 162, 0, 22, 42, 89, 180, 0, 207, 43, 180, 0, 192]
abbrev dktX1_arrive_1 : List UInt8 := dkwX1_arrive_1 ++ dktX1_arrive_2
def dkwX1_arrive_0 : List UInt8 := [42, 180, 0, 22, 43, 180, 0, 192, 180, 0, 196, 185, 0, 74, 2, 0, 192, 0, 84, 77, 44, 180, 0, 204]
abbrev dktX1_arrive_0 : List UInt8 := dkwX1_arrive_0 ++ dktX1_arrive_1
theorem dksX1_arrive_0 : cX1_arrive.data.toList.drop 0 = dktX1_arrive_0 := by decide +kernel
theorem dksX1_arrive_1 : cX1_arrive.data.toList.drop 24 = dktX1_arrive_1 := dk_seg dksX1_arrive_0 24 rfl rfl
theorem dksX1_arrive_2 : cX1_arrive.data.toList.drop 48 = dktX1_arrive_2 := dk_seg dksX1_arrive_1 24 rfl rfl
theorem dksX1_arrive_3 : cX1_arrive.data.toList.drop 72 = dktX1_arrive_3 := dk_seg dksX1_arrive_2 24 rfl rfl
theorem dX1_arrive_0 : decode cX1_arrive 0 = .ok (.aload_n 0, 1) := dk_42 (dk_at dksX1_arrive_0 0 rfl rfl)
theorem dX1_arrive_1 : decode cX1_arrive 1 = .ok (.getfield 22, 3) := dk_180 0 22 (dk_at dksX1_arrive_0 1 rfl rfl)
theorem dX1_arrive_4 : decode cX1_arrive 4 = .ok (.aload_n 1, 1) := dk_43 (dk_at dksX1_arrive_0 4 rfl rfl)
theorem dX1_arrive_5 : decode cX1_arrive 5 = .ok (.getfield 192, 3) := dk_180 0 192 (dk_at dksX1_arrive_0 5 rfl rfl)
theorem dX1_arrive_8 : decode cX1_arrive 8 = .ok (.getfield 196, 3) := dk_180 0 196 (dk_at dksX1_arrive_0 8 rfl rfl)
theorem dX1_arrive_11 : decode cX1_arrive 11 = .ok (.invokeinterface 74 2, 5) := by decide +kernel
theorem dX1_arrive_16 : decode cX1_arrive 16 = .ok (.checkcast 84, 3) := dk_192 0 84 (dk_at dksX1_arrive_0 16 rfl rfl)
theorem dX1_arrive_19 : decode cX1_arrive 19 = .ok (.astore_n 2, 1) := dk_77 (dk_at dksX1_arrive_0 19 rfl rfl)
theorem dX1_arrive_20 : decode cX1_arrive 20 = .ok (.aload_n 2, 1) := dk_44 (dk_at dksX1_arrive_0 20 rfl rfl)
theorem dX1_arrive_21 : decode cX1_arrive 21 = .ok (.getfield 204, 3) := dk_180 0 204 (dk_at dksX1_arrive_0 21 rfl rfl)
theorem dX1_arrive_24 : decode cX1_arrive 24 = .ok (.iconst (-1), 1) := dk_2 (dk_at dksX1_arrive_1 0 rfl rfl)
theorem dX1_arrive_25 : decode cX1_arrive 25 = .ok (.if_icmp .eq 33, 3) := dk_159 0 33 (dk_at dksX1_arrive_1 1 rfl rfl)
theorem dX1_arrive_28 : decode cX1_arrive 28 = .ok (.aload_n 2, 1) := dk_44 (dk_at dksX1_arrive_1 4 rfl rfl)
theorem dX1_arrive_29 : decode cX1_arrive 29 = .ok (.getfield 204, 3) := dk_180 0 204 (dk_at dksX1_arrive_1 5 rfl rfl)
theorem dX1_arrive_32 : decode cX1_arrive 32 = .ok (.aload_n 0, 1) := dk_42 (dk_at dksX1_arrive_1 8 rfl rfl)
theorem dX1_arrive_33 : decode cX1_arrive 33 = .ok (.getfield 86, 3) := dk_180 0 86 (dk_at dksX1_arrive_1 9 rfl rfl)
theorem dX1_arrive_36 : decode cX1_arrive 36 = .ok (.if_icmp .ge 22, 3) := dk_162 0 22 (dk_at dksX1_arrive_1 12 rfl rfl)
theorem dX1_arrive_39 : decode cX1_arrive 39 = .ok (.aload_n 0, 1) := dk_42 (dk_at dksX1_arrive_1 15 rfl rfl)
theorem dX1_arrive_40 : decode cX1_arrive 40 = .ok (.dup, 1) := dk_89 (dk_at dksX1_arrive_1 16 rfl rfl)
theorem dX1_arrive_41 : decode cX1_arrive 41 = .ok (.getfield 207, 3) := dk_180 0 207 (dk_at dksX1_arrive_1 17 rfl rfl)
theorem dX1_arrive_44 : decode cX1_arrive 44 = .ok (.aload_n 1, 1) := dk_43 (dk_at dksX1_arrive_1 20 rfl rfl)
theorem dX1_arrive_45 : decode cX1_arrive 45 = .ok (.getfield 192, 3) := dk_180 0 192 (dk_at dksX1_arrive_1 21 rfl rfl)
theorem dX1_arrive_48 : decode cX1_arrive 48 = .ok (.getfield 210, 3) := dk_180 0 210 (dk_at dksX1_arrive_2 0 rfl rfl)
theorem dX1_arrive_51 : decode cX1_arrive 51 = .ok (.iadd, 1) := dk_96 (dk_at dksX1_arrive_2 3 rfl rfl)
theorem dX1_arrive_52 : decode cX1_arrive 52 = .ok (.putfield 207, 3) := dk_181 0 207 (dk_at dksX1_arrive_2 4 rfl rfl)
theorem dX1_arrive_55 : decode cX1_arrive 55 = .ok (.goto 22, 3) := dk_167 0 22 (dk_at dksX1_arrive_2 7 rfl rfl)
theorem dX1_arrive_58 : decode cX1_arrive 58 = .ok (.aload_n 2, 1) := dk_44 (dk_at dksX1_arrive_2 10 rfl rfl)
theorem dX1_arrive_59 : decode cX1_arrive 59 = .ok (.getfield 213, 3) := dk_180 0 213 (dk_at dksX1_arrive_2 11 rfl rfl)
theorem dX1_arrive_62 : decode cX1_arrive 62 = .ok (.aload_n 1, 1) := dk_43 (dk_at dksX1_arrive_2 14 rfl rfl)
theorem dX1_arrive_63 : decode cX1_arrive 63 = .ok (.getfield 216, 3) := dk_180 0 216 (dk_at dksX1_arrive_2 15 rfl rfl)
theorem dX1_arrive_66 : decode cX1_arrive 66 = .ok (.dup2, 1) := dk_92 (dk_at dksX1_arrive_2 18 rfl rfl)
theorem dX1_arrive_67 : decode cX1_arrive 67 = .ok (.iaload, 1) := dk_46 (dk_at dksX1_arrive_2 19 rfl rfl)
theorem dX1_arrive_68 : decode cX1_arrive 68 = .ok (.aload_n 1, 1) := dk_43 (dk_at dksX1_arrive_2 20 rfl rfl)
theorem dX1_arrive_69 : decode cX1_arrive 69 = .ok (.getfield 192, 3) := dk_180 0 192 (dk_at dksX1_arrive_2 21 rfl rfl)
theorem dX1_arrive_72 : decode cX1_arrive 72 = .ok (.getfield 210, 3) := dk_180 0 210 (dk_at dksX1_arrive_3 0 rfl rfl)
theorem dX1_arrive_75 : decode cX1_arrive 75 = .ok (.iadd, 1) := dk_96 (dk_at dksX1_arrive_3 3 rfl rfl)
theorem dX1_arrive_76 : decode cX1_arrive 76 = .ok (.iastore, 1) := dk_79 (dk_at dksX1_arrive_3 4 rfl rfl)
theorem dX1_arrive_77 : decode cX1_arrive 77 = .ok (.return_, 1) := dk_177 (dk_at dksX1_arrive_3 5 rfl rfl)
abbrev cX1_bring : ByteArray := prog_1_method_22_code
def yX1_bring : MethodName := ⟨RX1, "bring", "(III)I"⟩
def dkwX1_bring_6 : List UInt8 := [180, 0, 240, 27, 79, 42, 89, 180, 0, 240, 4, 96, 181, 0, 240, 42, 180, 0, 240, 172]
abbrev dktX1_bring_6 : List UInt8 := dkwX1_bring_6 ++ []
def dkwX1_bring_5 : List UInt8 := [28, 181, 0, 231, 25, 4, 29, 181, 0, 234, 25, 4, 178, 0, 142, 181, 0, 237, 42, 180, 0, 34, 42]
abbrev dktX1_bring_5 : List UInt8 := dkwX1_bring_5 ++ dktX1_bring_6
def dkwX1_bring_4 : List UInt8 := [184, 0, 89, 25, 5, 25, 4, 180, 0, 220, 25, 4, 180, 0, 227, 42, 182, 0, 221, 182, 0, 228, 25, 4]
abbrev dktX1_bring_4 : List UInt8 := dkwX1_bring_4 ++ dktX1_bring_5
def dkwX1_bring_3 : List UInt8 := [180, 0, 227, 96, 42, 180, 0, 38, 25, 4, 180, 0, 220, 46, 163, 0, 7, 4, 167, 0, 4, 3]
abbrev dktX1_bring_3 : List UInt8 := dkwX1_bring_3 ++ dktX1_bring_4
def dkwX1_bring_2 : List UInt8 := [182, 0, 138, 153, 0, 40, 25, 5, 25, 4, 180, 0, 220, 42, 182, 0, 221, 182, 0, 224, 25, 4]
abbrev dktX1_bring_2 : List UInt8 := dkwX1_bring_2 ++ dktX1_bring_3
def dkwX1_bring_1 : List UInt8 := [180, 0, 12, 25, 4, 180, 0, 219, 185, 0, 74, 2, 0, 192, 0, 78, 58, 5, 25, 4, 178, 0, 132]
abbrev dktX1_bring_1 : List UInt8 := dkwX1_bring_1 ++ dktX1_bring_2
def dkwX1_bring_0 : List UInt8 := [42, 27, 182, 0, 128, 58, 4, 28, 3, 16, 110, 184, 0, 101, 29, 4, 16, 99, 184, 0, 101, 42]
abbrev dktX1_bring_0 : List UInt8 := dkwX1_bring_0 ++ dktX1_bring_1
theorem dksX1_bring_0 : cX1_bring.data.toList.drop 0 = dktX1_bring_0 := by decide +kernel
theorem dksX1_bring_1 : cX1_bring.data.toList.drop 22 = dktX1_bring_1 := dk_seg dksX1_bring_0 22 rfl rfl
theorem dksX1_bring_2 : cX1_bring.data.toList.drop 45 = dktX1_bring_2 := dk_seg dksX1_bring_1 23 rfl rfl
theorem dksX1_bring_3 : cX1_bring.data.toList.drop 67 = dktX1_bring_3 := dk_seg dksX1_bring_2 22 rfl rfl
theorem dksX1_bring_4 : cX1_bring.data.toList.drop 89 = dktX1_bring_4 := dk_seg dksX1_bring_3 22 rfl rfl
theorem dksX1_bring_5 : cX1_bring.data.toList.drop 113 = dktX1_bring_5 := dk_seg dksX1_bring_4 24 rfl rfl
theorem dksX1_bring_6 : cX1_bring.data.toList.drop 136 = dktX1_bring_6 := dk_seg dksX1_bring_5 23 rfl rfl
theorem dX1_bring_0 : decode cX1_bring 0 = .ok (.aload_n 0, 1) := dk_42 (dk_at dksX1_bring_0 0 rfl rfl)
theorem dX1_bring_1 : decode cX1_bring 1 = .ok (.iload_n 1, 1) := dk_27 (dk_at dksX1_bring_0 1 rfl rfl)
theorem dX1_bring_2 : decode cX1_bring 2 = .ok (.invokevirtual 128, 3) := dk_182 0 128 (dk_at dksX1_bring_0 2 rfl rfl)
theorem dX1_bring_5 : decode cX1_bring 5 = .ok (.astore 4, 2) := dk_58 4 (dk_at dksX1_bring_0 5 rfl rfl)
theorem dX1_bring_7 : decode cX1_bring 7 = .ok (.iload_n 2, 1) := dk_28 (dk_at dksX1_bring_0 7 rfl rfl)
theorem dX1_bring_8 : decode cX1_bring 8 = .ok (.iconst 0, 1) := dk_3 (dk_at dksX1_bring_0 8 rfl rfl)
theorem dX1_bring_9 : decode cX1_bring 9 = .ok (.bipush 110, 2) := dk_16 110 (dk_at dksX1_bring_0 9 rfl rfl)
theorem dX1_bring_11 : decode cX1_bring 11 = .ok (.invokestatic 101, 3) := dk_184 0 101 (dk_at dksX1_bring_0 11 rfl rfl)
theorem dX1_bring_14 : decode cX1_bring 14 = .ok (.iload_n 3, 1) := dk_29 (dk_at dksX1_bring_0 14 rfl rfl)
theorem dX1_bring_15 : decode cX1_bring 15 = .ok (.iconst 1, 1) := dk_4 (dk_at dksX1_bring_0 15 rfl rfl)
theorem dX1_bring_16 : decode cX1_bring 16 = .ok (.bipush 99, 2) := dk_16 99 (dk_at dksX1_bring_0 16 rfl rfl)
theorem dX1_bring_18 : decode cX1_bring 18 = .ok (.invokestatic 101, 3) := dk_184 0 101 (dk_at dksX1_bring_0 18 rfl rfl)
theorem dX1_bring_21 : decode cX1_bring 21 = .ok (.aload_n 0, 1) := dk_42 (dk_at dksX1_bring_0 21 rfl rfl)
theorem dX1_bring_22 : decode cX1_bring 22 = .ok (.getfield 12, 3) := dk_180 0 12 (dk_at dksX1_bring_1 0 rfl rfl)
theorem dX1_bring_25 : decode cX1_bring 25 = .ok (.aload 4, 2) := dk_25 4 (dk_at dksX1_bring_1 3 rfl rfl)
theorem dX1_bring_27 : decode cX1_bring 27 = .ok (.getfield 219, 3) := dk_180 0 219 (dk_at dksX1_bring_1 5 rfl rfl)
theorem dX1_bring_30 : decode cX1_bring 30 = .ok (.invokeinterface 74 2, 5) := by decide +kernel
theorem dX1_bring_35 : decode cX1_bring 35 = .ok (.checkcast 78, 3) := dk_192 0 78 (dk_at dksX1_bring_1 13 rfl rfl)
theorem dX1_bring_38 : decode cX1_bring 38 = .ok (.astore 5, 2) := dk_58 5 (dk_at dksX1_bring_1 16 rfl rfl)
theorem dX1_bring_40 : decode cX1_bring 40 = .ok (.aload 4, 2) := dk_25 4 (dk_at dksX1_bring_1 18 rfl rfl)
theorem dX1_bring_42 : decode cX1_bring 42 = .ok (.getstatic 132, 3) := dk_178 0 132 (dk_at dksX1_bring_1 20 rfl rfl)
theorem dX1_bring_45 : decode cX1_bring 45 = .ok (.invokevirtual 138, 3) := dk_182 0 138 (dk_at dksX1_bring_2 0 rfl rfl)
theorem dX1_bring_48 : decode cX1_bring 48 = .ok (.ifCond .eq 40, 3) := dk_153 0 40 (dk_at dksX1_bring_2 3 rfl rfl)
theorem dX1_bring_51 : decode cX1_bring 51 = .ok (.aload 5, 2) := dk_25 5 (dk_at dksX1_bring_2 6 rfl rfl)
theorem dX1_bring_53 : decode cX1_bring 53 = .ok (.aload 4, 2) := dk_25 4 (dk_at dksX1_bring_2 8 rfl rfl)
theorem dX1_bring_55 : decode cX1_bring 55 = .ok (.getfield 220, 3) := dk_180 0 220 (dk_at dksX1_bring_2 10 rfl rfl)
theorem dX1_bring_58 : decode cX1_bring 58 = .ok (.aload_n 0, 1) := dk_42 (dk_at dksX1_bring_2 13 rfl rfl)
theorem dX1_bring_59 : decode cX1_bring 59 = .ok (.invokevirtual 221, 3) := dk_182 0 221 (dk_at dksX1_bring_2 14 rfl rfl)
theorem dX1_bring_62 : decode cX1_bring 62 = .ok (.invokevirtual 224, 3) := dk_182 0 224 (dk_at dksX1_bring_2 17 rfl rfl)
theorem dX1_bring_65 : decode cX1_bring 65 = .ok (.aload 4, 2) := dk_25 4 (dk_at dksX1_bring_2 20 rfl rfl)
theorem dX1_bring_67 : decode cX1_bring 67 = .ok (.getfield 227, 3) := dk_180 0 227 (dk_at dksX1_bring_3 0 rfl rfl)
theorem dX1_bring_70 : decode cX1_bring 70 = .ok (.iadd, 1) := dk_96 (dk_at dksX1_bring_3 3 rfl rfl)
theorem dX1_bring_71 : decode cX1_bring 71 = .ok (.aload_n 0, 1) := dk_42 (dk_at dksX1_bring_3 4 rfl rfl)
theorem dX1_bring_72 : decode cX1_bring 72 = .ok (.getfield 38, 3) := dk_180 0 38 (dk_at dksX1_bring_3 5 rfl rfl)
theorem dX1_bring_75 : decode cX1_bring 75 = .ok (.aload 4, 2) := dk_25 4 (dk_at dksX1_bring_3 8 rfl rfl)
theorem dX1_bring_77 : decode cX1_bring 77 = .ok (.getfield 220, 3) := dk_180 0 220 (dk_at dksX1_bring_3 10 rfl rfl)
theorem dX1_bring_80 : decode cX1_bring 80 = .ok (.iaload, 1) := dk_46 (dk_at dksX1_bring_3 13 rfl rfl)
theorem dX1_bring_81 : decode cX1_bring 81 = .ok (.if_icmp .gt 7, 3) := dk_163 0 7 (dk_at dksX1_bring_3 14 rfl rfl)
theorem dX1_bring_84 : decode cX1_bring 84 = .ok (.iconst 1, 1) := dk_4 (dk_at dksX1_bring_3 17 rfl rfl)
theorem dX1_bring_85 : decode cX1_bring 85 = .ok (.goto 4, 3) := dk_167 0 4 (dk_at dksX1_bring_3 18 rfl rfl)
theorem dX1_bring_88 : decode cX1_bring 88 = .ok (.iconst 0, 1) := dk_3 (dk_at dksX1_bring_3 21 rfl rfl)
theorem dX1_bring_89 : decode cX1_bring 89 = .ok (.invokestatic 89, 3) := dk_184 0 89 (dk_at dksX1_bring_4 0 rfl rfl)
theorem dX1_bring_92 : decode cX1_bring 92 = .ok (.aload 5, 2) := dk_25 5 (dk_at dksX1_bring_4 3 rfl rfl)
theorem dX1_bring_94 : decode cX1_bring 94 = .ok (.aload 4, 2) := dk_25 4 (dk_at dksX1_bring_4 5 rfl rfl)
theorem dX1_bring_96 : decode cX1_bring 96 = .ok (.getfield 220, 3) := dk_180 0 220 (dk_at dksX1_bring_4 7 rfl rfl)
theorem dX1_bring_99 : decode cX1_bring 99 = .ok (.aload 4, 2) := dk_25 4 (dk_at dksX1_bring_4 10 rfl rfl)
theorem dX1_bring_101 : decode cX1_bring 101 = .ok (.getfield 227, 3) := dk_180 0 227 (dk_at dksX1_bring_4 12 rfl rfl)
theorem dX1_bring_104 : decode cX1_bring 104 = .ok (.aload_n 0, 1) := dk_42 (dk_at dksX1_bring_4 15 rfl rfl)
theorem dX1_bring_105 : decode cX1_bring 105 = .ok (.invokevirtual 221, 3) := dk_182 0 221 (dk_at dksX1_bring_4 16 rfl rfl)
theorem dX1_bring_108 : decode cX1_bring 108 = .ok (.invokevirtual 228, 3) := dk_182 0 228 (dk_at dksX1_bring_4 19 rfl rfl)
theorem dX1_bring_111 : decode cX1_bring 111 = .ok (.aload 4, 2) := dk_25 4 (dk_at dksX1_bring_4 22 rfl rfl)
theorem dX1_bring_113 : decode cX1_bring 113 = .ok (.iload_n 2, 1) := dk_28 (dk_at dksX1_bring_5 0 rfl rfl)
theorem dX1_bring_114 : decode cX1_bring 114 = .ok (.putfield 231, 3) := dk_181 0 231 (dk_at dksX1_bring_5 1 rfl rfl)
theorem dX1_bring_117 : decode cX1_bring 117 = .ok (.aload 4, 2) := dk_25 4 (dk_at dksX1_bring_5 4 rfl rfl)
theorem dX1_bring_119 : decode cX1_bring 119 = .ok (.iload_n 3, 1) := dk_29 (dk_at dksX1_bring_5 6 rfl rfl)
theorem dX1_bring_120 : decode cX1_bring 120 = .ok (.putfield 234, 3) := dk_181 0 234 (dk_at dksX1_bring_5 7 rfl rfl)
theorem dX1_bring_123 : decode cX1_bring 123 = .ok (.aload 4, 2) := dk_25 4 (dk_at dksX1_bring_5 10 rfl rfl)
theorem dX1_bring_125 : decode cX1_bring 125 = .ok (.getstatic 142, 3) := dk_178 0 142 (dk_at dksX1_bring_5 12 rfl rfl)
theorem dX1_bring_128 : decode cX1_bring 128 = .ok (.putfield 237, 3) := dk_181 0 237 (dk_at dksX1_bring_5 15 rfl rfl)
theorem dX1_bring_131 : decode cX1_bring 131 = .ok (.aload_n 0, 1) := dk_42 (dk_at dksX1_bring_5 18 rfl rfl)
theorem dX1_bring_132 : decode cX1_bring 132 = .ok (.getfield 34, 3) := dk_180 0 34 (dk_at dksX1_bring_5 19 rfl rfl)
theorem dX1_bring_135 : decode cX1_bring 135 = .ok (.aload_n 0, 1) := dk_42 (dk_at dksX1_bring_5 22 rfl rfl)
theorem dX1_bring_136 : decode cX1_bring 136 = .ok (.getfield 240, 3) := dk_180 0 240 (dk_at dksX1_bring_6 0 rfl rfl)
theorem dX1_bring_139 : decode cX1_bring 139 = .ok (.iload_n 1, 1) := dk_27 (dk_at dksX1_bring_6 3 rfl rfl)
theorem dX1_bring_140 : decode cX1_bring 140 = .ok (.iastore, 1) := dk_79 (dk_at dksX1_bring_6 4 rfl rfl)
theorem dX1_bring_141 : decode cX1_bring 141 = .ok (.aload_n 0, 1) := dk_42 (dk_at dksX1_bring_6 5 rfl rfl)
theorem dX1_bring_142 : decode cX1_bring 142 = .ok (.dup, 1) := dk_89 (dk_at dksX1_bring_6 6 rfl rfl)
theorem dX1_bring_143 : decode cX1_bring 143 = .ok (.getfield 240, 3) := dk_180 0 240 (dk_at dksX1_bring_6 7 rfl rfl)
theorem dX1_bring_146 : decode cX1_bring 146 = .ok (.iconst 1, 1) := dk_4 (dk_at dksX1_bring_6 10 rfl rfl)
theorem dX1_bring_147 : decode cX1_bring 147 = .ok (.iadd, 1) := dk_96 (dk_at dksX1_bring_6 11 rfl rfl)
theorem dX1_bring_148 : decode cX1_bring 148 = .ok (.putfield 240, 3) := dk_181 0 240 (dk_at dksX1_bring_6 12 rfl rfl)
theorem dX1_bring_151 : decode cX1_bring 151 = .ok (.aload_n 0, 1) := dk_42 (dk_at dksX1_bring_6 15 rfl rfl)
theorem dX1_bring_152 : decode cX1_bring 152 = .ok (.getfield 240, 3) := dk_180 0 240 (dk_at dksX1_bring_6 16 rfl rfl)
theorem dX1_bring_155 : decode cX1_bring 155 = .ok (.ireturn, 1) := dk_172 (dk_at dksX1_bring_6 19 rfl rfl)
abbrev cX1_inspect : ByteArray := prog_1_method_23_code
def yX1_inspect : MethodName := ⟨RX1, "inspect", "(I)I"⟩
def dkwX1_inspect_2 : List UInt8 := [182, 0, 244, 44, 44, 180, 0, 243, 181, 0, 231, 167, 0, 8, 45, 5, 182, 0, 244, 45, 180, 0, 247, 172]
abbrev dktX1_inspect_2 : List UInt8 := dkwX1_inspect_2 ++ []
def dkwX1_inspect_1 : List UInt8 := [185, 0, 74, 2, 0, 192, 0, 78, 78, 44, 180, 0, 231, 44, 180, 0, 243, 164, 0, 20, 45, 16, 246]
abbrev dktX1_inspect_1 : List UInt8 := dkwX1_inspect_1 ++ dktX1_inspect_2
def dkwX1_inspect_0 : List UInt8 := [42, 27, 182, 0, 128, 77, 44, 178, 0, 142, 182, 0, 138, 184, 0, 89, 42, 180, 0, 12, 44, 180, 0, 219]
abbrev dktX1_inspect_0 : List UInt8 := dkwX1_inspect_0 ++ dktX1_inspect_1
theorem dksX1_inspect_0 : cX1_inspect.data.toList.drop 0 = dktX1_inspect_0 := by decide +kernel
theorem dksX1_inspect_1 : cX1_inspect.data.toList.drop 24 = dktX1_inspect_1 := dk_seg dksX1_inspect_0 24 rfl rfl
theorem dksX1_inspect_2 : cX1_inspect.data.toList.drop 47 = dktX1_inspect_2 := dk_seg dksX1_inspect_1 23 rfl rfl
theorem dX1_inspect_0 : decode cX1_inspect 0 = .ok (.aload_n 0, 1) := dk_42 (dk_at dksX1_inspect_0 0 rfl rfl)
theorem dX1_inspect_1 : decode cX1_inspect 1 = .ok (.iload_n 1, 1) := dk_27 (dk_at dksX1_inspect_0 1 rfl rfl)
theorem dX1_inspect_2 : decode cX1_inspect 2 = .ok (.invokevirtual 128, 3) := dk_182 0 128 (dk_at dksX1_inspect_0 2 rfl rfl)
theorem dX1_inspect_5 : decode cX1_inspect 5 = .ok (.astore_n 2, 1) := dk_77 (dk_at dksX1_inspect_0 5 rfl rfl)
theorem dX1_inspect_6 : decode cX1_inspect 6 = .ok (.aload_n 2, 1) := dk_44 (dk_at dksX1_inspect_0 6 rfl rfl)
theorem dX1_inspect_7 : decode cX1_inspect 7 = .ok (.getstatic 142, 3) := dk_178 0 142 (dk_at dksX1_inspect_0 7 rfl rfl)
theorem dX1_inspect_10 : decode cX1_inspect 10 = .ok (.invokevirtual 138, 3) := dk_182 0 138 (dk_at dksX1_inspect_0 10 rfl rfl)
theorem dX1_inspect_13 : decode cX1_inspect 13 = .ok (.invokestatic 89, 3) := dk_184 0 89 (dk_at dksX1_inspect_0 13 rfl rfl)
theorem dX1_inspect_16 : decode cX1_inspect 16 = .ok (.aload_n 0, 1) := dk_42 (dk_at dksX1_inspect_0 16 rfl rfl)
theorem dX1_inspect_17 : decode cX1_inspect 17 = .ok (.getfield 12, 3) := dk_180 0 12 (dk_at dksX1_inspect_0 17 rfl rfl)
theorem dX1_inspect_20 : decode cX1_inspect 20 = .ok (.aload_n 2, 1) := dk_44 (dk_at dksX1_inspect_0 20 rfl rfl)
theorem dX1_inspect_21 : decode cX1_inspect 21 = .ok (.getfield 219, 3) := dk_180 0 219 (dk_at dksX1_inspect_0 21 rfl rfl)
theorem dX1_inspect_24 : decode cX1_inspect 24 = .ok (.invokeinterface 74 2, 5) := by decide +kernel
theorem dX1_inspect_29 : decode cX1_inspect 29 = .ok (.checkcast 78, 3) := dk_192 0 78 (dk_at dksX1_inspect_1 5 rfl rfl)
theorem dX1_inspect_32 : decode cX1_inspect 32 = .ok (.astore_n 3, 1) := dk_78 (dk_at dksX1_inspect_1 8 rfl rfl)
theorem dX1_inspect_33 : decode cX1_inspect 33 = .ok (.aload_n 2, 1) := dk_44 (dk_at dksX1_inspect_1 9 rfl rfl)
theorem dX1_inspect_34 : decode cX1_inspect 34 = .ok (.getfield 231, 3) := dk_180 0 231 (dk_at dksX1_inspect_1 10 rfl rfl)
theorem dX1_inspect_37 : decode cX1_inspect 37 = .ok (.aload_n 2, 1) := dk_44 (dk_at dksX1_inspect_1 13 rfl rfl)
theorem dX1_inspect_38 : decode cX1_inspect 38 = .ok (.getfield 243, 3) := dk_180 0 243 (dk_at dksX1_inspect_1 14 rfl rfl)
theorem dX1_inspect_41 : decode cX1_inspect 41 = .ok (.if_icmp .le 20, 3) := dk_164 0 20 (dk_at dksX1_inspect_1 17 rfl rfl)
theorem dX1_inspect_44 : decode cX1_inspect 44 = .ok (.aload_n 3, 1) := dk_45 (dk_at dksX1_inspect_1 20 rfl rfl)
theorem dX1_inspect_45 : decode cX1_inspect 45 = .ok (.bipush (-10), 2) := dk_16 246 (dk_at dksX1_inspect_1 21 rfl rfl)
theorem dX1_inspect_47 : decode cX1_inspect 47 = .ok (.invokevirtual 244, 3) := dk_182 0 244 (dk_at dksX1_inspect_2 0 rfl rfl)
theorem dX1_inspect_50 : decode cX1_inspect 50 = .ok (.aload_n 2, 1) := dk_44 (dk_at dksX1_inspect_2 3 rfl rfl)
theorem dX1_inspect_51 : decode cX1_inspect 51 = .ok (.aload_n 2, 1) := dk_44 (dk_at dksX1_inspect_2 4 rfl rfl)
theorem dX1_inspect_52 : decode cX1_inspect 52 = .ok (.getfield 243, 3) := dk_180 0 243 (dk_at dksX1_inspect_2 5 rfl rfl)
theorem dX1_inspect_55 : decode cX1_inspect 55 = .ok (.putfield 231, 3) := dk_181 0 231 (dk_at dksX1_inspect_2 8 rfl rfl)
theorem dX1_inspect_58 : decode cX1_inspect 58 = .ok (.goto 8, 3) := dk_167 0 8 (dk_at dksX1_inspect_2 11 rfl rfl)
theorem dX1_inspect_61 : decode cX1_inspect 61 = .ok (.aload_n 3, 1) := dk_45 (dk_at dksX1_inspect_2 14 rfl rfl)
theorem dX1_inspect_62 : decode cX1_inspect 62 = .ok (.iconst 2, 1) := dk_5 (dk_at dksX1_inspect_2 15 rfl rfl)
theorem dX1_inspect_63 : decode cX1_inspect 63 = .ok (.invokevirtual 244, 3) := dk_182 0 244 (dk_at dksX1_inspect_2 16 rfl rfl)
theorem dX1_inspect_66 : decode cX1_inspect 66 = .ok (.aload_n 3, 1) := dk_45 (dk_at dksX1_inspect_2 19 rfl rfl)
theorem dX1_inspect_67 : decode cX1_inspect 67 = .ok (.getfield 247, 3) := dk_180 0 247 (dk_at dksX1_inspect_2 20 rfl rfl)
theorem dX1_inspect_70 : decode cX1_inspect 70 = .ok (.ireturn, 1) := dk_172 (dk_at dksX1_inspect_2 23 rfl rfl)
abbrev cX1_buyer : ByteArray := prog_1_method_24_code
def yX1_buyer : MethodName := ⟨RX1, "buyer", "(I)I"⟩
def dkwX1_buyer_2 : List UInt8 := [180, 0, 22, 185, 0, 64, 1, 0, 4, 100, 172]
abbrev dktX1_buyer_2 : List UInt8 := dkwX1_buyer_2 ++ []
def dkwX1_buyer_1 : List UInt8 := [3, 184, 0, 89, 42, 180, 0, 22, 187, 0, 84, 89, 27, 183, 0, 249, 185, 0, 93, 2, 0, 87, 42]
abbrev dktX1_buyer_1 : List UInt8 := dkwX1_buyer_1 ++ dktX1_buyer_2
def dkwX1_buyer_0 : List UInt8 := [27, 3, 16, 9, 184, 0, 101, 42, 180, 0, 22, 185, 0, 64, 1, 0, 7, 162, 0, 7, 4, 167, 0, 4]
abbrev dktX1_buyer_0 : List UInt8 := dkwX1_buyer_0 ++ dktX1_buyer_1
theorem dksX1_buyer_0 : cX1_buyer.data.toList.drop 0 = dktX1_buyer_0 := by decide +kernel
theorem dksX1_buyer_1 : cX1_buyer.data.toList.drop 24 = dktX1_buyer_1 := dk_seg dksX1_buyer_0 24 rfl rfl
theorem dksX1_buyer_2 : cX1_buyer.data.toList.drop 47 = dktX1_buyer_2 := dk_seg dksX1_buyer_1 23 rfl rfl
theorem dX1_buyer_0 : decode cX1_buyer 0 = .ok (.iload_n 1, 1) := dk_27 (dk_at dksX1_buyer_0 0 rfl rfl)
theorem dX1_buyer_1 : decode cX1_buyer 1 = .ok (.iconst 0, 1) := dk_3 (dk_at dksX1_buyer_0 1 rfl rfl)
theorem dX1_buyer_2 : decode cX1_buyer 2 = .ok (.bipush 9, 2) := dk_16 9 (dk_at dksX1_buyer_0 2 rfl rfl)
theorem dX1_buyer_4 : decode cX1_buyer 4 = .ok (.invokestatic 101, 3) := dk_184 0 101 (dk_at dksX1_buyer_0 4 rfl rfl)
theorem dX1_buyer_7 : decode cX1_buyer 7 = .ok (.aload_n 0, 1) := dk_42 (dk_at dksX1_buyer_0 7 rfl rfl)
theorem dX1_buyer_8 : decode cX1_buyer 8 = .ok (.getfield 22, 3) := dk_180 0 22 (dk_at dksX1_buyer_0 8 rfl rfl)
theorem dX1_buyer_11 : decode cX1_buyer 11 = .ok (.invokeinterface 64 1, 5) := by decide +kernel
theorem dX1_buyer_16 : decode cX1_buyer 16 = .ok (.iconst 4, 1) := dk_7 (dk_at dksX1_buyer_0 16 rfl rfl)
theorem dX1_buyer_17 : decode cX1_buyer 17 = .ok (.if_icmp .ge 7, 3) := dk_162 0 7 (dk_at dksX1_buyer_0 17 rfl rfl)
theorem dX1_buyer_20 : decode cX1_buyer 20 = .ok (.iconst 1, 1) := dk_4 (dk_at dksX1_buyer_0 20 rfl rfl)
theorem dX1_buyer_21 : decode cX1_buyer 21 = .ok (.goto 4, 3) := dk_167 0 4 (dk_at dksX1_buyer_0 21 rfl rfl)
theorem dX1_buyer_24 : decode cX1_buyer 24 = .ok (.iconst 0, 1) := dk_3 (dk_at dksX1_buyer_1 0 rfl rfl)
theorem dX1_buyer_25 : decode cX1_buyer 25 = .ok (.invokestatic 89, 3) := dk_184 0 89 (dk_at dksX1_buyer_1 1 rfl rfl)
theorem dX1_buyer_28 : decode cX1_buyer 28 = .ok (.aload_n 0, 1) := dk_42 (dk_at dksX1_buyer_1 4 rfl rfl)
theorem dX1_buyer_29 : decode cX1_buyer 29 = .ok (.getfield 22, 3) := dk_180 0 22 (dk_at dksX1_buyer_1 5 rfl rfl)
theorem dX1_buyer_32 : decode cX1_buyer 32 = .ok (.new 84, 3) := dk_187 0 84 (dk_at dksX1_buyer_1 8 rfl rfl)
theorem dX1_buyer_35 : decode cX1_buyer 35 = .ok (.dup, 1) := dk_89 (dk_at dksX1_buyer_1 11 rfl rfl)
theorem dX1_buyer_36 : decode cX1_buyer 36 = .ok (.iload_n 1, 1) := dk_27 (dk_at dksX1_buyer_1 12 rfl rfl)
theorem dX1_buyer_37 : decode cX1_buyer 37 = .ok (.invokespecial 249, 3) := dk_183 0 249 (dk_at dksX1_buyer_1 13 rfl rfl)
theorem dX1_buyer_40 : decode cX1_buyer 40 = .ok (.invokeinterface 93 2, 5) := by decide +kernel
theorem dX1_buyer_45 : decode cX1_buyer 45 = .ok (.pop, 1) := dk_87 (dk_at dksX1_buyer_1 21 rfl rfl)
theorem dX1_buyer_46 : decode cX1_buyer 46 = .ok (.aload_n 0, 1) := dk_42 (dk_at dksX1_buyer_1 22 rfl rfl)
theorem dX1_buyer_47 : decode cX1_buyer 47 = .ok (.getfield 22, 3) := dk_180 0 22 (dk_at dksX1_buyer_2 0 rfl rfl)
theorem dX1_buyer_50 : decode cX1_buyer 50 = .ok (.invokeinterface 64 1, 5) := by decide +kernel
theorem dX1_buyer_55 : decode cX1_buyer 55 = .ok (.iconst 1, 1) := dk_4 (dk_at dksX1_buyer_2 8 rfl rfl)
theorem dX1_buyer_56 : decode cX1_buyer 56 = .ok (.isub, 1) := dk_100 (dk_at dksX1_buyer_2 9 rfl rfl)
theorem dX1_buyer_57 : decode cX1_buyer 57 = .ok (.ireturn, 1) := dk_172 (dk_at dksX1_buyer_2 10 rfl rfl)
abbrev cX1_even : ByteArray := prog_1_method_25_code
def yX1_even : MethodName := ⟨RX1, "even", "(II)I"⟩
def dkwX1_even_1 : List UInt8 := [21, 4, 172]
abbrev dktX1_even_1 : List UInt8 := dkwX1_even_1 ++ []
def dkwX1_even_0 : List UInt8 := [42, 27, 182, 0, 251, 78, 28, 3, 16, 9, 184, 0, 101, 45, 180, 0, 255, 54, 4, 45, 28, 181, 0, 255]
abbrev dktX1_even_0 : List UInt8 := dkwX1_even_0 ++ dktX1_even_1
theorem dksX1_even_0 : cX1_even.data.toList.drop 0 = dktX1_even_0 := by decide +kernel
theorem dksX1_even_1 : cX1_even.data.toList.drop 24 = dktX1_even_1 := dk_seg dksX1_even_0 24 rfl rfl
theorem dX1_even_0 : decode cX1_even 0 = .ok (.aload_n 0, 1) := dk_42 (dk_at dksX1_even_0 0 rfl rfl)
theorem dX1_even_1 : decode cX1_even 1 = .ok (.iload_n 1, 1) := dk_27 (dk_at dksX1_even_0 1 rfl rfl)
theorem dX1_even_2 : decode cX1_even 2 = .ok (.invokevirtual 251, 3) := dk_182 0 251 (dk_at dksX1_even_0 2 rfl rfl)
theorem dX1_even_5 : decode cX1_even 5 = .ok (.astore_n 3, 1) := dk_78 (dk_at dksX1_even_0 5 rfl rfl)
theorem dX1_even_6 : decode cX1_even 6 = .ok (.iload_n 2, 1) := dk_28 (dk_at dksX1_even_0 6 rfl rfl)
theorem dX1_even_7 : decode cX1_even 7 = .ok (.iconst 0, 1) := dk_3 (dk_at dksX1_even_0 7 rfl rfl)
theorem dX1_even_8 : decode cX1_even 8 = .ok (.bipush 9, 2) := dk_16 9 (dk_at dksX1_even_0 8 rfl rfl)
theorem dX1_even_10 : decode cX1_even 10 = .ok (.invokestatic 101, 3) := dk_184 0 101 (dk_at dksX1_even_0 10 rfl rfl)
theorem dX1_even_13 : decode cX1_even 13 = .ok (.aload_n 3, 1) := dk_45 (dk_at dksX1_even_0 13 rfl rfl)
theorem dX1_even_14 : decode cX1_even 14 = .ok (.getfield 255, 3) := dk_180 0 255 (dk_at dksX1_even_0 14 rfl rfl)
theorem dX1_even_17 : decode cX1_even 17 = .ok (.istore 4, 2) := dk_54 4 (dk_at dksX1_even_0 17 rfl rfl)
theorem dX1_even_19 : decode cX1_even 19 = .ok (.aload_n 3, 1) := dk_45 (dk_at dksX1_even_0 19 rfl rfl)
theorem dX1_even_20 : decode cX1_even 20 = .ok (.iload_n 2, 1) := dk_28 (dk_at dksX1_even_0 20 rfl rfl)
theorem dX1_even_21 : decode cX1_even 21 = .ok (.putfield 255, 3) := dk_181 0 255 (dk_at dksX1_even_0 21 rfl rfl)
theorem dX1_even_24 : decode cX1_even 24 = .ok (.iload 4, 2) := dk_21 4 (dk_at dksX1_even_1 0 rfl rfl)
theorem dX1_even_26 : decode cX1_even 26 = .ok (.ireturn, 1) := dk_172 (dk_at dksX1_even_1 2 rfl rfl)
abbrev cX1_buyerAt : ByteArray := prog_1_method_10_code
def yX1_buyerAt : MethodName := ⟨RX1, "buyerAt", "(I)LBloomclock$Buyer;"⟩
def dkwX1_buyerAt_1 : List UInt8 := [192, 0, 84, 176]
abbrev dktX1_buyerAt_1 : List UInt8 := dkwX1_buyerAt_1 ++ []
def dkwX1_buyerAt_0 : List UInt8 := [27, 42, 180, 0, 22, 185, 0, 64, 1, 0, 184, 0, 70, 42, 180, 0, 22, 27, 185, 0, 74, 2, 0]
abbrev dktX1_buyerAt_0 : List UInt8 := dkwX1_buyerAt_0 ++ dktX1_buyerAt_1
theorem dksX1_buyerAt_0 : cX1_buyerAt.data.toList.drop 0 = dktX1_buyerAt_0 := by decide +kernel
theorem dksX1_buyerAt_1 : cX1_buyerAt.data.toList.drop 23 = dktX1_buyerAt_1 := dk_seg dksX1_buyerAt_0 23 rfl rfl
theorem dX1_buyerAt_0 : decode cX1_buyerAt 0 = .ok (.iload_n 1, 1) := dk_27 (dk_at dksX1_buyerAt_0 0 rfl rfl)
theorem dX1_buyerAt_1 : decode cX1_buyerAt 1 = .ok (.aload_n 0, 1) := dk_42 (dk_at dksX1_buyerAt_0 1 rfl rfl)
theorem dX1_buyerAt_2 : decode cX1_buyerAt 2 = .ok (.getfield 22, 3) := dk_180 0 22 (dk_at dksX1_buyerAt_0 2 rfl rfl)
theorem dX1_buyerAt_5 : decode cX1_buyerAt 5 = .ok (.invokeinterface 64 1, 5) := by decide +kernel
theorem dX1_buyerAt_10 : decode cX1_buyerAt 10 = .ok (.invokestatic 70, 3) := dk_184 0 70 (dk_at dksX1_buyerAt_0 10 rfl rfl)
theorem dX1_buyerAt_13 : decode cX1_buyerAt 13 = .ok (.aload_n 0, 1) := dk_42 (dk_at dksX1_buyerAt_0 13 rfl rfl)
theorem dX1_buyerAt_14 : decode cX1_buyerAt 14 = .ok (.getfield 22, 3) := dk_180 0 22 (dk_at dksX1_buyerAt_0 14 rfl rfl)
theorem dX1_buyerAt_17 : decode cX1_buyerAt 17 = .ok (.iload_n 1, 1) := dk_27 (dk_at dksX1_buyerAt_0 17 rfl rfl)
theorem dX1_buyerAt_18 : decode cX1_buyerAt 18 = .ok (.invokeinterface 74 2, 5) := by decide +kernel
theorem dX1_buyerAt_23 : decode cX1_buyerAt 23 = .ok (.checkcast 84, 3) := dk_192 0 84 (dk_at dksX1_buyerAt_1 0 rfl rfl)
theorem dX1_buyerAt_26 : decode cX1_buyerAt 26 = .ok (.areturn, 1) := dk_176 (dk_at dksX1_buyerAt_1 3 rfl rfl)
abbrev cX1_leave : ByteArray := prog_1_method_26_code
def yX1_leave : MethodName := ⟨RX1, "leave", "(II)I"⟩
def dkwX1_leave_1 : List UInt8 := [181, 0, 204, 21, 4, 172]
abbrev dktX1_leave_1 : List UInt8 := dkwX1_leave_1 ++ []
def dkwX1_leave_0 : List UInt8 := [42, 27, 182, 0, 251, 78, 28, 2, 17, 39, 15, 184, 0, 101, 45, 180, 0, 204, 54, 4, 45, 28]
abbrev dktX1_leave_0 : List UInt8 := dkwX1_leave_0 ++ dktX1_leave_1
theorem dksX1_leave_0 : cX1_leave.data.toList.drop 0 = dktX1_leave_0 := by decide +kernel
theorem dksX1_leave_1 : cX1_leave.data.toList.drop 22 = dktX1_leave_1 := dk_seg dksX1_leave_0 22 rfl rfl
theorem dX1_leave_0 : decode cX1_leave 0 = .ok (.aload_n 0, 1) := dk_42 (dk_at dksX1_leave_0 0 rfl rfl)
theorem dX1_leave_1 : decode cX1_leave 1 = .ok (.iload_n 1, 1) := dk_27 (dk_at dksX1_leave_0 1 rfl rfl)
theorem dX1_leave_2 : decode cX1_leave 2 = .ok (.invokevirtual 251, 3) := dk_182 0 251 (dk_at dksX1_leave_0 2 rfl rfl)
theorem dX1_leave_5 : decode cX1_leave 5 = .ok (.astore_n 3, 1) := dk_78 (dk_at dksX1_leave_0 5 rfl rfl)
theorem dX1_leave_6 : decode cX1_leave 6 = .ok (.iload_n 2, 1) := dk_28 (dk_at dksX1_leave_0 6 rfl rfl)
theorem dX1_leave_7 : decode cX1_leave 7 = .ok (.iconst (-1), 1) := dk_2 (dk_at dksX1_leave_0 7 rfl rfl)
theorem dX1_leave_8 : decode cX1_leave 8 = .ok (.sipush 9999, 3) := dk_17 39 15 (dk_at dksX1_leave_0 8 rfl rfl)
theorem dX1_leave_11 : decode cX1_leave 11 = .ok (.invokestatic 101, 3) := dk_184 0 101 (dk_at dksX1_leave_0 11 rfl rfl)
theorem dX1_leave_14 : decode cX1_leave 14 = .ok (.aload_n 3, 1) := dk_45 (dk_at dksX1_leave_0 14 rfl rfl)
theorem dX1_leave_15 : decode cX1_leave 15 = .ok (.getfield 204, 3) := dk_180 0 204 (dk_at dksX1_leave_0 15 rfl rfl)
theorem dX1_leave_18 : decode cX1_leave 18 = .ok (.istore 4, 2) := dk_54 4 (dk_at dksX1_leave_0 18 rfl rfl)
theorem dX1_leave_20 : decode cX1_leave 20 = .ok (.aload_n 3, 1) := dk_45 (dk_at dksX1_leave_0 20 rfl rfl)
theorem dX1_leave_21 : decode cX1_leave 21 = .ok (.iload_n 2, 1) := dk_28 (dk_at dksX1_leave_0 21 rfl rfl)
theorem dX1_leave_22 : decode cX1_leave 22 = .ok (.putfield 204, 3) := dk_181 0 204 (dk_at dksX1_leave_1 0 rfl rfl)
theorem dX1_leave_25 : decode cX1_leave 25 = .ok (.iload 4, 2) := dk_21 4 (dk_at dksX1_leave_1 3 rfl rfl)
theorem dX1_leave_27 : decode cX1_leave 27 = .ok (.ireturn, 1) := dk_172 (dk_at dksX1_leave_1 5 rfl rfl)
abbrev cX1_order : ByteArray := prog_1_method_27_code
def yX1_order : MethodName := ⟨RX1, "order", "(IIIIIII)I"⟩
def dkwX1_order_5 : List UInt8 := [185, 0, 64, 1, 0, 4, 100, 172]
abbrev dktX1_order_5 : List UInt8 := dkwX1_order_5 ++ []
def dkwX1_order_4 : List UInt8 := [21, 7, 181, 1, 7, 42, 180, 0, 25, 25, 8, 185, 0, 93, 2, 0, 87, 42, 180, 0, 25]
abbrev dktX1_order_4 : List UInt8 := dkwX1_order_4 ++ dktX1_order_5
def dkwX1_order_3 : List UInt8 := [3, 184, 0, 89, 187, 1, 2, 89, 27, 28, 29, 21, 4, 21, 5, 21, 6, 183, 1, 4, 58, 8, 25, 8]
abbrev dktX1_order_3 : List UInt8 := dkwX1_order_3 ++ dktX1_order_4
def dkwX1_order_2 : List UInt8 := [17, 1, 244, 184, 0, 101, 42, 180, 0, 25, 185, 0, 64, 1, 0, 16, 12, 162, 0, 7, 4, 167, 0, 4]
abbrev dktX1_order_2 : List UInt8 := dkwX1_order_2 ++ dktX1_order_3
def dkwX1_order_1 : List UInt8 := [184, 0, 101, 21, 5, 3, 16, 100, 184, 0, 101, 21, 6, 4, 16, 99, 184, 0, 101, 21, 7, 4]
abbrev dktX1_order_1 : List UInt8 := dkwX1_order_1 ++ dktX1_order_2
def dkwX1_order_0 : List UInt8 := [42, 27, 182, 0, 251, 87, 28, 3, 5, 184, 0, 101, 29, 3, 5, 184, 0, 101, 21, 4, 3, 16, 110]
abbrev dktX1_order_0 : List UInt8 := dkwX1_order_0 ++ dktX1_order_1
theorem dksX1_order_0 : cX1_order.data.toList.drop 0 = dktX1_order_0 := by decide +kernel
theorem dksX1_order_1 : cX1_order.data.toList.drop 23 = dktX1_order_1 := dk_seg dksX1_order_0 23 rfl rfl
theorem dksX1_order_2 : cX1_order.data.toList.drop 45 = dktX1_order_2 := dk_seg dksX1_order_1 22 rfl rfl
theorem dksX1_order_3 : cX1_order.data.toList.drop 69 = dktX1_order_3 := dk_seg dksX1_order_2 24 rfl rfl
theorem dksX1_order_4 : cX1_order.data.toList.drop 93 = dktX1_order_4 := dk_seg dksX1_order_3 24 rfl rfl
theorem dksX1_order_5 : cX1_order.data.toList.drop 114 = dktX1_order_5 := dk_seg dksX1_order_4 21 rfl rfl
theorem dX1_order_0 : decode cX1_order 0 = .ok (.aload_n 0, 1) := dk_42 (dk_at dksX1_order_0 0 rfl rfl)
theorem dX1_order_1 : decode cX1_order 1 = .ok (.iload_n 1, 1) := dk_27 (dk_at dksX1_order_0 1 rfl rfl)
theorem dX1_order_2 : decode cX1_order 2 = .ok (.invokevirtual 251, 3) := dk_182 0 251 (dk_at dksX1_order_0 2 rfl rfl)
theorem dX1_order_5 : decode cX1_order 5 = .ok (.pop, 1) := dk_87 (dk_at dksX1_order_0 5 rfl rfl)
theorem dX1_order_6 : decode cX1_order 6 = .ok (.iload_n 2, 1) := dk_28 (dk_at dksX1_order_0 6 rfl rfl)
theorem dX1_order_7 : decode cX1_order 7 = .ok (.iconst 0, 1) := dk_3 (dk_at dksX1_order_0 7 rfl rfl)
theorem dX1_order_8 : decode cX1_order 8 = .ok (.iconst 2, 1) := dk_5 (dk_at dksX1_order_0 8 rfl rfl)
theorem dX1_order_9 : decode cX1_order 9 = .ok (.invokestatic 101, 3) := dk_184 0 101 (dk_at dksX1_order_0 9 rfl rfl)
theorem dX1_order_12 : decode cX1_order 12 = .ok (.iload_n 3, 1) := dk_29 (dk_at dksX1_order_0 12 rfl rfl)
theorem dX1_order_13 : decode cX1_order 13 = .ok (.iconst 0, 1) := dk_3 (dk_at dksX1_order_0 13 rfl rfl)
theorem dX1_order_14 : decode cX1_order 14 = .ok (.iconst 2, 1) := dk_5 (dk_at dksX1_order_0 14 rfl rfl)
theorem dX1_order_15 : decode cX1_order 15 = .ok (.invokestatic 101, 3) := dk_184 0 101 (dk_at dksX1_order_0 15 rfl rfl)
theorem dX1_order_18 : decode cX1_order 18 = .ok (.iload 4, 2) := dk_21 4 (dk_at dksX1_order_0 18 rfl rfl)
theorem dX1_order_20 : decode cX1_order 20 = .ok (.iconst 0, 1) := dk_3 (dk_at dksX1_order_0 20 rfl rfl)
theorem dX1_order_21 : decode cX1_order 21 = .ok (.bipush 110, 2) := dk_16 110 (dk_at dksX1_order_0 21 rfl rfl)
theorem dX1_order_23 : decode cX1_order 23 = .ok (.invokestatic 101, 3) := dk_184 0 101 (dk_at dksX1_order_1 0 rfl rfl)
theorem dX1_order_26 : decode cX1_order 26 = .ok (.iload 5, 2) := dk_21 5 (dk_at dksX1_order_1 3 rfl rfl)
theorem dX1_order_28 : decode cX1_order 28 = .ok (.iconst 0, 1) := dk_3 (dk_at dksX1_order_1 5 rfl rfl)
theorem dX1_order_29 : decode cX1_order 29 = .ok (.bipush 100, 2) := dk_16 100 (dk_at dksX1_order_1 6 rfl rfl)
theorem dX1_order_31 : decode cX1_order 31 = .ok (.invokestatic 101, 3) := dk_184 0 101 (dk_at dksX1_order_1 8 rfl rfl)
theorem dX1_order_34 : decode cX1_order 34 = .ok (.iload 6, 2) := dk_21 6 (dk_at dksX1_order_1 11 rfl rfl)
theorem dX1_order_36 : decode cX1_order 36 = .ok (.iconst 1, 1) := dk_4 (dk_at dksX1_order_1 13 rfl rfl)
theorem dX1_order_37 : decode cX1_order 37 = .ok (.bipush 99, 2) := dk_16 99 (dk_at dksX1_order_1 14 rfl rfl)
theorem dX1_order_39 : decode cX1_order 39 = .ok (.invokestatic 101, 3) := dk_184 0 101 (dk_at dksX1_order_1 16 rfl rfl)
theorem dX1_order_42 : decode cX1_order 42 = .ok (.iload 7, 2) := dk_21 7 (dk_at dksX1_order_1 19 rfl rfl)
theorem dX1_order_44 : decode cX1_order 44 = .ok (.iconst 1, 1) := dk_4 (dk_at dksX1_order_1 21 rfl rfl)
theorem dX1_order_45 : decode cX1_order 45 = .ok (.sipush 500, 3) := dk_17 1 244 (dk_at dksX1_order_2 0 rfl rfl)
theorem dX1_order_48 : decode cX1_order 48 = .ok (.invokestatic 101, 3) := dk_184 0 101 (dk_at dksX1_order_2 3 rfl rfl)
theorem dX1_order_51 : decode cX1_order 51 = .ok (.aload_n 0, 1) := dk_42 (dk_at dksX1_order_2 6 rfl rfl)
theorem dX1_order_52 : decode cX1_order 52 = .ok (.getfield 25, 3) := dk_180 0 25 (dk_at dksX1_order_2 7 rfl rfl)
theorem dX1_order_55 : decode cX1_order 55 = .ok (.invokeinterface 64 1, 5) := by decide +kernel
theorem dX1_order_60 : decode cX1_order 60 = .ok (.bipush 12, 2) := dk_16 12 (dk_at dksX1_order_2 15 rfl rfl)
theorem dX1_order_62 : decode cX1_order 62 = .ok (.if_icmp .ge 7, 3) := dk_162 0 7 (dk_at dksX1_order_2 17 rfl rfl)
theorem dX1_order_65 : decode cX1_order 65 = .ok (.iconst 1, 1) := dk_4 (dk_at dksX1_order_2 20 rfl rfl)
theorem dX1_order_66 : decode cX1_order 66 = .ok (.goto 4, 3) := dk_167 0 4 (dk_at dksX1_order_2 21 rfl rfl)
theorem dX1_order_69 : decode cX1_order 69 = .ok (.iconst 0, 1) := dk_3 (dk_at dksX1_order_3 0 rfl rfl)
theorem dX1_order_70 : decode cX1_order 70 = .ok (.invokestatic 89, 3) := dk_184 0 89 (dk_at dksX1_order_3 1 rfl rfl)
theorem dX1_order_73 : decode cX1_order 73 = .ok (.new 258, 3) := dk_187 1 2 (dk_at dksX1_order_3 4 rfl rfl)
theorem dX1_order_76 : decode cX1_order 76 = .ok (.dup, 1) := dk_89 (dk_at dksX1_order_3 7 rfl rfl)
theorem dX1_order_77 : decode cX1_order 77 = .ok (.iload_n 1, 1) := dk_27 (dk_at dksX1_order_3 8 rfl rfl)
theorem dX1_order_78 : decode cX1_order 78 = .ok (.iload_n 2, 1) := dk_28 (dk_at dksX1_order_3 9 rfl rfl)
theorem dX1_order_79 : decode cX1_order 79 = .ok (.iload_n 3, 1) := dk_29 (dk_at dksX1_order_3 10 rfl rfl)
theorem dX1_order_80 : decode cX1_order 80 = .ok (.iload 4, 2) := dk_21 4 (dk_at dksX1_order_3 11 rfl rfl)
theorem dX1_order_82 : decode cX1_order 82 = .ok (.iload 5, 2) := dk_21 5 (dk_at dksX1_order_3 13 rfl rfl)
theorem dX1_order_84 : decode cX1_order 84 = .ok (.iload 6, 2) := dk_21 6 (dk_at dksX1_order_3 15 rfl rfl)
theorem dX1_order_86 : decode cX1_order 86 = .ok (.invokespecial 260, 3) := dk_183 1 4 (dk_at dksX1_order_3 17 rfl rfl)
theorem dX1_order_89 : decode cX1_order 89 = .ok (.astore 8, 2) := dk_58 8 (dk_at dksX1_order_3 20 rfl rfl)
theorem dX1_order_91 : decode cX1_order 91 = .ok (.aload 8, 2) := dk_25 8 (dk_at dksX1_order_3 22 rfl rfl)
theorem dX1_order_93 : decode cX1_order 93 = .ok (.iload 7, 2) := dk_21 7 (dk_at dksX1_order_4 0 rfl rfl)
theorem dX1_order_95 : decode cX1_order 95 = .ok (.putfield 263, 3) := dk_181 1 7 (dk_at dksX1_order_4 2 rfl rfl)
theorem dX1_order_98 : decode cX1_order 98 = .ok (.aload_n 0, 1) := dk_42 (dk_at dksX1_order_4 5 rfl rfl)
theorem dX1_order_99 : decode cX1_order 99 = .ok (.getfield 25, 3) := dk_180 0 25 (dk_at dksX1_order_4 6 rfl rfl)
theorem dX1_order_102 : decode cX1_order 102 = .ok (.aload 8, 2) := dk_25 8 (dk_at dksX1_order_4 9 rfl rfl)
theorem dX1_order_104 : decode cX1_order 104 = .ok (.invokeinterface 93 2, 5) := by decide +kernel
theorem dX1_order_109 : decode cX1_order 109 = .ok (.pop, 1) := dk_87 (dk_at dksX1_order_4 16 rfl rfl)
theorem dX1_order_110 : decode cX1_order 110 = .ok (.aload_n 0, 1) := dk_42 (dk_at dksX1_order_4 17 rfl rfl)
theorem dX1_order_111 : decode cX1_order 111 = .ok (.getfield 25, 3) := dk_180 0 25 (dk_at dksX1_order_4 18 rfl rfl)
theorem dX1_order_114 : decode cX1_order 114 = .ok (.invokeinterface 64 1, 5) := by decide +kernel
theorem dX1_order_119 : decode cX1_order 119 = .ok (.iconst 1, 1) := dk_4 (dk_at dksX1_order_5 5 rfl rfl)
theorem dX1_order_120 : decode cX1_order 120 = .ok (.isub, 1) := dk_100 (dk_at dksX1_order_5 6 rfl rfl)
theorem dX1_order_121 : decode cX1_order 121 = .ok (.ireturn, 1) := dk_172 (dk_at dksX1_order_5 7 rfl rfl)
abbrev cX1_clock : ByteArray := prog_1_method_28_code
def yX1_clock : MethodName := ⟨RX1, "clock", "()I"⟩
def dkwX1_clock_8 : List UInt8 := [21, 4, 172]
abbrev dktX1_clock_8 : List UInt8 := dkwX1_clock_8 ++ []
def dkwX1_clock_7 : List UInt8 := [180, 1, 27, 45, 180, 1, 37, 182, 1, 40, 87, 21, 4, 45, 180, 1, 31, 96, 54, 4, 167, 255, 199]
abbrev dktX1_clock_7 : List UInt8 := dkwX1_clock_7 ++ dktX1_clock_8
def dkwX1_clock_6 : List UInt8 := [180, 1, 27, 185, 0, 74, 2, 0, 192, 1, 2, 180, 1, 30, 45, 180, 1, 31, 45, 180, 1, 34, 45]
abbrev dktX1_clock_6 : List UInt8 := dkwX1_clock_6 ++ dktX1_clock_7
def dkwX1_clock_5 : List UInt8 := [178, 0, 132, 181, 0, 237, 3, 54, 4, 45, 182, 1, 24, 153, 0, 56, 42, 27, 42, 180, 0, 25, 45]
abbrev dktX1_clock_5 : List UInt8 := dkwX1_clock_5 ++ dktX1_clock_6
def dkwX1_clock_4 : List UInt8 := [192, 0, 78, 180, 0, 247, 44, 180, 0, 234, 42, 180, 0, 25, 42, 180, 0, 22, 183, 1, 21, 78, 44]
abbrev dktX1_clock_4 : List UInt8 := dkwX1_clock_4 ++ dktX1_clock_5
def dkwX1_clock_3 : List UInt8 := [180, 0, 231, 44, 180, 0, 243, 184, 1, 18, 42, 180, 0, 12, 44, 180, 0, 219, 185, 0, 74, 2, 0]
abbrev dktX1_clock_3 : List UInt8 := dkwX1_clock_3 ++ dktX1_clock_4
def dkwX1_clock_2 : List UInt8 := [184, 1, 10, 42, 180, 0, 19, 27, 185, 0, 74, 2, 0, 192, 0, 82, 77, 187, 1, 16, 89, 44, 44]
abbrev dktX1_clock_2 : List UInt8 := dkwX1_clock_2 ++ dktX1_clock_3
def dkwX1_clock_1 : List UInt8 := [180, 0, 240, 4, 100, 181, 0, 240, 42, 180, 0, 34, 4, 42, 180, 0, 34, 3, 42, 180, 0, 240]
abbrev dktX1_clock_1 : List UInt8 := dkwX1_clock_1 ++ dktX1_clock_2
def dkwX1_clock_0 : List UInt8 := [42, 180, 0, 240, 158, 0, 7, 4, 167, 0, 4, 3, 184, 0, 89, 42, 180, 0, 34, 3, 46, 60, 42, 89]
abbrev dktX1_clock_0 : List UInt8 := dkwX1_clock_0 ++ dktX1_clock_1
theorem dksX1_clock_0 : cX1_clock.data.toList.drop 0 = dktX1_clock_0 := by decide +kernel
theorem dksX1_clock_1 : cX1_clock.data.toList.drop 24 = dktX1_clock_1 := dk_seg dksX1_clock_0 24 rfl rfl
theorem dksX1_clock_2 : cX1_clock.data.toList.drop 46 = dktX1_clock_2 := dk_seg dksX1_clock_1 22 rfl rfl
theorem dksX1_clock_3 : cX1_clock.data.toList.drop 69 = dktX1_clock_3 := dk_seg dksX1_clock_2 23 rfl rfl
theorem dksX1_clock_4 : cX1_clock.data.toList.drop 92 = dktX1_clock_4 := dk_seg dksX1_clock_3 23 rfl rfl
theorem dksX1_clock_5 : cX1_clock.data.toList.drop 115 = dktX1_clock_5 := dk_seg dksX1_clock_4 23 rfl rfl
theorem dksX1_clock_6 : cX1_clock.data.toList.drop 138 = dktX1_clock_6 := dk_seg dksX1_clock_5 23 rfl rfl
theorem dksX1_clock_7 : cX1_clock.data.toList.drop 161 = dktX1_clock_7 := dk_seg dksX1_clock_6 23 rfl rfl
theorem dksX1_clock_8 : cX1_clock.data.toList.drop 184 = dktX1_clock_8 := dk_seg dksX1_clock_7 23 rfl rfl
theorem dX1_clock_0 : decode cX1_clock 0 = .ok (.aload_n 0, 1) := dk_42 (dk_at dksX1_clock_0 0 rfl rfl)
theorem dX1_clock_1 : decode cX1_clock 1 = .ok (.getfield 240, 3) := dk_180 0 240 (dk_at dksX1_clock_0 1 rfl rfl)
theorem dX1_clock_4 : decode cX1_clock 4 = .ok (.ifCond .le 7, 3) := dk_158 0 7 (dk_at dksX1_clock_0 4 rfl rfl)
theorem dX1_clock_7 : decode cX1_clock 7 = .ok (.iconst 1, 1) := dk_4 (dk_at dksX1_clock_0 7 rfl rfl)
theorem dX1_clock_8 : decode cX1_clock 8 = .ok (.goto 4, 3) := dk_167 0 4 (dk_at dksX1_clock_0 8 rfl rfl)
theorem dX1_clock_11 : decode cX1_clock 11 = .ok (.iconst 0, 1) := dk_3 (dk_at dksX1_clock_0 11 rfl rfl)
theorem dX1_clock_12 : decode cX1_clock 12 = .ok (.invokestatic 89, 3) := dk_184 0 89 (dk_at dksX1_clock_0 12 rfl rfl)
theorem dX1_clock_15 : decode cX1_clock 15 = .ok (.aload_n 0, 1) := dk_42 (dk_at dksX1_clock_0 15 rfl rfl)
theorem dX1_clock_16 : decode cX1_clock 16 = .ok (.getfield 34, 3) := dk_180 0 34 (dk_at dksX1_clock_0 16 rfl rfl)
theorem dX1_clock_19 : decode cX1_clock 19 = .ok (.iconst 0, 1) := dk_3 (dk_at dksX1_clock_0 19 rfl rfl)
theorem dX1_clock_20 : decode cX1_clock 20 = .ok (.iaload, 1) := dk_46 (dk_at dksX1_clock_0 20 rfl rfl)
theorem dX1_clock_21 : decode cX1_clock 21 = .ok (.istore_n 1, 1) := dk_60 (dk_at dksX1_clock_0 21 rfl rfl)
theorem dX1_clock_22 : decode cX1_clock 22 = .ok (.aload_n 0, 1) := dk_42 (dk_at dksX1_clock_0 22 rfl rfl)
theorem dX1_clock_23 : decode cX1_clock 23 = .ok (.dup, 1) := dk_89 (dk_at dksX1_clock_0 23 rfl rfl)
theorem dX1_clock_24 : decode cX1_clock 24 = .ok (.getfield 240, 3) := dk_180 0 240 (dk_at dksX1_clock_1 0 rfl rfl)
theorem dX1_clock_27 : decode cX1_clock 27 = .ok (.iconst 1, 1) := dk_4 (dk_at dksX1_clock_1 3 rfl rfl)
theorem dX1_clock_28 : decode cX1_clock 28 = .ok (.isub, 1) := dk_100 (dk_at dksX1_clock_1 4 rfl rfl)
theorem dX1_clock_29 : decode cX1_clock 29 = .ok (.putfield 240, 3) := dk_181 0 240 (dk_at dksX1_clock_1 5 rfl rfl)
theorem dX1_clock_32 : decode cX1_clock 32 = .ok (.aload_n 0, 1) := dk_42 (dk_at dksX1_clock_1 8 rfl rfl)
theorem dX1_clock_33 : decode cX1_clock 33 = .ok (.getfield 34, 3) := dk_180 0 34 (dk_at dksX1_clock_1 9 rfl rfl)
theorem dX1_clock_36 : decode cX1_clock 36 = .ok (.iconst 1, 1) := dk_4 (dk_at dksX1_clock_1 12 rfl rfl)
theorem dX1_clock_37 : decode cX1_clock 37 = .ok (.aload_n 0, 1) := dk_42 (dk_at dksX1_clock_1 13 rfl rfl)
theorem dX1_clock_38 : decode cX1_clock 38 = .ok (.getfield 34, 3) := dk_180 0 34 (dk_at dksX1_clock_1 14 rfl rfl)
theorem dX1_clock_41 : decode cX1_clock 41 = .ok (.iconst 0, 1) := dk_3 (dk_at dksX1_clock_1 17 rfl rfl)
theorem dX1_clock_42 : decode cX1_clock 42 = .ok (.aload_n 0, 1) := dk_42 (dk_at dksX1_clock_1 18 rfl rfl)
theorem dX1_clock_43 : decode cX1_clock 43 = .ok (.getfield 240, 3) := dk_180 0 240 (dk_at dksX1_clock_1 19 rfl rfl)
theorem dX1_clock_46 : decode cX1_clock 46 = .ok (.invokestatic 266, 3) := dk_184 1 10 (dk_at dksX1_clock_2 0 rfl rfl)
theorem dX1_clock_49 : decode cX1_clock 49 = .ok (.aload_n 0, 1) := dk_42 (dk_at dksX1_clock_2 3 rfl rfl)
theorem dX1_clock_50 : decode cX1_clock 50 = .ok (.getfield 19, 3) := dk_180 0 19 (dk_at dksX1_clock_2 4 rfl rfl)
theorem dX1_clock_53 : decode cX1_clock 53 = .ok (.iload_n 1, 1) := dk_27 (dk_at dksX1_clock_2 7 rfl rfl)
theorem dX1_clock_54 : decode cX1_clock 54 = .ok (.invokeinterface 74 2, 5) := by decide +kernel
theorem dX1_clock_59 : decode cX1_clock 59 = .ok (.checkcast 82, 3) := dk_192 0 82 (dk_at dksX1_clock_2 13 rfl rfl)
theorem dX1_clock_62 : decode cX1_clock 62 = .ok (.astore_n 2, 1) := dk_77 (dk_at dksX1_clock_2 16 rfl rfl)
theorem dX1_clock_63 : decode cX1_clock 63 = .ok (.new 272, 3) := dk_187 1 16 (dk_at dksX1_clock_2 17 rfl rfl)
theorem dX1_clock_66 : decode cX1_clock 66 = .ok (.dup, 1) := dk_89 (dk_at dksX1_clock_2 20 rfl rfl)
theorem dX1_clock_67 : decode cX1_clock 67 = .ok (.aload_n 2, 1) := dk_44 (dk_at dksX1_clock_2 21 rfl rfl)
theorem dX1_clock_68 : decode cX1_clock 68 = .ok (.aload_n 2, 1) := dk_44 (dk_at dksX1_clock_2 22 rfl rfl)
theorem dX1_clock_69 : decode cX1_clock 69 = .ok (.getfield 231, 3) := dk_180 0 231 (dk_at dksX1_clock_3 0 rfl rfl)
theorem dX1_clock_72 : decode cX1_clock 72 = .ok (.aload_n 2, 1) := dk_44 (dk_at dksX1_clock_3 3 rfl rfl)
theorem dX1_clock_73 : decode cX1_clock 73 = .ok (.getfield 243, 3) := dk_180 0 243 (dk_at dksX1_clock_3 4 rfl rfl)
theorem dX1_clock_76 : decode cX1_clock 76 = .ok (.invokestatic 274, 3) := dk_184 1 18 (dk_at dksX1_clock_3 7 rfl rfl)
theorem dX1_clock_79 : decode cX1_clock 79 = .ok (.aload_n 0, 1) := dk_42 (dk_at dksX1_clock_3 10 rfl rfl)
theorem dX1_clock_80 : decode cX1_clock 80 = .ok (.getfield 12, 3) := dk_180 0 12 (dk_at dksX1_clock_3 11 rfl rfl)
theorem dX1_clock_83 : decode cX1_clock 83 = .ok (.aload_n 2, 1) := dk_44 (dk_at dksX1_clock_3 14 rfl rfl)
theorem dX1_clock_84 : decode cX1_clock 84 = .ok (.getfield 219, 3) := dk_180 0 219 (dk_at dksX1_clock_3 15 rfl rfl)
theorem dX1_clock_87 : decode cX1_clock 87 = .ok (.invokeinterface 74 2, 5) := by decide +kernel
theorem dX1_clock_92 : decode cX1_clock 92 = .ok (.checkcast 78, 3) := dk_192 0 78 (dk_at dksX1_clock_4 0 rfl rfl)
theorem dX1_clock_95 : decode cX1_clock 95 = .ok (.getfield 247, 3) := dk_180 0 247 (dk_at dksX1_clock_4 3 rfl rfl)
theorem dX1_clock_98 : decode cX1_clock 98 = .ok (.aload_n 2, 1) := dk_44 (dk_at dksX1_clock_4 6 rfl rfl)
theorem dX1_clock_99 : decode cX1_clock 99 = .ok (.getfield 234, 3) := dk_180 0 234 (dk_at dksX1_clock_4 7 rfl rfl)
theorem dX1_clock_102 : decode cX1_clock 102 = .ok (.aload_n 0, 1) := dk_42 (dk_at dksX1_clock_4 10 rfl rfl)
theorem dX1_clock_103 : decode cX1_clock 103 = .ok (.getfield 25, 3) := dk_180 0 25 (dk_at dksX1_clock_4 11 rfl rfl)
theorem dX1_clock_106 : decode cX1_clock 106 = .ok (.aload_n 0, 1) := dk_42 (dk_at dksX1_clock_4 14 rfl rfl)
theorem dX1_clock_107 : decode cX1_clock 107 = .ok (.getfield 22, 3) := dk_180 0 22 (dk_at dksX1_clock_4 15 rfl rfl)
theorem dX1_clock_110 : decode cX1_clock 110 = .ok (.invokespecial 277, 3) := dk_183 1 21 (dk_at dksX1_clock_4 18 rfl rfl)
theorem dX1_clock_113 : decode cX1_clock 113 = .ok (.astore_n 3, 1) := dk_78 (dk_at dksX1_clock_4 21 rfl rfl)
theorem dX1_clock_114 : decode cX1_clock 114 = .ok (.aload_n 2, 1) := dk_44 (dk_at dksX1_clock_4 22 rfl rfl)
theorem dX1_clock_115 : decode cX1_clock 115 = .ok (.getstatic 132, 3) := dk_178 0 132 (dk_at dksX1_clock_5 0 rfl rfl)
theorem dX1_clock_118 : decode cX1_clock 118 = .ok (.putfield 237, 3) := dk_181 0 237 (dk_at dksX1_clock_5 3 rfl rfl)
theorem dX1_clock_121 : decode cX1_clock 121 = .ok (.iconst 0, 1) := dk_3 (dk_at dksX1_clock_5 6 rfl rfl)
theorem dX1_clock_122 : decode cX1_clock 122 = .ok (.istore 4, 2) := dk_54 4 (dk_at dksX1_clock_5 7 rfl rfl)
theorem dX1_clock_124 : decode cX1_clock 124 = .ok (.aload_n 3, 1) := dk_45 (dk_at dksX1_clock_5 9 rfl rfl)
theorem dX1_clock_125 : decode cX1_clock 125 = .ok (.invokevirtual 280, 3) := dk_182 1 24 (dk_at dksX1_clock_5 10 rfl rfl)
theorem dX1_clock_128 : decode cX1_clock 128 = .ok (.ifCond .eq 56, 3) := dk_153 0 56 (dk_at dksX1_clock_5 13 rfl rfl)
theorem dX1_clock_131 : decode cX1_clock 131 = .ok (.aload_n 0, 1) := dk_42 (dk_at dksX1_clock_5 16 rfl rfl)
theorem dX1_clock_132 : decode cX1_clock 132 = .ok (.iload_n 1, 1) := dk_27 (dk_at dksX1_clock_5 17 rfl rfl)
theorem dX1_clock_133 : decode cX1_clock 133 = .ok (.aload_n 0, 1) := dk_42 (dk_at dksX1_clock_5 18 rfl rfl)
theorem dX1_clock_134 : decode cX1_clock 134 = .ok (.getfield 25, 3) := dk_180 0 25 (dk_at dksX1_clock_5 19 rfl rfl)
theorem dX1_clock_137 : decode cX1_clock 137 = .ok (.aload_n 3, 1) := dk_45 (dk_at dksX1_clock_5 22 rfl rfl)
theorem dX1_clock_138 : decode cX1_clock 138 = .ok (.getfield 283, 3) := dk_180 1 27 (dk_at dksX1_clock_6 0 rfl rfl)
theorem dX1_clock_141 : decode cX1_clock 141 = .ok (.invokeinterface 74 2, 5) := by decide +kernel
theorem dX1_clock_146 : decode cX1_clock 146 = .ok (.checkcast 258, 3) := dk_192 1 2 (dk_at dksX1_clock_6 8 rfl rfl)
theorem dX1_clock_149 : decode cX1_clock 149 = .ok (.getfield 286, 3) := dk_180 1 30 (dk_at dksX1_clock_6 11 rfl rfl)
theorem dX1_clock_152 : decode cX1_clock 152 = .ok (.aload_n 3, 1) := dk_45 (dk_at dksX1_clock_6 14 rfl rfl)
theorem dX1_clock_153 : decode cX1_clock 153 = .ok (.getfield 287, 3) := dk_180 1 31 (dk_at dksX1_clock_6 15 rfl rfl)
theorem dX1_clock_156 : decode cX1_clock 156 = .ok (.aload_n 3, 1) := dk_45 (dk_at dksX1_clock_6 18 rfl rfl)
theorem dX1_clock_157 : decode cX1_clock 157 = .ok (.getfield 290, 3) := dk_180 1 34 (dk_at dksX1_clock_6 19 rfl rfl)
theorem dX1_clock_160 : decode cX1_clock 160 = .ok (.aload_n 3, 1) := dk_45 (dk_at dksX1_clock_6 22 rfl rfl)
theorem dX1_clock_161 : decode cX1_clock 161 = .ok (.getfield 283, 3) := dk_180 1 27 (dk_at dksX1_clock_7 0 rfl rfl)
theorem dX1_clock_164 : decode cX1_clock 164 = .ok (.aload_n 3, 1) := dk_45 (dk_at dksX1_clock_7 3 rfl rfl)
theorem dX1_clock_165 : decode cX1_clock 165 = .ok (.getfield 293, 3) := dk_180 1 37 (dk_at dksX1_clock_7 4 rfl rfl)
theorem dX1_clock_168 : decode cX1_clock 168 = .ok (.invokevirtual 296, 3) := dk_182 1 40 (dk_at dksX1_clock_7 7 rfl rfl)
theorem dX1_clock_171 : decode cX1_clock 171 = .ok (.pop, 1) := dk_87 (dk_at dksX1_clock_7 10 rfl rfl)
theorem dX1_clock_172 : decode cX1_clock 172 = .ok (.iload 4, 2) := dk_21 4 (dk_at dksX1_clock_7 11 rfl rfl)
theorem dX1_clock_174 : decode cX1_clock 174 = .ok (.aload_n 3, 1) := dk_45 (dk_at dksX1_clock_7 13 rfl rfl)
theorem dX1_clock_175 : decode cX1_clock 175 = .ok (.getfield 287, 3) := dk_180 1 31 (dk_at dksX1_clock_7 14 rfl rfl)
theorem dX1_clock_178 : decode cX1_clock 178 = .ok (.iadd, 1) := dk_96 (dk_at dksX1_clock_7 17 rfl rfl)
theorem dX1_clock_179 : decode cX1_clock 179 = .ok (.istore 4, 2) := dk_54 4 (dk_at dksX1_clock_7 18 rfl rfl)
theorem dX1_clock_181 : decode cX1_clock 181 = .ok (.goto (-57), 3) := dk_167 255 199 (dk_at dksX1_clock_7 20 rfl rfl)
theorem dX1_clock_184 : decode cX1_clock 184 = .ok (.iload 4, 2) := dk_21 4 (dk_at dksX1_clock_8 0 rfl rfl)
theorem dX1_clock_186 : decode cX1_clock 186 = .ok (.ireturn, 1) := dk_172 (dk_at dksX1_clock_8 2 rfl rfl)
abbrev cX1_sell : ByteArray := prog_1_method_29_code
def yX1_sell : MethodName := ⟨RX1, "sell", "(IIIIII)LBloomclock$Sale;"⟩
def dkwX1_sell_5 : List UInt8 := [3, 185, 0, 182, 2, 0, 87, 25, 8, 176]
abbrev dktX1_sell_5 : List UInt8 := dkwX1_sell_5 ++ []
def dkwX1_sell_4 : List UInt8 := [185, 0, 93, 2, 0, 87, 42, 180, 0, 28, 185, 0, 64, 1, 0, 16, 20, 164, 0, 14, 42, 180, 0, 28]
abbrev dktX1_sell_4 : List UInt8 := dkwX1_sell_4 ++ dktX1_sell_5
def dkwX1_sell_3 : List UInt8 := [187, 0, 164, 89, 25, 8, 25, 7, 183, 1, 54, 185, 0, 93, 2, 0, 87, 42, 180, 0, 28, 25, 8]
abbrev dktX1_sell_3 : List UInt8 := dkwX1_sell_3 ++ dktX1_sell_4
def dkwX1_sell_2 : List UInt8 := [180, 0, 227, 154, 0, 9, 178, 1, 51, 167, 0, 8, 25, 7, 180, 0, 237, 181, 0, 237, 42, 180, 0, 31]
abbrev dktX1_sell_2 : List UInt8 := dkwX1_sell_2 ++ dktX1_sell_3
def dkwX1_sell_1 : List UInt8 := [42, 180, 0, 86, 21, 5, 21, 6, 183, 1, 44, 58, 8, 42, 25, 8, 4, 182, 1, 47, 25, 7, 25, 7]
abbrev dktX1_sell_1 : List UInt8 := dkwX1_sell_1 ++ dktX1_sell_2
def dkwX1_sell_0 : List UInt8 := [42, 180, 0, 19, 27, 185, 0, 74, 2, 0, 192, 0, 82, 58, 7, 187, 0, 197, 89, 27, 28, 29, 21, 4]
abbrev dktX1_sell_0 : List UInt8 := dkwX1_sell_0 ++ dktX1_sell_1
theorem dksX1_sell_0 : cX1_sell.data.toList.drop 0 = dktX1_sell_0 := by decide +kernel
theorem dksX1_sell_1 : cX1_sell.data.toList.drop 24 = dktX1_sell_1 := dk_seg dksX1_sell_0 24 rfl rfl
theorem dksX1_sell_2 : cX1_sell.data.toList.drop 48 = dktX1_sell_2 := dk_seg dksX1_sell_1 24 rfl rfl
theorem dksX1_sell_3 : cX1_sell.data.toList.drop 72 = dktX1_sell_3 := dk_seg dksX1_sell_2 24 rfl rfl
theorem dksX1_sell_4 : cX1_sell.data.toList.drop 95 = dktX1_sell_4 := dk_seg dksX1_sell_3 23 rfl rfl
theorem dksX1_sell_5 : cX1_sell.data.toList.drop 119 = dktX1_sell_5 := dk_seg dksX1_sell_4 24 rfl rfl
theorem dX1_sell_0 : decode cX1_sell 0 = .ok (.aload_n 0, 1) := dk_42 (dk_at dksX1_sell_0 0 rfl rfl)
theorem dX1_sell_1 : decode cX1_sell 1 = .ok (.getfield 19, 3) := dk_180 0 19 (dk_at dksX1_sell_0 1 rfl rfl)
theorem dX1_sell_4 : decode cX1_sell 4 = .ok (.iload_n 1, 1) := dk_27 (dk_at dksX1_sell_0 4 rfl rfl)
theorem dX1_sell_5 : decode cX1_sell 5 = .ok (.invokeinterface 74 2, 5) := by decide +kernel
theorem dX1_sell_10 : decode cX1_sell 10 = .ok (.checkcast 82, 3) := dk_192 0 82 (dk_at dksX1_sell_0 10 rfl rfl)
theorem dX1_sell_13 : decode cX1_sell 13 = .ok (.astore 7, 2) := dk_58 7 (dk_at dksX1_sell_0 13 rfl rfl)
theorem dX1_sell_15 : decode cX1_sell 15 = .ok (.new 197, 3) := dk_187 0 197 (dk_at dksX1_sell_0 15 rfl rfl)
theorem dX1_sell_18 : decode cX1_sell 18 = .ok (.dup, 1) := dk_89 (dk_at dksX1_sell_0 18 rfl rfl)
theorem dX1_sell_19 : decode cX1_sell 19 = .ok (.iload_n 1, 1) := dk_27 (dk_at dksX1_sell_0 19 rfl rfl)
theorem dX1_sell_20 : decode cX1_sell 20 = .ok (.iload_n 2, 1) := dk_28 (dk_at dksX1_sell_0 20 rfl rfl)
theorem dX1_sell_21 : decode cX1_sell 21 = .ok (.iload_n 3, 1) := dk_29 (dk_at dksX1_sell_0 21 rfl rfl)
theorem dX1_sell_22 : decode cX1_sell 22 = .ok (.iload 4, 2) := dk_21 4 (dk_at dksX1_sell_0 22 rfl rfl)
theorem dX1_sell_24 : decode cX1_sell 24 = .ok (.aload_n 0, 1) := dk_42 (dk_at dksX1_sell_1 0 rfl rfl)
theorem dX1_sell_25 : decode cX1_sell 25 = .ok (.getfield 86, 3) := dk_180 0 86 (dk_at dksX1_sell_1 1 rfl rfl)
theorem dX1_sell_28 : decode cX1_sell 28 = .ok (.iload 5, 2) := dk_21 5 (dk_at dksX1_sell_1 4 rfl rfl)
theorem dX1_sell_30 : decode cX1_sell 30 = .ok (.iload 6, 2) := dk_21 6 (dk_at dksX1_sell_1 6 rfl rfl)
theorem dX1_sell_32 : decode cX1_sell 32 = .ok (.invokespecial 300, 3) := dk_183 1 44 (dk_at dksX1_sell_1 8 rfl rfl)
theorem dX1_sell_35 : decode cX1_sell 35 = .ok (.astore 8, 2) := dk_58 8 (dk_at dksX1_sell_1 11 rfl rfl)
theorem dX1_sell_37 : decode cX1_sell 37 = .ok (.aload_n 0, 1) := dk_42 (dk_at dksX1_sell_1 13 rfl rfl)
theorem dX1_sell_38 : decode cX1_sell 38 = .ok (.aload 8, 2) := dk_25 8 (dk_at dksX1_sell_1 14 rfl rfl)
theorem dX1_sell_40 : decode cX1_sell 40 = .ok (.iconst 1, 1) := dk_4 (dk_at dksX1_sell_1 16 rfl rfl)
theorem dX1_sell_41 : decode cX1_sell 41 = .ok (.invokevirtual 303, 3) := dk_182 1 47 (dk_at dksX1_sell_1 17 rfl rfl)
theorem dX1_sell_44 : decode cX1_sell 44 = .ok (.aload 7, 2) := dk_25 7 (dk_at dksX1_sell_1 20 rfl rfl)
theorem dX1_sell_46 : decode cX1_sell 46 = .ok (.aload 7, 2) := dk_25 7 (dk_at dksX1_sell_1 22 rfl rfl)
theorem dX1_sell_48 : decode cX1_sell 48 = .ok (.getfield 227, 3) := dk_180 0 227 (dk_at dksX1_sell_2 0 rfl rfl)
theorem dX1_sell_51 : decode cX1_sell 51 = .ok (.ifCond .ne 9, 3) := dk_154 0 9 (dk_at dksX1_sell_2 3 rfl rfl)
theorem dX1_sell_54 : decode cX1_sell 54 = .ok (.getstatic 307, 3) := dk_178 1 51 (dk_at dksX1_sell_2 6 rfl rfl)
theorem dX1_sell_57 : decode cX1_sell 57 = .ok (.goto 8, 3) := dk_167 0 8 (dk_at dksX1_sell_2 9 rfl rfl)
theorem dX1_sell_60 : decode cX1_sell 60 = .ok (.aload 7, 2) := dk_25 7 (dk_at dksX1_sell_2 12 rfl rfl)
theorem dX1_sell_62 : decode cX1_sell 62 = .ok (.getfield 237, 3) := dk_180 0 237 (dk_at dksX1_sell_2 14 rfl rfl)
theorem dX1_sell_65 : decode cX1_sell 65 = .ok (.putfield 237, 3) := dk_181 0 237 (dk_at dksX1_sell_2 17 rfl rfl)
theorem dX1_sell_68 : decode cX1_sell 68 = .ok (.aload_n 0, 1) := dk_42 (dk_at dksX1_sell_2 20 rfl rfl)
theorem dX1_sell_69 : decode cX1_sell 69 = .ok (.getfield 31, 3) := dk_180 0 31 (dk_at dksX1_sell_2 21 rfl rfl)
theorem dX1_sell_72 : decode cX1_sell 72 = .ok (.new 164, 3) := dk_187 0 164 (dk_at dksX1_sell_3 0 rfl rfl)
theorem dX1_sell_75 : decode cX1_sell 75 = .ok (.dup, 1) := dk_89 (dk_at dksX1_sell_3 3 rfl rfl)
theorem dX1_sell_76 : decode cX1_sell 76 = .ok (.aload 8, 2) := dk_25 8 (dk_at dksX1_sell_3 4 rfl rfl)
theorem dX1_sell_78 : decode cX1_sell 78 = .ok (.aload 7, 2) := dk_25 7 (dk_at dksX1_sell_3 6 rfl rfl)
theorem dX1_sell_80 : decode cX1_sell 80 = .ok (.invokespecial 310, 3) := dk_183 1 54 (dk_at dksX1_sell_3 8 rfl rfl)
theorem dX1_sell_83 : decode cX1_sell 83 = .ok (.invokeinterface 93 2, 5) := by decide +kernel
theorem dX1_sell_88 : decode cX1_sell 88 = .ok (.pop, 1) := dk_87 (dk_at dksX1_sell_3 16 rfl rfl)
theorem dX1_sell_89 : decode cX1_sell 89 = .ok (.aload_n 0, 1) := dk_42 (dk_at dksX1_sell_3 17 rfl rfl)
theorem dX1_sell_90 : decode cX1_sell 90 = .ok (.getfield 28, 3) := dk_180 0 28 (dk_at dksX1_sell_3 18 rfl rfl)
theorem dX1_sell_93 : decode cX1_sell 93 = .ok (.aload 8, 2) := dk_25 8 (dk_at dksX1_sell_3 21 rfl rfl)
theorem dX1_sell_95 : decode cX1_sell 95 = .ok (.invokeinterface 93 2, 5) := by decide +kernel
theorem dX1_sell_100 : decode cX1_sell 100 = .ok (.pop, 1) := dk_87 (dk_at dksX1_sell_4 5 rfl rfl)
theorem dX1_sell_101 : decode cX1_sell 101 = .ok (.aload_n 0, 1) := dk_42 (dk_at dksX1_sell_4 6 rfl rfl)
theorem dX1_sell_102 : decode cX1_sell 102 = .ok (.getfield 28, 3) := dk_180 0 28 (dk_at dksX1_sell_4 7 rfl rfl)
theorem dX1_sell_105 : decode cX1_sell 105 = .ok (.invokeinterface 64 1, 5) := by decide +kernel
theorem dX1_sell_110 : decode cX1_sell 110 = .ok (.bipush 20, 2) := dk_16 20 (dk_at dksX1_sell_4 15 rfl rfl)
theorem dX1_sell_112 : decode cX1_sell 112 = .ok (.if_icmp .le 14, 3) := dk_164 0 14 (dk_at dksX1_sell_4 17 rfl rfl)
theorem dX1_sell_115 : decode cX1_sell 115 = .ok (.aload_n 0, 1) := dk_42 (dk_at dksX1_sell_4 20 rfl rfl)
theorem dX1_sell_116 : decode cX1_sell 116 = .ok (.getfield 28, 3) := dk_180 0 28 (dk_at dksX1_sell_4 21 rfl rfl)
theorem dX1_sell_119 : decode cX1_sell 119 = .ok (.iconst 0, 1) := dk_3 (dk_at dksX1_sell_5 0 rfl rfl)
theorem dX1_sell_120 : decode cX1_sell 120 = .ok (.invokeinterface 182 2, 5) := by decide +kernel
theorem dX1_sell_125 : decode cX1_sell 125 = .ok (.pop, 1) := dk_87 (dk_at dksX1_sell_5 6 rfl rfl)
theorem dX1_sell_126 : decode cX1_sell 126 = .ok (.aload 8, 2) := dk_25 8 (dk_at dksX1_sell_5 7 rfl rfl)
theorem dX1_sell_128 : decode cX1_sell 128 = .ok (.areturn, 1) := dk_176 (dk_at dksX1_sell_5 9 rfl rfl)
abbrev cX1_settle : ByteArray := prog_1_method_30_code
def yX1_settle : MethodName := ⟨RX1, "settle", "(LBloomclock$Sale;I)V"⟩
def dkwX1_settle_11 : List UInt8 := [181, 1, 7, 177]
abbrev dktX1_settle_11 : List UInt8 := dkwX1_settle_11 ++ []
def dkwX1_settle_10 : List UInt8 := [180, 1, 78, 185, 0, 74, 2, 0, 192, 1, 2, 89, 180, 1, 7, 28, 43, 180, 0, 210, 104, 100]
abbrev dktX1_settle_10 : List UInt8 := dkwX1_settle_10 ++ dktX1_settle_11
def dkwX1_settle_9 : List UInt8 := [43, 182, 1, 65, 104, 96, 181, 1, 76, 43, 180, 1, 78, 2, 159, 0, 33, 42, 180, 0, 25, 43]
abbrev dktX1_settle_9 : List UInt8 := dkwX1_settle_9 ++ dktX1_settle_10
def dkwX1_settle_8 : List UInt8 := [181, 1, 72, 42, 89, 180, 1, 75, 28, 43, 180, 0, 210, 104, 96, 181, 1, 75, 42, 89, 180, 1, 76, 28]
abbrev dktX1_settle_8 : List UInt8 := dkwX1_settle_8 ++ dktX1_settle_9
def dkwX1_settle_7 : List UInt8 := [182, 1, 69, 100, 104, 96, 181, 0, 158, 25, 5, 89, 180, 1, 72, 28, 43, 180, 0, 210, 104, 96]
abbrev dktX1_settle_7 : List UInt8 := dkwX1_settle_7 ++ dktX1_settle_8
def dkwX1_settle_6 : List UInt8 := [180, 1, 62, 104, 96, 104, 96, 181, 1, 68, 25, 5, 89, 180, 0, 158, 28, 43, 182, 1, 65, 43]
abbrev dktX1_settle_6 : List UInt8 := dkwX1_settle_6 ++ dktX1_settle_7
def dkwX1_settle_5 : List UInt8 := [180, 1, 62, 104, 96, 104, 100, 181, 1, 64, 42, 89, 180, 1, 68, 28, 43, 182, 1, 69, 5, 43]
abbrev dktX1_settle_5 : List UInt8 := dkwX1_settle_5 ++ dktX1_settle_6
def dkwX1_settle_4 : List UInt8 := [28, 43, 180, 1, 62, 104, 96, 181, 1, 63, 25, 4, 89, 180, 1, 64, 28, 43, 182, 1, 65, 5, 43]
abbrev dktX1_settle_4 : List UInt8 := dkwX1_settle_4 ++ dktX1_settle_5
def dkwX1_settle_3 : List UInt8 := [181, 0, 227, 45, 89, 180, 1, 60, 28, 43, 180, 1, 62, 104, 100, 181, 1, 60, 25, 4, 89, 180, 1, 63]
abbrev dktX1_settle_3 : List UInt8 := dkwX1_settle_3 ++ dktX1_settle_4
def dkwX1_settle_2 : List UInt8 := [185, 0, 74, 2, 0, 192, 0, 78, 58, 5, 45, 89, 180, 0, 227, 28, 43, 180, 0, 210, 104, 100]
abbrev dktX1_settle_2 : List UInt8 := dkwX1_settle_2 ++ dktX1_settle_3
def dkwX1_settle_1 : List UInt8 := [180, 0, 196, 185, 0, 74, 2, 0, 192, 0, 84, 58, 4, 42, 180, 0, 12, 45, 180, 0, 219]
abbrev dktX1_settle_1 : List UInt8 := dkwX1_settle_1 ++ dktX1_settle_2
def dkwX1_settle_0 : List UInt8 := [42, 180, 0, 19, 43, 180, 1, 57, 185, 0, 74, 2, 0, 192, 0, 82, 78, 42, 180, 0, 22, 43]
abbrev dktX1_settle_0 : List UInt8 := dkwX1_settle_0 ++ dktX1_settle_1
theorem dksX1_settle_0 : cX1_settle.data.toList.drop 0 = dktX1_settle_0 := by decide +kernel
theorem dksX1_settle_1 : cX1_settle.data.toList.drop 22 = dktX1_settle_1 := dk_seg dksX1_settle_0 22 rfl rfl
theorem dksX1_settle_2 : cX1_settle.data.toList.drop 43 = dktX1_settle_2 := dk_seg dksX1_settle_1 21 rfl rfl
theorem dksX1_settle_3 : cX1_settle.data.toList.drop 65 = dktX1_settle_3 := dk_seg dksX1_settle_2 22 rfl rfl
theorem dksX1_settle_4 : cX1_settle.data.toList.drop 89 = dktX1_settle_4 := dk_seg dksX1_settle_3 24 rfl rfl
theorem dksX1_settle_5 : cX1_settle.data.toList.drop 112 = dktX1_settle_5 := dk_seg dksX1_settle_4 23 rfl rfl
theorem dksX1_settle_6 : cX1_settle.data.toList.drop 134 = dktX1_settle_6 := dk_seg dksX1_settle_5 22 rfl rfl
theorem dksX1_settle_7 : cX1_settle.data.toList.drop 156 = dktX1_settle_7 := dk_seg dksX1_settle_6 22 rfl rfl
theorem dksX1_settle_8 : cX1_settle.data.toList.drop 178 = dktX1_settle_8 := dk_seg dksX1_settle_7 22 rfl rfl
theorem dksX1_settle_9 : cX1_settle.data.toList.drop 202 = dktX1_settle_9 := dk_seg dksX1_settle_8 24 rfl rfl
theorem dksX1_settle_10 : cX1_settle.data.toList.drop 224 = dktX1_settle_10 := dk_seg dksX1_settle_9 22 rfl rfl
theorem dksX1_settle_11 : cX1_settle.data.toList.drop 246 = dktX1_settle_11 := dk_seg dksX1_settle_10 22 rfl rfl
theorem dX1_settle_0 : decode cX1_settle 0 = .ok (.aload_n 0, 1) := dk_42 (dk_at dksX1_settle_0 0 rfl rfl)
theorem dX1_settle_1 : decode cX1_settle 1 = .ok (.getfield 19, 3) := dk_180 0 19 (dk_at dksX1_settle_0 1 rfl rfl)
theorem dX1_settle_4 : decode cX1_settle 4 = .ok (.aload_n 1, 1) := dk_43 (dk_at dksX1_settle_0 4 rfl rfl)
theorem dX1_settle_5 : decode cX1_settle 5 = .ok (.getfield 313, 3) := dk_180 1 57 (dk_at dksX1_settle_0 5 rfl rfl)
theorem dX1_settle_8 : decode cX1_settle 8 = .ok (.invokeinterface 74 2, 5) := by decide +kernel
theorem dX1_settle_13 : decode cX1_settle 13 = .ok (.checkcast 82, 3) := dk_192 0 82 (dk_at dksX1_settle_0 13 rfl rfl)
theorem dX1_settle_16 : decode cX1_settle 16 = .ok (.astore_n 3, 1) := dk_78 (dk_at dksX1_settle_0 16 rfl rfl)
theorem dX1_settle_17 : decode cX1_settle 17 = .ok (.aload_n 0, 1) := dk_42 (dk_at dksX1_settle_0 17 rfl rfl)
theorem dX1_settle_18 : decode cX1_settle 18 = .ok (.getfield 22, 3) := dk_180 0 22 (dk_at dksX1_settle_0 18 rfl rfl)
theorem dX1_settle_21 : decode cX1_settle 21 = .ok (.aload_n 1, 1) := dk_43 (dk_at dksX1_settle_0 21 rfl rfl)
theorem dX1_settle_22 : decode cX1_settle 22 = .ok (.getfield 196, 3) := dk_180 0 196 (dk_at dksX1_settle_1 0 rfl rfl)
theorem dX1_settle_25 : decode cX1_settle 25 = .ok (.invokeinterface 74 2, 5) := by decide +kernel
theorem dX1_settle_30 : decode cX1_settle 30 = .ok (.checkcast 84, 3) := dk_192 0 84 (dk_at dksX1_settle_1 8 rfl rfl)
theorem dX1_settle_33 : decode cX1_settle 33 = .ok (.astore 4, 2) := dk_58 4 (dk_at dksX1_settle_1 11 rfl rfl)
theorem dX1_settle_35 : decode cX1_settle 35 = .ok (.aload_n 0, 1) := dk_42 (dk_at dksX1_settle_1 13 rfl rfl)
theorem dX1_settle_36 : decode cX1_settle 36 = .ok (.getfield 12, 3) := dk_180 0 12 (dk_at dksX1_settle_1 14 rfl rfl)
theorem dX1_settle_39 : decode cX1_settle 39 = .ok (.aload_n 3, 1) := dk_45 (dk_at dksX1_settle_1 17 rfl rfl)
theorem dX1_settle_40 : decode cX1_settle 40 = .ok (.getfield 219, 3) := dk_180 0 219 (dk_at dksX1_settle_1 18 rfl rfl)
theorem dX1_settle_43 : decode cX1_settle 43 = .ok (.invokeinterface 74 2, 5) := by decide +kernel
theorem dX1_settle_48 : decode cX1_settle 48 = .ok (.checkcast 78, 3) := dk_192 0 78 (dk_at dksX1_settle_2 5 rfl rfl)
theorem dX1_settle_51 : decode cX1_settle 51 = .ok (.astore 5, 2) := dk_58 5 (dk_at dksX1_settle_2 8 rfl rfl)
theorem dX1_settle_53 : decode cX1_settle 53 = .ok (.aload_n 3, 1) := dk_45 (dk_at dksX1_settle_2 10 rfl rfl)
theorem dX1_settle_54 : decode cX1_settle 54 = .ok (.dup, 1) := dk_89 (dk_at dksX1_settle_2 11 rfl rfl)
theorem dX1_settle_55 : decode cX1_settle 55 = .ok (.getfield 227, 3) := dk_180 0 227 (dk_at dksX1_settle_2 12 rfl rfl)
theorem dX1_settle_58 : decode cX1_settle 58 = .ok (.iload_n 2, 1) := dk_28 (dk_at dksX1_settle_2 15 rfl rfl)
theorem dX1_settle_59 : decode cX1_settle 59 = .ok (.aload_n 1, 1) := dk_43 (dk_at dksX1_settle_2 16 rfl rfl)
theorem dX1_settle_60 : decode cX1_settle 60 = .ok (.getfield 210, 3) := dk_180 0 210 (dk_at dksX1_settle_2 17 rfl rfl)
theorem dX1_settle_63 : decode cX1_settle 63 = .ok (.imul, 1) := dk_104 (dk_at dksX1_settle_2 20 rfl rfl)
theorem dX1_settle_64 : decode cX1_settle 64 = .ok (.isub, 1) := dk_100 (dk_at dksX1_settle_2 21 rfl rfl)
theorem dX1_settle_65 : decode cX1_settle 65 = .ok (.putfield 227, 3) := dk_181 0 227 (dk_at dksX1_settle_3 0 rfl rfl)
theorem dX1_settle_68 : decode cX1_settle 68 = .ok (.aload_n 3, 1) := dk_45 (dk_at dksX1_settle_3 3 rfl rfl)
theorem dX1_settle_69 : decode cX1_settle 69 = .ok (.dup, 1) := dk_89 (dk_at dksX1_settle_3 4 rfl rfl)
theorem dX1_settle_70 : decode cX1_settle 70 = .ok (.getfield 316, 3) := dk_180 1 60 (dk_at dksX1_settle_3 5 rfl rfl)
theorem dX1_settle_73 : decode cX1_settle 73 = .ok (.iload_n 2, 1) := dk_28 (dk_at dksX1_settle_3 8 rfl rfl)
theorem dX1_settle_74 : decode cX1_settle 74 = .ok (.aload_n 1, 1) := dk_43 (dk_at dksX1_settle_3 9 rfl rfl)
theorem dX1_settle_75 : decode cX1_settle 75 = .ok (.getfield 318, 3) := dk_180 1 62 (dk_at dksX1_settle_3 10 rfl rfl)
theorem dX1_settle_78 : decode cX1_settle 78 = .ok (.imul, 1) := dk_104 (dk_at dksX1_settle_3 13 rfl rfl)
theorem dX1_settle_79 : decode cX1_settle 79 = .ok (.isub, 1) := dk_100 (dk_at dksX1_settle_3 14 rfl rfl)
theorem dX1_settle_80 : decode cX1_settle 80 = .ok (.putfield 316, 3) := dk_181 1 60 (dk_at dksX1_settle_3 15 rfl rfl)
theorem dX1_settle_83 : decode cX1_settle 83 = .ok (.aload 4, 2) := dk_25 4 (dk_at dksX1_settle_3 18 rfl rfl)
theorem dX1_settle_85 : decode cX1_settle 85 = .ok (.dup, 1) := dk_89 (dk_at dksX1_settle_3 20 rfl rfl)
theorem dX1_settle_86 : decode cX1_settle 86 = .ok (.getfield 319, 3) := dk_180 1 63 (dk_at dksX1_settle_3 21 rfl rfl)
theorem dX1_settle_89 : decode cX1_settle 89 = .ok (.iload_n 2, 1) := dk_28 (dk_at dksX1_settle_4 0 rfl rfl)
theorem dX1_settle_90 : decode cX1_settle 90 = .ok (.aload_n 1, 1) := dk_43 (dk_at dksX1_settle_4 1 rfl rfl)
theorem dX1_settle_91 : decode cX1_settle 91 = .ok (.getfield 318, 3) := dk_180 1 62 (dk_at dksX1_settle_4 2 rfl rfl)
theorem dX1_settle_94 : decode cX1_settle 94 = .ok (.imul, 1) := dk_104 (dk_at dksX1_settle_4 5 rfl rfl)
theorem dX1_settle_95 : decode cX1_settle 95 = .ok (.iadd, 1) := dk_96 (dk_at dksX1_settle_4 6 rfl rfl)
theorem dX1_settle_96 : decode cX1_settle 96 = .ok (.putfield 319, 3) := dk_181 1 63 (dk_at dksX1_settle_4 7 rfl rfl)
theorem dX1_settle_99 : decode cX1_settle 99 = .ok (.aload 4, 2) := dk_25 4 (dk_at dksX1_settle_4 10 rfl rfl)
theorem dX1_settle_101 : decode cX1_settle 101 = .ok (.dup, 1) := dk_89 (dk_at dksX1_settle_4 12 rfl rfl)
theorem dX1_settle_102 : decode cX1_settle 102 = .ok (.getfield 320, 3) := dk_180 1 64 (dk_at dksX1_settle_4 13 rfl rfl)
theorem dX1_settle_105 : decode cX1_settle 105 = .ok (.iload_n 2, 1) := dk_28 (dk_at dksX1_settle_4 16 rfl rfl)
theorem dX1_settle_106 : decode cX1_settle 106 = .ok (.aload_n 1, 1) := dk_43 (dk_at dksX1_settle_4 17 rfl rfl)
theorem dX1_settle_107 : decode cX1_settle 107 = .ok (.invokevirtual 321, 3) := dk_182 1 65 (dk_at dksX1_settle_4 18 rfl rfl)
theorem dX1_settle_110 : decode cX1_settle 110 = .ok (.iconst 2, 1) := dk_5 (dk_at dksX1_settle_4 21 rfl rfl)
theorem dX1_settle_111 : decode cX1_settle 111 = .ok (.aload_n 1, 1) := dk_43 (dk_at dksX1_settle_4 22 rfl rfl)
theorem dX1_settle_112 : decode cX1_settle 112 = .ok (.getfield 318, 3) := dk_180 1 62 (dk_at dksX1_settle_5 0 rfl rfl)
theorem dX1_settle_115 : decode cX1_settle 115 = .ok (.imul, 1) := dk_104 (dk_at dksX1_settle_5 3 rfl rfl)
theorem dX1_settle_116 : decode cX1_settle 116 = .ok (.iadd, 1) := dk_96 (dk_at dksX1_settle_5 4 rfl rfl)
theorem dX1_settle_117 : decode cX1_settle 117 = .ok (.imul, 1) := dk_104 (dk_at dksX1_settle_5 5 rfl rfl)
theorem dX1_settle_118 : decode cX1_settle 118 = .ok (.isub, 1) := dk_100 (dk_at dksX1_settle_5 6 rfl rfl)
theorem dX1_settle_119 : decode cX1_settle 119 = .ok (.putfield 320, 3) := dk_181 1 64 (dk_at dksX1_settle_5 7 rfl rfl)
theorem dX1_settle_122 : decode cX1_settle 122 = .ok (.aload_n 0, 1) := dk_42 (dk_at dksX1_settle_5 10 rfl rfl)
theorem dX1_settle_123 : decode cX1_settle 123 = .ok (.dup, 1) := dk_89 (dk_at dksX1_settle_5 11 rfl rfl)
theorem dX1_settle_124 : decode cX1_settle 124 = .ok (.getfield 324, 3) := dk_180 1 68 (dk_at dksX1_settle_5 12 rfl rfl)
theorem dX1_settle_127 : decode cX1_settle 127 = .ok (.iload_n 2, 1) := dk_28 (dk_at dksX1_settle_5 15 rfl rfl)
theorem dX1_settle_128 : decode cX1_settle 128 = .ok (.aload_n 1, 1) := dk_43 (dk_at dksX1_settle_5 16 rfl rfl)
theorem dX1_settle_129 : decode cX1_settle 129 = .ok (.invokevirtual 325, 3) := dk_182 1 69 (dk_at dksX1_settle_5 17 rfl rfl)
theorem dX1_settle_132 : decode cX1_settle 132 = .ok (.iconst 2, 1) := dk_5 (dk_at dksX1_settle_5 20 rfl rfl)
theorem dX1_settle_133 : decode cX1_settle 133 = .ok (.aload_n 1, 1) := dk_43 (dk_at dksX1_settle_5 21 rfl rfl)
theorem dX1_settle_134 : decode cX1_settle 134 = .ok (.getfield 318, 3) := dk_180 1 62 (dk_at dksX1_settle_6 0 rfl rfl)
theorem dX1_settle_137 : decode cX1_settle 137 = .ok (.imul, 1) := dk_104 (dk_at dksX1_settle_6 3 rfl rfl)
theorem dX1_settle_138 : decode cX1_settle 138 = .ok (.iadd, 1) := dk_96 (dk_at dksX1_settle_6 4 rfl rfl)
theorem dX1_settle_139 : decode cX1_settle 139 = .ok (.imul, 1) := dk_104 (dk_at dksX1_settle_6 5 rfl rfl)
theorem dX1_settle_140 : decode cX1_settle 140 = .ok (.iadd, 1) := dk_96 (dk_at dksX1_settle_6 6 rfl rfl)
theorem dX1_settle_141 : decode cX1_settle 141 = .ok (.putfield 324, 3) := dk_181 1 68 (dk_at dksX1_settle_6 7 rfl rfl)
theorem dX1_settle_144 : decode cX1_settle 144 = .ok (.aload 5, 2) := dk_25 5 (dk_at dksX1_settle_6 10 rfl rfl)
theorem dX1_settle_146 : decode cX1_settle 146 = .ok (.dup, 1) := dk_89 (dk_at dksX1_settle_6 12 rfl rfl)
theorem dX1_settle_147 : decode cX1_settle 147 = .ok (.getfield 158, 3) := dk_180 0 158 (dk_at dksX1_settle_6 13 rfl rfl)
theorem dX1_settle_150 : decode cX1_settle 150 = .ok (.iload_n 2, 1) := dk_28 (dk_at dksX1_settle_6 16 rfl rfl)
theorem dX1_settle_151 : decode cX1_settle 151 = .ok (.aload_n 1, 1) := dk_43 (dk_at dksX1_settle_6 17 rfl rfl)
theorem dX1_settle_152 : decode cX1_settle 152 = .ok (.invokevirtual 321, 3) := dk_182 1 65 (dk_at dksX1_settle_6 18 rfl rfl)
theorem dX1_settle_155 : decode cX1_settle 155 = .ok (.aload_n 1, 1) := dk_43 (dk_at dksX1_settle_6 21 rfl rfl)
theorem dX1_settle_156 : decode cX1_settle 156 = .ok (.invokevirtual 325, 3) := dk_182 1 69 (dk_at dksX1_settle_7 0 rfl rfl)
theorem dX1_settle_159 : decode cX1_settle 159 = .ok (.isub, 1) := dk_100 (dk_at dksX1_settle_7 3 rfl rfl)
theorem dX1_settle_160 : decode cX1_settle 160 = .ok (.imul, 1) := dk_104 (dk_at dksX1_settle_7 4 rfl rfl)
theorem dX1_settle_161 : decode cX1_settle 161 = .ok (.iadd, 1) := dk_96 (dk_at dksX1_settle_7 5 rfl rfl)
theorem dX1_settle_162 : decode cX1_settle 162 = .ok (.putfield 158, 3) := dk_181 0 158 (dk_at dksX1_settle_7 6 rfl rfl)
theorem dX1_settle_165 : decode cX1_settle 165 = .ok (.aload 5, 2) := dk_25 5 (dk_at dksX1_settle_7 9 rfl rfl)
theorem dX1_settle_167 : decode cX1_settle 167 = .ok (.dup, 1) := dk_89 (dk_at dksX1_settle_7 11 rfl rfl)
theorem dX1_settle_168 : decode cX1_settle 168 = .ok (.getfield 328, 3) := dk_180 1 72 (dk_at dksX1_settle_7 12 rfl rfl)
theorem dX1_settle_171 : decode cX1_settle 171 = .ok (.iload_n 2, 1) := dk_28 (dk_at dksX1_settle_7 15 rfl rfl)
theorem dX1_settle_172 : decode cX1_settle 172 = .ok (.aload_n 1, 1) := dk_43 (dk_at dksX1_settle_7 16 rfl rfl)
theorem dX1_settle_173 : decode cX1_settle 173 = .ok (.getfield 210, 3) := dk_180 0 210 (dk_at dksX1_settle_7 17 rfl rfl)
theorem dX1_settle_176 : decode cX1_settle 176 = .ok (.imul, 1) := dk_104 (dk_at dksX1_settle_7 20 rfl rfl)
theorem dX1_settle_177 : decode cX1_settle 177 = .ok (.iadd, 1) := dk_96 (dk_at dksX1_settle_7 21 rfl rfl)
theorem dX1_settle_178 : decode cX1_settle 178 = .ok (.putfield 328, 3) := dk_181 1 72 (dk_at dksX1_settle_8 0 rfl rfl)
theorem dX1_settle_181 : decode cX1_settle 181 = .ok (.aload_n 0, 1) := dk_42 (dk_at dksX1_settle_8 3 rfl rfl)
theorem dX1_settle_182 : decode cX1_settle 182 = .ok (.dup, 1) := dk_89 (dk_at dksX1_settle_8 4 rfl rfl)
theorem dX1_settle_183 : decode cX1_settle 183 = .ok (.getfield 331, 3) := dk_180 1 75 (dk_at dksX1_settle_8 5 rfl rfl)
theorem dX1_settle_186 : decode cX1_settle 186 = .ok (.iload_n 2, 1) := dk_28 (dk_at dksX1_settle_8 8 rfl rfl)
theorem dX1_settle_187 : decode cX1_settle 187 = .ok (.aload_n 1, 1) := dk_43 (dk_at dksX1_settle_8 9 rfl rfl)
theorem dX1_settle_188 : decode cX1_settle 188 = .ok (.getfield 210, 3) := dk_180 0 210 (dk_at dksX1_settle_8 10 rfl rfl)
theorem dX1_settle_191 : decode cX1_settle 191 = .ok (.imul, 1) := dk_104 (dk_at dksX1_settle_8 13 rfl rfl)
theorem dX1_settle_192 : decode cX1_settle 192 = .ok (.iadd, 1) := dk_96 (dk_at dksX1_settle_8 14 rfl rfl)
theorem dX1_settle_193 : decode cX1_settle 193 = .ok (.putfield 331, 3) := dk_181 1 75 (dk_at dksX1_settle_8 15 rfl rfl)
theorem dX1_settle_196 : decode cX1_settle 196 = .ok (.aload_n 0, 1) := dk_42 (dk_at dksX1_settle_8 18 rfl rfl)
theorem dX1_settle_197 : decode cX1_settle 197 = .ok (.dup, 1) := dk_89 (dk_at dksX1_settle_8 19 rfl rfl)
theorem dX1_settle_198 : decode cX1_settle 198 = .ok (.getfield 332, 3) := dk_180 1 76 (dk_at dksX1_settle_8 20 rfl rfl)
theorem dX1_settle_201 : decode cX1_settle 201 = .ok (.iload_n 2, 1) := dk_28 (dk_at dksX1_settle_8 23 rfl rfl)
theorem dX1_settle_202 : decode cX1_settle 202 = .ok (.aload_n 1, 1) := dk_43 (dk_at dksX1_settle_9 0 rfl rfl)
theorem dX1_settle_203 : decode cX1_settle 203 = .ok (.invokevirtual 321, 3) := dk_182 1 65 (dk_at dksX1_settle_9 1 rfl rfl)
theorem dX1_settle_206 : decode cX1_settle 206 = .ok (.imul, 1) := dk_104 (dk_at dksX1_settle_9 4 rfl rfl)
theorem dX1_settle_207 : decode cX1_settle 207 = .ok (.iadd, 1) := dk_96 (dk_at dksX1_settle_9 5 rfl rfl)
theorem dX1_settle_208 : decode cX1_settle 208 = .ok (.putfield 332, 3) := dk_181 1 76 (dk_at dksX1_settle_9 6 rfl rfl)
theorem dX1_settle_211 : decode cX1_settle 211 = .ok (.aload_n 1, 1) := dk_43 (dk_at dksX1_settle_9 9 rfl rfl)
theorem dX1_settle_212 : decode cX1_settle 212 = .ok (.getfield 334, 3) := dk_180 1 78 (dk_at dksX1_settle_9 10 rfl rfl)
theorem dX1_settle_215 : decode cX1_settle 215 = .ok (.iconst (-1), 1) := dk_2 (dk_at dksX1_settle_9 13 rfl rfl)
theorem dX1_settle_216 : decode cX1_settle 216 = .ok (.if_icmp .eq 33, 3) := dk_159 0 33 (dk_at dksX1_settle_9 14 rfl rfl)
theorem dX1_settle_219 : decode cX1_settle 219 = .ok (.aload_n 0, 1) := dk_42 (dk_at dksX1_settle_9 17 rfl rfl)
theorem dX1_settle_220 : decode cX1_settle 220 = .ok (.getfield 25, 3) := dk_180 0 25 (dk_at dksX1_settle_9 18 rfl rfl)
theorem dX1_settle_223 : decode cX1_settle 223 = .ok (.aload_n 1, 1) := dk_43 (dk_at dksX1_settle_9 21 rfl rfl)
theorem dX1_settle_224 : decode cX1_settle 224 = .ok (.getfield 334, 3) := dk_180 1 78 (dk_at dksX1_settle_10 0 rfl rfl)
theorem dX1_settle_227 : decode cX1_settle 227 = .ok (.invokeinterface 74 2, 5) := by decide +kernel
theorem dX1_settle_232 : decode cX1_settle 232 = .ok (.checkcast 258, 3) := dk_192 1 2 (dk_at dksX1_settle_10 8 rfl rfl)
theorem dX1_settle_235 : decode cX1_settle 235 = .ok (.dup, 1) := dk_89 (dk_at dksX1_settle_10 11 rfl rfl)
theorem dX1_settle_236 : decode cX1_settle 236 = .ok (.getfield 263, 3) := dk_180 1 7 (dk_at dksX1_settle_10 12 rfl rfl)
theorem dX1_settle_239 : decode cX1_settle 239 = .ok (.iload_n 2, 1) := dk_28 (dk_at dksX1_settle_10 15 rfl rfl)
theorem dX1_settle_240 : decode cX1_settle 240 = .ok (.aload_n 1, 1) := dk_43 (dk_at dksX1_settle_10 16 rfl rfl)
theorem dX1_settle_241 : decode cX1_settle 241 = .ok (.getfield 210, 3) := dk_180 0 210 (dk_at dksX1_settle_10 17 rfl rfl)
theorem dX1_settle_244 : decode cX1_settle 244 = .ok (.imul, 1) := dk_104 (dk_at dksX1_settle_10 20 rfl rfl)
theorem dX1_settle_245 : decode cX1_settle 245 = .ok (.isub, 1) := dk_100 (dk_at dksX1_settle_10 21 rfl rfl)
theorem dX1_settle_246 : decode cX1_settle 246 = .ok (.putfield 263, 3) := dk_181 1 7 (dk_at dksX1_settle_11 0 rfl rfl)
theorem dX1_settle_249 : decode cX1_settle 249 = .ok (.return_, 1) := dk_177 (dk_at dksX1_settle_11 3 rfl rfl)
abbrev cX1_presell : ByteArray := prog_1_method_31_code
def yX1_presell : MethodName := ⟨RX1, "presell", "(IIII)I"⟩
def dkwX1_presell_4 : List UInt8 := [2, 21, 7, 182, 1, 40, 58, 8, 25, 8, 182, 1, 65, 25, 8, 182, 1, 69, 100, 172]
abbrev dktX1_presell_4 : List UInt8 := dkwX1_presell_4 ++ []
def dkwX1_presell_3 : List UInt8 := [3, 184, 0, 89, 25, 5, 180, 1, 60, 29, 184, 0, 121, 184, 1, 18, 54, 7, 42, 27, 28, 29, 21, 4]
abbrev dktX1_presell_3 : List UInt8 := dkwX1_presell_3 ++ dktX1_presell_4
def dkwX1_presell_2 : List UInt8 := [25, 5, 180, 0, 227, 163, 0, 19, 25, 6, 180, 1, 64, 29, 21, 4, 104, 161, 0, 7, 4, 167, 0, 4]
abbrev dktX1_presell_2 : List UInt8 := dkwX1_presell_2 ++ dktX1_presell_3
def dkwX1_presell_1 : List UInt8 := [184, 0, 54, 21, 4, 4, 16, 99, 184, 0, 101, 25, 5, 178, 0, 132, 182, 0, 138, 153, 0, 28, 29]
abbrev dktX1_presell_1 : List UInt8 := dkwX1_presell_1 ++ dktX1_presell_2
def dkwX1_presell_0 : List UInt8 := [42, 27, 182, 0, 128, 58, 5, 42, 28, 182, 0, 251, 58, 6, 29, 4, 161, 0, 7, 4, 167, 0, 4, 3]
abbrev dktX1_presell_0 : List UInt8 := dkwX1_presell_0 ++ dktX1_presell_1
theorem dksX1_presell_0 : cX1_presell.data.toList.drop 0 = dktX1_presell_0 := by decide +kernel
theorem dksX1_presell_1 : cX1_presell.data.toList.drop 24 = dktX1_presell_1 := dk_seg dksX1_presell_0 24 rfl rfl
theorem dksX1_presell_2 : cX1_presell.data.toList.drop 47 = dktX1_presell_2 := dk_seg dksX1_presell_1 23 rfl rfl
theorem dksX1_presell_3 : cX1_presell.data.toList.drop 71 = dktX1_presell_3 := dk_seg dksX1_presell_2 24 rfl rfl
theorem dksX1_presell_4 : cX1_presell.data.toList.drop 95 = dktX1_presell_4 := dk_seg dksX1_presell_3 24 rfl rfl
theorem dX1_presell_0 : decode cX1_presell 0 = .ok (.aload_n 0, 1) := dk_42 (dk_at dksX1_presell_0 0 rfl rfl)
theorem dX1_presell_1 : decode cX1_presell 1 = .ok (.iload_n 1, 1) := dk_27 (dk_at dksX1_presell_0 1 rfl rfl)
theorem dX1_presell_2 : decode cX1_presell 2 = .ok (.invokevirtual 128, 3) := dk_182 0 128 (dk_at dksX1_presell_0 2 rfl rfl)
theorem dX1_presell_5 : decode cX1_presell 5 = .ok (.astore 5, 2) := dk_58 5 (dk_at dksX1_presell_0 5 rfl rfl)
theorem dX1_presell_7 : decode cX1_presell 7 = .ok (.aload_n 0, 1) := dk_42 (dk_at dksX1_presell_0 7 rfl rfl)
theorem dX1_presell_8 : decode cX1_presell 8 = .ok (.iload_n 2, 1) := dk_28 (dk_at dksX1_presell_0 8 rfl rfl)
theorem dX1_presell_9 : decode cX1_presell 9 = .ok (.invokevirtual 251, 3) := dk_182 0 251 (dk_at dksX1_presell_0 9 rfl rfl)
theorem dX1_presell_12 : decode cX1_presell 12 = .ok (.astore 6, 2) := dk_58 6 (dk_at dksX1_presell_0 12 rfl rfl)
theorem dX1_presell_14 : decode cX1_presell 14 = .ok (.iload_n 3, 1) := dk_29 (dk_at dksX1_presell_0 14 rfl rfl)
theorem dX1_presell_15 : decode cX1_presell 15 = .ok (.iconst 1, 1) := dk_4 (dk_at dksX1_presell_0 15 rfl rfl)
theorem dX1_presell_16 : decode cX1_presell 16 = .ok (.if_icmp .lt 7, 3) := dk_161 0 7 (dk_at dksX1_presell_0 16 rfl rfl)
theorem dX1_presell_19 : decode cX1_presell 19 = .ok (.iconst 1, 1) := dk_4 (dk_at dksX1_presell_0 19 rfl rfl)
theorem dX1_presell_20 : decode cX1_presell 20 = .ok (.goto 4, 3) := dk_167 0 4 (dk_at dksX1_presell_0 20 rfl rfl)
theorem dX1_presell_23 : decode cX1_presell 23 = .ok (.iconst 0, 1) := dk_3 (dk_at dksX1_presell_0 23 rfl rfl)
theorem dX1_presell_24 : decode cX1_presell 24 = .ok (.invokestatic 54, 3) := dk_184 0 54 (dk_at dksX1_presell_1 0 rfl rfl)
theorem dX1_presell_27 : decode cX1_presell 27 = .ok (.iload 4, 2) := dk_21 4 (dk_at dksX1_presell_1 3 rfl rfl)
theorem dX1_presell_29 : decode cX1_presell 29 = .ok (.iconst 1, 1) := dk_4 (dk_at dksX1_presell_1 5 rfl rfl)
theorem dX1_presell_30 : decode cX1_presell 30 = .ok (.bipush 99, 2) := dk_16 99 (dk_at dksX1_presell_1 6 rfl rfl)
theorem dX1_presell_32 : decode cX1_presell 32 = .ok (.invokestatic 101, 3) := dk_184 0 101 (dk_at dksX1_presell_1 8 rfl rfl)
theorem dX1_presell_35 : decode cX1_presell 35 = .ok (.aload 5, 2) := dk_25 5 (dk_at dksX1_presell_1 11 rfl rfl)
theorem dX1_presell_37 : decode cX1_presell 37 = .ok (.getstatic 132, 3) := dk_178 0 132 (dk_at dksX1_presell_1 13 rfl rfl)
theorem dX1_presell_40 : decode cX1_presell 40 = .ok (.invokevirtual 138, 3) := dk_182 0 138 (dk_at dksX1_presell_1 16 rfl rfl)
theorem dX1_presell_43 : decode cX1_presell 43 = .ok (.ifCond .eq 28, 3) := dk_153 0 28 (dk_at dksX1_presell_1 19 rfl rfl)
theorem dX1_presell_46 : decode cX1_presell 46 = .ok (.iload_n 3, 1) := dk_29 (dk_at dksX1_presell_1 22 rfl rfl)
theorem dX1_presell_47 : decode cX1_presell 47 = .ok (.aload 5, 2) := dk_25 5 (dk_at dksX1_presell_2 0 rfl rfl)
theorem dX1_presell_49 : decode cX1_presell 49 = .ok (.getfield 227, 3) := dk_180 0 227 (dk_at dksX1_presell_2 2 rfl rfl)
theorem dX1_presell_52 : decode cX1_presell 52 = .ok (.if_icmp .gt 19, 3) := dk_163 0 19 (dk_at dksX1_presell_2 5 rfl rfl)
theorem dX1_presell_55 : decode cX1_presell 55 = .ok (.aload 6, 2) := dk_25 6 (dk_at dksX1_presell_2 8 rfl rfl)
theorem dX1_presell_57 : decode cX1_presell 57 = .ok (.getfield 320, 3) := dk_180 1 64 (dk_at dksX1_presell_2 10 rfl rfl)
theorem dX1_presell_60 : decode cX1_presell 60 = .ok (.iload_n 3, 1) := dk_29 (dk_at dksX1_presell_2 13 rfl rfl)
theorem dX1_presell_61 : decode cX1_presell 61 = .ok (.iload 4, 2) := dk_21 4 (dk_at dksX1_presell_2 14 rfl rfl)
theorem dX1_presell_63 : decode cX1_presell 63 = .ok (.imul, 1) := dk_104 (dk_at dksX1_presell_2 16 rfl rfl)
theorem dX1_presell_64 : decode cX1_presell 64 = .ok (.if_icmp .lt 7, 3) := dk_161 0 7 (dk_at dksX1_presell_2 17 rfl rfl)
theorem dX1_presell_67 : decode cX1_presell 67 = .ok (.iconst 1, 1) := dk_4 (dk_at dksX1_presell_2 20 rfl rfl)
theorem dX1_presell_68 : decode cX1_presell 68 = .ok (.goto 4, 3) := dk_167 0 4 (dk_at dksX1_presell_2 21 rfl rfl)
theorem dX1_presell_71 : decode cX1_presell 71 = .ok (.iconst 0, 1) := dk_3 (dk_at dksX1_presell_3 0 rfl rfl)
theorem dX1_presell_72 : decode cX1_presell 72 = .ok (.invokestatic 89, 3) := dk_184 0 89 (dk_at dksX1_presell_3 1 rfl rfl)
theorem dX1_presell_75 : decode cX1_presell 75 = .ok (.aload 5, 2) := dk_25 5 (dk_at dksX1_presell_3 4 rfl rfl)
theorem dX1_presell_77 : decode cX1_presell 77 = .ok (.getfield 316, 3) := dk_180 1 60 (dk_at dksX1_presell_3 6 rfl rfl)
theorem dX1_presell_80 : decode cX1_presell 80 = .ok (.iload_n 3, 1) := dk_29 (dk_at dksX1_presell_3 9 rfl rfl)
theorem dX1_presell_81 : decode cX1_presell 81 = .ok (.invokestatic 121, 3) := dk_184 0 121 (dk_at dksX1_presell_3 10 rfl rfl)
theorem dX1_presell_84 : decode cX1_presell 84 = .ok (.invokestatic 274, 3) := dk_184 1 18 (dk_at dksX1_presell_3 13 rfl rfl)
theorem dX1_presell_87 : decode cX1_presell 87 = .ok (.istore 7, 2) := dk_54 7 (dk_at dksX1_presell_3 16 rfl rfl)
theorem dX1_presell_89 : decode cX1_presell 89 = .ok (.aload_n 0, 1) := dk_42 (dk_at dksX1_presell_3 18 rfl rfl)
theorem dX1_presell_90 : decode cX1_presell 90 = .ok (.iload_n 1, 1) := dk_27 (dk_at dksX1_presell_3 19 rfl rfl)
theorem dX1_presell_91 : decode cX1_presell 91 = .ok (.iload_n 2, 1) := dk_28 (dk_at dksX1_presell_3 20 rfl rfl)
theorem dX1_presell_92 : decode cX1_presell 92 = .ok (.iload_n 3, 1) := dk_29 (dk_at dksX1_presell_3 21 rfl rfl)
theorem dX1_presell_93 : decode cX1_presell 93 = .ok (.iload 4, 2) := dk_21 4 (dk_at dksX1_presell_3 22 rfl rfl)
theorem dX1_presell_95 : decode cX1_presell 95 = .ok (.iconst (-1), 1) := dk_2 (dk_at dksX1_presell_4 0 rfl rfl)
theorem dX1_presell_96 : decode cX1_presell 96 = .ok (.iload 7, 2) := dk_21 7 (dk_at dksX1_presell_4 1 rfl rfl)
theorem dX1_presell_98 : decode cX1_presell 98 = .ok (.invokevirtual 296, 3) := dk_182 1 40 (dk_at dksX1_presell_4 3 rfl rfl)
theorem dX1_presell_101 : decode cX1_presell 101 = .ok (.astore 8, 2) := dk_58 8 (dk_at dksX1_presell_4 6 rfl rfl)
theorem dX1_presell_103 : decode cX1_presell 103 = .ok (.aload 8, 2) := dk_25 8 (dk_at dksX1_presell_4 8 rfl rfl)
theorem dX1_presell_105 : decode cX1_presell 105 = .ok (.invokevirtual 321, 3) := dk_182 1 65 (dk_at dksX1_presell_4 10 rfl rfl)
theorem dX1_presell_108 : decode cX1_presell 108 = .ok (.aload 8, 2) := dk_25 8 (dk_at dksX1_presell_4 13 rfl rfl)
theorem dX1_presell_110 : decode cX1_presell 110 = .ok (.invokevirtual 325, 3) := dk_182 1 69 (dk_at dksX1_presell_4 15 rfl rfl)
theorem dX1_presell_113 : decode cX1_presell 113 = .ok (.isub, 1) := dk_100 (dk_at dksX1_presell_4 18 rfl rfl)
theorem dX1_presell_114 : decode cX1_presell 114 = .ok (.ireturn, 1) := dk_172 (dk_at dksX1_presell_4 19 rfl rfl)
abbrev cX1_undo : ByteArray := prog_1_method_33_code
def yX1_undo : MethodName := ⟨RX1, "undo", "()I"⟩
def dkwX1_undo_7 : List UInt8 := [180, 0, 28, 185, 0, 64, 1, 0, 4, 100, 185, 0, 182, 2, 0, 87, 43, 180, 0, 210, 172]
abbrev dktX1_undo_7 : List UInt8 := dkwX1_undo_7 ++ []
def dkwX1_undo_6 : List UInt8 := [181, 0, 237, 42, 180, 0, 31, 42, 43, 182, 1, 83, 185, 0, 182, 2, 0, 87, 42, 180, 0, 28, 42]
abbrev dktX1_undo_6 : List UInt8 := dkwX1_undo_6 ++ dktX1_undo_7
def dkwX1_undo_5 : List UInt8 := [182, 1, 47, 44, 44, 178, 1, 51, 182, 0, 138, 153, 0, 9, 178, 0, 132, 167, 0, 7, 44, 180, 0, 237]
abbrev dktX1_undo_5 : List UInt8 := dkwX1_undo_5 ++ dktX1_undo_6
def dkwX1_undo_4 : List UInt8 := [192, 0, 84, 180, 1, 63, 43, 180, 1, 62, 161, 0, 7, 4, 167, 0, 4, 3, 184, 0, 89, 42, 43, 2]
abbrev dktX1_undo_4 : List UInt8 := dkwX1_undo_4 ++ dktX1_undo_5
def dkwX1_undo_3 : List UInt8 := [44, 178, 1, 80, 182, 0, 138, 154, 0, 33, 42, 180, 0, 22, 43, 180, 0, 196, 185, 0, 74, 2, 0]
abbrev dktX1_undo_3 : List UInt8 := dkwX1_undo_3 ++ dktX1_undo_4
def dkwX1_undo_2 : List UInt8 := [43, 180, 1, 57, 185, 0, 74, 2, 0, 192, 0, 82, 77, 43, 180, 1, 79, 42, 180, 0, 86, 160, 0, 43]
abbrev dktX1_undo_2 : List UInt8 := dkwX1_undo_2 ++ dktX1_undo_3
def dkwX1_undo_1 : List UInt8 := [42, 180, 0, 28, 185, 0, 64, 1, 0, 4, 100, 185, 0, 74, 2, 0, 192, 0, 197, 76, 42, 180, 0, 19]
abbrev dktX1_undo_1 : List UInt8 := dkwX1_undo_1 ++ dktX1_undo_2
def dkwX1_undo_0 : List UInt8 := [42, 180, 0, 28, 185, 0, 175, 1, 0, 154, 0, 7, 4, 167, 0, 4, 3, 184, 0, 89, 42, 180, 0, 28]
abbrev dktX1_undo_0 : List UInt8 := dkwX1_undo_0 ++ dktX1_undo_1
theorem dksX1_undo_0 : cX1_undo.data.toList.drop 0 = dktX1_undo_0 := by decide +kernel
theorem dksX1_undo_1 : cX1_undo.data.toList.drop 24 = dktX1_undo_1 := dk_seg dksX1_undo_0 24 rfl rfl
theorem dksX1_undo_2 : cX1_undo.data.toList.drop 48 = dktX1_undo_2 := dk_seg dksX1_undo_1 24 rfl rfl
theorem dksX1_undo_3 : cX1_undo.data.toList.drop 72 = dktX1_undo_3 := dk_seg dksX1_undo_2 24 rfl rfl
theorem dksX1_undo_4 : cX1_undo.data.toList.drop 95 = dktX1_undo_4 := dk_seg dksX1_undo_3 23 rfl rfl
theorem dksX1_undo_5 : cX1_undo.data.toList.drop 119 = dktX1_undo_5 := dk_seg dksX1_undo_4 24 rfl rfl
theorem dksX1_undo_6 : cX1_undo.data.toList.drop 143 = dktX1_undo_6 := dk_seg dksX1_undo_5 24 rfl rfl
theorem dksX1_undo_7 : cX1_undo.data.toList.drop 166 = dktX1_undo_7 := dk_seg dksX1_undo_6 23 rfl rfl
theorem dX1_undo_0 : decode cX1_undo 0 = .ok (.aload_n 0, 1) := dk_42 (dk_at dksX1_undo_0 0 rfl rfl)
theorem dX1_undo_1 : decode cX1_undo 1 = .ok (.getfield 28, 3) := dk_180 0 28 (dk_at dksX1_undo_0 1 rfl rfl)
theorem dX1_undo_4 : decode cX1_undo 4 = .ok (.invokeinterface 175 1, 5) := by decide +kernel
theorem dX1_undo_9 : decode cX1_undo 9 = .ok (.ifCond .ne 7, 3) := dk_154 0 7 (dk_at dksX1_undo_0 9 rfl rfl)
theorem dX1_undo_12 : decode cX1_undo 12 = .ok (.iconst 1, 1) := dk_4 (dk_at dksX1_undo_0 12 rfl rfl)
theorem dX1_undo_13 : decode cX1_undo 13 = .ok (.goto 4, 3) := dk_167 0 4 (dk_at dksX1_undo_0 13 rfl rfl)
theorem dX1_undo_16 : decode cX1_undo 16 = .ok (.iconst 0, 1) := dk_3 (dk_at dksX1_undo_0 16 rfl rfl)
theorem dX1_undo_17 : decode cX1_undo 17 = .ok (.invokestatic 89, 3) := dk_184 0 89 (dk_at dksX1_undo_0 17 rfl rfl)
theorem dX1_undo_20 : decode cX1_undo 20 = .ok (.aload_n 0, 1) := dk_42 (dk_at dksX1_undo_0 20 rfl rfl)
theorem dX1_undo_21 : decode cX1_undo 21 = .ok (.getfield 28, 3) := dk_180 0 28 (dk_at dksX1_undo_0 21 rfl rfl)
theorem dX1_undo_24 : decode cX1_undo 24 = .ok (.aload_n 0, 1) := dk_42 (dk_at dksX1_undo_1 0 rfl rfl)
theorem dX1_undo_25 : decode cX1_undo 25 = .ok (.getfield 28, 3) := dk_180 0 28 (dk_at dksX1_undo_1 1 rfl rfl)
theorem dX1_undo_28 : decode cX1_undo 28 = .ok (.invokeinterface 64 1, 5) := by decide +kernel
theorem dX1_undo_33 : decode cX1_undo 33 = .ok (.iconst 1, 1) := dk_4 (dk_at dksX1_undo_1 9 rfl rfl)
theorem dX1_undo_34 : decode cX1_undo 34 = .ok (.isub, 1) := dk_100 (dk_at dksX1_undo_1 10 rfl rfl)
theorem dX1_undo_35 : decode cX1_undo 35 = .ok (.invokeinterface 74 2, 5) := by decide +kernel
theorem dX1_undo_40 : decode cX1_undo 40 = .ok (.checkcast 197, 3) := dk_192 0 197 (dk_at dksX1_undo_1 16 rfl rfl)
theorem dX1_undo_43 : decode cX1_undo 43 = .ok (.astore_n 1, 1) := dk_76 (dk_at dksX1_undo_1 19 rfl rfl)
theorem dX1_undo_44 : decode cX1_undo 44 = .ok (.aload_n 0, 1) := dk_42 (dk_at dksX1_undo_1 20 rfl rfl)
theorem dX1_undo_45 : decode cX1_undo 45 = .ok (.getfield 19, 3) := dk_180 0 19 (dk_at dksX1_undo_1 21 rfl rfl)
theorem dX1_undo_48 : decode cX1_undo 48 = .ok (.aload_n 1, 1) := dk_43 (dk_at dksX1_undo_2 0 rfl rfl)
theorem dX1_undo_49 : decode cX1_undo 49 = .ok (.getfield 313, 3) := dk_180 1 57 (dk_at dksX1_undo_2 1 rfl rfl)
theorem dX1_undo_52 : decode cX1_undo 52 = .ok (.invokeinterface 74 2, 5) := by decide +kernel
theorem dX1_undo_57 : decode cX1_undo 57 = .ok (.checkcast 82, 3) := dk_192 0 82 (dk_at dksX1_undo_2 9 rfl rfl)
theorem dX1_undo_60 : decode cX1_undo 60 = .ok (.astore_n 2, 1) := dk_77 (dk_at dksX1_undo_2 12 rfl rfl)
theorem dX1_undo_61 : decode cX1_undo 61 = .ok (.aload_n 1, 1) := dk_43 (dk_at dksX1_undo_2 13 rfl rfl)
theorem dX1_undo_62 : decode cX1_undo 62 = .ok (.getfield 335, 3) := dk_180 1 79 (dk_at dksX1_undo_2 14 rfl rfl)
theorem dX1_undo_65 : decode cX1_undo 65 = .ok (.aload_n 0, 1) := dk_42 (dk_at dksX1_undo_2 17 rfl rfl)
theorem dX1_undo_66 : decode cX1_undo 66 = .ok (.getfield 86, 3) := dk_180 0 86 (dk_at dksX1_undo_2 18 rfl rfl)
theorem dX1_undo_69 : decode cX1_undo 69 = .ok (.if_icmp .ne 43, 3) := dk_160 0 43 (dk_at dksX1_undo_2 21 rfl rfl)
theorem dX1_undo_72 : decode cX1_undo 72 = .ok (.aload_n 2, 1) := dk_44 (dk_at dksX1_undo_3 0 rfl rfl)
theorem dX1_undo_73 : decode cX1_undo 73 = .ok (.getstatic 336, 3) := dk_178 1 80 (dk_at dksX1_undo_3 1 rfl rfl)
theorem dX1_undo_76 : decode cX1_undo 76 = .ok (.invokevirtual 138, 3) := dk_182 0 138 (dk_at dksX1_undo_3 4 rfl rfl)
theorem dX1_undo_79 : decode cX1_undo 79 = .ok (.ifCond .ne 33, 3) := dk_154 0 33 (dk_at dksX1_undo_3 7 rfl rfl)
theorem dX1_undo_82 : decode cX1_undo 82 = .ok (.aload_n 0, 1) := dk_42 (dk_at dksX1_undo_3 10 rfl rfl)
theorem dX1_undo_83 : decode cX1_undo 83 = .ok (.getfield 22, 3) := dk_180 0 22 (dk_at dksX1_undo_3 11 rfl rfl)
theorem dX1_undo_86 : decode cX1_undo 86 = .ok (.aload_n 1, 1) := dk_43 (dk_at dksX1_undo_3 14 rfl rfl)
theorem dX1_undo_87 : decode cX1_undo 87 = .ok (.getfield 196, 3) := dk_180 0 196 (dk_at dksX1_undo_3 15 rfl rfl)
theorem dX1_undo_90 : decode cX1_undo 90 = .ok (.invokeinterface 74 2, 5) := by decide +kernel
theorem dX1_undo_95 : decode cX1_undo 95 = .ok (.checkcast 84, 3) := dk_192 0 84 (dk_at dksX1_undo_4 0 rfl rfl)
theorem dX1_undo_98 : decode cX1_undo 98 = .ok (.getfield 319, 3) := dk_180 1 63 (dk_at dksX1_undo_4 3 rfl rfl)
theorem dX1_undo_101 : decode cX1_undo 101 = .ok (.aload_n 1, 1) := dk_43 (dk_at dksX1_undo_4 6 rfl rfl)
theorem dX1_undo_102 : decode cX1_undo 102 = .ok (.getfield 318, 3) := dk_180 1 62 (dk_at dksX1_undo_4 7 rfl rfl)
theorem dX1_undo_105 : decode cX1_undo 105 = .ok (.if_icmp .lt 7, 3) := dk_161 0 7 (dk_at dksX1_undo_4 10 rfl rfl)
theorem dX1_undo_108 : decode cX1_undo 108 = .ok (.iconst 1, 1) := dk_4 (dk_at dksX1_undo_4 13 rfl rfl)
theorem dX1_undo_109 : decode cX1_undo 109 = .ok (.goto 4, 3) := dk_167 0 4 (dk_at dksX1_undo_4 14 rfl rfl)
theorem dX1_undo_112 : decode cX1_undo 112 = .ok (.iconst 0, 1) := dk_3 (dk_at dksX1_undo_4 17 rfl rfl)
theorem dX1_undo_113 : decode cX1_undo 113 = .ok (.invokestatic 89, 3) := dk_184 0 89 (dk_at dksX1_undo_4 18 rfl rfl)
theorem dX1_undo_116 : decode cX1_undo 116 = .ok (.aload_n 0, 1) := dk_42 (dk_at dksX1_undo_4 21 rfl rfl)
theorem dX1_undo_117 : decode cX1_undo 117 = .ok (.aload_n 1, 1) := dk_43 (dk_at dksX1_undo_4 22 rfl rfl)
theorem dX1_undo_118 : decode cX1_undo 118 = .ok (.iconst (-1), 1) := dk_2 (dk_at dksX1_undo_4 23 rfl rfl)
theorem dX1_undo_119 : decode cX1_undo 119 = .ok (.invokevirtual 303, 3) := dk_182 1 47 (dk_at dksX1_undo_5 0 rfl rfl)
theorem dX1_undo_122 : decode cX1_undo 122 = .ok (.aload_n 2, 1) := dk_44 (dk_at dksX1_undo_5 3 rfl rfl)
theorem dX1_undo_123 : decode cX1_undo 123 = .ok (.aload_n 2, 1) := dk_44 (dk_at dksX1_undo_5 4 rfl rfl)
theorem dX1_undo_124 : decode cX1_undo 124 = .ok (.getstatic 307, 3) := dk_178 1 51 (dk_at dksX1_undo_5 5 rfl rfl)
theorem dX1_undo_127 : decode cX1_undo 127 = .ok (.invokevirtual 138, 3) := dk_182 0 138 (dk_at dksX1_undo_5 8 rfl rfl)
theorem dX1_undo_130 : decode cX1_undo 130 = .ok (.ifCond .eq 9, 3) := dk_153 0 9 (dk_at dksX1_undo_5 11 rfl rfl)
theorem dX1_undo_133 : decode cX1_undo 133 = .ok (.getstatic 132, 3) := dk_178 0 132 (dk_at dksX1_undo_5 14 rfl rfl)
theorem dX1_undo_136 : decode cX1_undo 136 = .ok (.goto 7, 3) := dk_167 0 7 (dk_at dksX1_undo_5 17 rfl rfl)
theorem dX1_undo_139 : decode cX1_undo 139 = .ok (.aload_n 2, 1) := dk_44 (dk_at dksX1_undo_5 20 rfl rfl)
theorem dX1_undo_140 : decode cX1_undo 140 = .ok (.getfield 237, 3) := dk_180 0 237 (dk_at dksX1_undo_5 21 rfl rfl)
theorem dX1_undo_143 : decode cX1_undo 143 = .ok (.putfield 237, 3) := dk_181 0 237 (dk_at dksX1_undo_6 0 rfl rfl)
theorem dX1_undo_146 : decode cX1_undo 146 = .ok (.aload_n 0, 1) := dk_42 (dk_at dksX1_undo_6 3 rfl rfl)
theorem dX1_undo_147 : decode cX1_undo 147 = .ok (.getfield 31, 3) := dk_180 0 31 (dk_at dksX1_undo_6 4 rfl rfl)
theorem dX1_undo_150 : decode cX1_undo 150 = .ok (.aload_n 0, 1) := dk_42 (dk_at dksX1_undo_6 7 rfl rfl)
theorem dX1_undo_151 : decode cX1_undo 151 = .ok (.aload_n 1, 1) := dk_43 (dk_at dksX1_undo_6 8 rfl rfl)
theorem dX1_undo_152 : decode cX1_undo 152 = .ok (.invokevirtual 339, 3) := dk_182 1 83 (dk_at dksX1_undo_6 9 rfl rfl)
theorem dX1_undo_155 : decode cX1_undo 155 = .ok (.invokeinterface 182 2, 5) := by decide +kernel
theorem dX1_undo_160 : decode cX1_undo 160 = .ok (.pop, 1) := dk_87 (dk_at dksX1_undo_6 17 rfl rfl)
theorem dX1_undo_161 : decode cX1_undo 161 = .ok (.aload_n 0, 1) := dk_42 (dk_at dksX1_undo_6 18 rfl rfl)
theorem dX1_undo_162 : decode cX1_undo 162 = .ok (.getfield 28, 3) := dk_180 0 28 (dk_at dksX1_undo_6 19 rfl rfl)
theorem dX1_undo_165 : decode cX1_undo 165 = .ok (.aload_n 0, 1) := dk_42 (dk_at dksX1_undo_6 22 rfl rfl)
theorem dX1_undo_166 : decode cX1_undo 166 = .ok (.getfield 28, 3) := dk_180 0 28 (dk_at dksX1_undo_7 0 rfl rfl)
theorem dX1_undo_169 : decode cX1_undo 169 = .ok (.invokeinterface 64 1, 5) := by decide +kernel
theorem dX1_undo_174 : decode cX1_undo 174 = .ok (.iconst 1, 1) := dk_4 (dk_at dksX1_undo_7 8 rfl rfl)
theorem dX1_undo_175 : decode cX1_undo 175 = .ok (.isub, 1) := dk_100 (dk_at dksX1_undo_7 9 rfl rfl)
theorem dX1_undo_176 : decode cX1_undo 176 = .ok (.invokeinterface 182 2, 5) := by decide +kernel
theorem dX1_undo_181 : decode cX1_undo 181 = .ok (.pop, 1) := dk_87 (dk_at dksX1_undo_7 15 rfl rfl)
theorem dX1_undo_182 : decode cX1_undo 182 = .ok (.aload_n 1, 1) := dk_43 (dk_at dksX1_undo_7 16 rfl rfl)
theorem dX1_undo_183 : decode cX1_undo 183 = .ok (.getfield 210, 3) := dk_180 0 210 (dk_at dksX1_undo_7 17 rfl rfl)
theorem dX1_undo_186 : decode cX1_undo 186 = .ok (.ireturn, 1) := dk_172 (dk_at dksX1_undo_7 20 rfl rfl)
abbrev cX1_onRail : ByteArray := prog_1_method_32_code
def yX1_onRail : MethodName := ⟨RX1, "onRail", "(LBloomclock$Sale;)I"⟩
def dkwX1_onRail_2 : List UInt8 := [172]
abbrev dktX1_onRail_2 : List UInt8 := dkwX1_onRail_2 ++ []
def dkwX1_onRail_1 : List UInt8 := [185, 0, 74, 2, 0, 192, 0, 164, 180, 0, 192, 43, 166, 0, 5, 28, 172, 132, 2, 1, 167, 255, 218, 2]
abbrev dktX1_onRail_1 : List UInt8 := dkwX1_onRail_1 ++ dktX1_onRail_2
def dkwX1_onRail_0 : List UInt8 := [3, 61, 28, 42, 180, 0, 31, 185, 0, 64, 1, 0, 162, 0, 31, 42, 180, 0, 31, 28]
abbrev dktX1_onRail_0 : List UInt8 := dkwX1_onRail_0 ++ dktX1_onRail_1
theorem dksX1_onRail_0 : cX1_onRail.data.toList.drop 0 = dktX1_onRail_0 := by decide +kernel
theorem dksX1_onRail_1 : cX1_onRail.data.toList.drop 20 = dktX1_onRail_1 := dk_seg dksX1_onRail_0 20 rfl rfl
theorem dksX1_onRail_2 : cX1_onRail.data.toList.drop 44 = dktX1_onRail_2 := dk_seg dksX1_onRail_1 24 rfl rfl
theorem dX1_onRail_0 : decode cX1_onRail 0 = .ok (.iconst 0, 1) := dk_3 (dk_at dksX1_onRail_0 0 rfl rfl)
theorem dX1_onRail_1 : decode cX1_onRail 1 = .ok (.istore_n 2, 1) := dk_61 (dk_at dksX1_onRail_0 1 rfl rfl)
theorem dX1_onRail_2 : decode cX1_onRail 2 = .ok (.iload_n 2, 1) := dk_28 (dk_at dksX1_onRail_0 2 rfl rfl)
theorem dX1_onRail_3 : decode cX1_onRail 3 = .ok (.aload_n 0, 1) := dk_42 (dk_at dksX1_onRail_0 3 rfl rfl)
theorem dX1_onRail_4 : decode cX1_onRail 4 = .ok (.getfield 31, 3) := dk_180 0 31 (dk_at dksX1_onRail_0 4 rfl rfl)
theorem dX1_onRail_7 : decode cX1_onRail 7 = .ok (.invokeinterface 64 1, 5) := by decide +kernel
theorem dX1_onRail_12 : decode cX1_onRail 12 = .ok (.if_icmp .ge 31, 3) := dk_162 0 31 (dk_at dksX1_onRail_0 12 rfl rfl)
theorem dX1_onRail_15 : decode cX1_onRail 15 = .ok (.aload_n 0, 1) := dk_42 (dk_at dksX1_onRail_0 15 rfl rfl)
theorem dX1_onRail_16 : decode cX1_onRail 16 = .ok (.getfield 31, 3) := dk_180 0 31 (dk_at dksX1_onRail_0 16 rfl rfl)
theorem dX1_onRail_19 : decode cX1_onRail 19 = .ok (.iload_n 2, 1) := dk_28 (dk_at dksX1_onRail_0 19 rfl rfl)
theorem dX1_onRail_20 : decode cX1_onRail 20 = .ok (.invokeinterface 74 2, 5) := by decide +kernel
theorem dX1_onRail_25 : decode cX1_onRail 25 = .ok (.checkcast 164, 3) := dk_192 0 164 (dk_at dksX1_onRail_1 5 rfl rfl)
theorem dX1_onRail_28 : decode cX1_onRail 28 = .ok (.getfield 192, 3) := dk_180 0 192 (dk_at dksX1_onRail_1 8 rfl rfl)
theorem dX1_onRail_31 : decode cX1_onRail 31 = .ok (.aload_n 1, 1) := dk_43 (dk_at dksX1_onRail_1 11 rfl rfl)
theorem dX1_onRail_32 : decode cX1_onRail 32 = .ok (.if_acmp .ne 5, 3) := dk_166 0 5 (dk_at dksX1_onRail_1 12 rfl rfl)
theorem dX1_onRail_35 : decode cX1_onRail 35 = .ok (.iload_n 2, 1) := dk_28 (dk_at dksX1_onRail_1 15 rfl rfl)
theorem dX1_onRail_36 : decode cX1_onRail 36 = .ok (.ireturn, 1) := dk_172 (dk_at dksX1_onRail_1 16 rfl rfl)
theorem dX1_onRail_37 : decode cX1_onRail 37 = .ok (.iinc 2 1, 3) := dk_132 2 1 (dk_at dksX1_onRail_1 17 rfl rfl)
theorem dX1_onRail_40 : decode cX1_onRail 40 = .ok (.goto (-38), 3) := dk_167 255 218 (dk_at dksX1_onRail_1 20 rfl rfl)
theorem dX1_onRail_43 : decode cX1_onRail 43 = .ok (.iconst (-1), 1) := dk_2 (dk_at dksX1_onRail_1 23 rfl rfl)
theorem dX1_onRail_44 : decode cX1_onRail 44 = .ok (.ireturn, 1) := dk_172 (dk_at dksX1_onRail_2 0 rfl rfl)
abbrev cX1_speed : ByteArray := prog_1_method_34_code
def yX1_speed : MethodName := ⟨RX1, "speed", "(I)I"⟩
def dkwX1_speed_0 : List UInt8 := [27, 4, 16, 9, 184, 0, 101, 42, 180, 0, 48, 61, 42, 27, 181, 0, 48, 28, 172]
abbrev dktX1_speed_0 : List UInt8 := dkwX1_speed_0 ++ []
theorem dksX1_speed_0 : cX1_speed.data.toList.drop 0 = dktX1_speed_0 := by decide +kernel
theorem dX1_speed_0 : decode cX1_speed 0 = .ok (.iload_n 1, 1) := dk_27 (dk_at dksX1_speed_0 0 rfl rfl)
theorem dX1_speed_1 : decode cX1_speed 1 = .ok (.iconst 1, 1) := dk_4 (dk_at dksX1_speed_0 1 rfl rfl)
theorem dX1_speed_2 : decode cX1_speed 2 = .ok (.bipush 9, 2) := dk_16 9 (dk_at dksX1_speed_0 2 rfl rfl)
theorem dX1_speed_4 : decode cX1_speed 4 = .ok (.invokestatic 101, 3) := dk_184 0 101 (dk_at dksX1_speed_0 4 rfl rfl)
theorem dX1_speed_7 : decode cX1_speed 7 = .ok (.aload_n 0, 1) := dk_42 (dk_at dksX1_speed_0 7 rfl rfl)
theorem dX1_speed_8 : decode cX1_speed 8 = .ok (.getfield 48, 3) := dk_180 0 48 (dk_at dksX1_speed_0 8 rfl rfl)
theorem dX1_speed_11 : decode cX1_speed 11 = .ok (.istore_n 2, 1) := dk_61 (dk_at dksX1_speed_0 11 rfl rfl)
theorem dX1_speed_12 : decode cX1_speed 12 = .ok (.aload_n 0, 1) := dk_42 (dk_at dksX1_speed_0 12 rfl rfl)
theorem dX1_speed_13 : decode cX1_speed 13 = .ok (.iload_n 1, 1) := dk_27 (dk_at dksX1_speed_0 13 rfl rfl)
theorem dX1_speed_14 : decode cX1_speed 14 = .ok (.putfield 48, 3) := dk_181 0 48 (dk_at dksX1_speed_0 14 rfl rfl)
theorem dX1_speed_17 : decode cX1_speed 17 = .ok (.iload_n 2, 1) := dk_28 (dk_at dksX1_speed_0 17 rfl rfl)
theorem dX1_speed_18 : decode cX1_speed 18 = .ok (.ireturn, 1) := dk_172 (dk_at dksX1_speed_0 18 rfl rfl)
abbrev cX1_bind : ByteArray := prog_1_method_35_code
def yX1_bind : MethodName := ⟨RX1, "bind", "(II)I"⟩
def dkwX1_bind_1 : List UInt8 := [182, 1, 87, 153, 0, 9, 132, 4, 1, 167, 255, 240, 21, 4, 172]
abbrev dktX1_bind_1 : List UInt8 := dkwX1_bind_1 ++ []
def dkwX1_bind_0 : List UInt8 := [42, 27, 182, 0, 251, 78, 28, 4, 16, 99, 184, 0, 101, 3, 54, 4, 21, 4, 28, 162, 0, 16, 45]
abbrev dktX1_bind_0 : List UInt8 := dkwX1_bind_0 ++ dktX1_bind_1
theorem dksX1_bind_0 : cX1_bind.data.toList.drop 0 = dktX1_bind_0 := by decide +kernel
theorem dksX1_bind_1 : cX1_bind.data.toList.drop 23 = dktX1_bind_1 := dk_seg dksX1_bind_0 23 rfl rfl
theorem dX1_bind_0 : decode cX1_bind 0 = .ok (.aload_n 0, 1) := dk_42 (dk_at dksX1_bind_0 0 rfl rfl)
theorem dX1_bind_1 : decode cX1_bind 1 = .ok (.iload_n 1, 1) := dk_27 (dk_at dksX1_bind_0 1 rfl rfl)
theorem dX1_bind_2 : decode cX1_bind 2 = .ok (.invokevirtual 251, 3) := dk_182 0 251 (dk_at dksX1_bind_0 2 rfl rfl)
theorem dX1_bind_5 : decode cX1_bind 5 = .ok (.astore_n 3, 1) := dk_78 (dk_at dksX1_bind_0 5 rfl rfl)
theorem dX1_bind_6 : decode cX1_bind 6 = .ok (.iload_n 2, 1) := dk_28 (dk_at dksX1_bind_0 6 rfl rfl)
theorem dX1_bind_7 : decode cX1_bind 7 = .ok (.iconst 1, 1) := dk_4 (dk_at dksX1_bind_0 7 rfl rfl)
theorem dX1_bind_8 : decode cX1_bind 8 = .ok (.bipush 99, 2) := dk_16 99 (dk_at dksX1_bind_0 8 rfl rfl)
theorem dX1_bind_10 : decode cX1_bind 10 = .ok (.invokestatic 101, 3) := dk_184 0 101 (dk_at dksX1_bind_0 10 rfl rfl)
theorem dX1_bind_13 : decode cX1_bind 13 = .ok (.iconst 0, 1) := dk_3 (dk_at dksX1_bind_0 13 rfl rfl)
theorem dX1_bind_14 : decode cX1_bind 14 = .ok (.istore 4, 2) := dk_54 4 (dk_at dksX1_bind_0 14 rfl rfl)
theorem dX1_bind_16 : decode cX1_bind 16 = .ok (.iload 4, 2) := dk_21 4 (dk_at dksX1_bind_0 16 rfl rfl)
theorem dX1_bind_18 : decode cX1_bind 18 = .ok (.iload_n 2, 1) := dk_28 (dk_at dksX1_bind_0 18 rfl rfl)
theorem dX1_bind_19 : decode cX1_bind 19 = .ok (.if_icmp .ge 16, 3) := dk_162 0 16 (dk_at dksX1_bind_0 19 rfl rfl)
theorem dX1_bind_22 : decode cX1_bind 22 = .ok (.aload_n 3, 1) := dk_45 (dk_at dksX1_bind_0 22 rfl rfl)
theorem dX1_bind_23 : decode cX1_bind 23 = .ok (.invokevirtual 343, 3) := dk_182 1 87 (dk_at dksX1_bind_1 0 rfl rfl)
theorem dX1_bind_26 : decode cX1_bind 26 = .ok (.ifCond .eq 9, 3) := dk_153 0 9 (dk_at dksX1_bind_1 3 rfl rfl)
theorem dX1_bind_29 : decode cX1_bind 29 = .ok (.iinc 4 1, 3) := dk_132 4 1 (dk_at dksX1_bind_1 6 rfl rfl)
theorem dX1_bind_32 : decode cX1_bind 32 = .ok (.goto (-16), 3) := dk_167 255 240 (dk_at dksX1_bind_1 9 rfl rfl)
theorem dX1_bind_35 : decode cX1_bind 35 = .ok (.iload 4, 2) := dk_21 4 (dk_at dksX1_bind_1 12 rfl rfl)
theorem dX1_bind_37 : decode cX1_bind 37 = .ok (.ireturn, 1) := dk_172 (dk_at dksX1_bind_1 14 rfl rfl)
abbrev cX1_back : ByteArray := prog_1_method_36_code
def yX1_back : MethodName := ⟨RX1, "back", "(II)I"⟩
def dkwX1_back_3 : List UInt8 := [180, 0, 45, 28, 96, 181, 0, 45, 42, 180, 0, 45, 172]
abbrev dktX1_back_3 : List UInt8 := dkwX1_back_3 ++ []
def dkwX1_back_2 : List UInt8 := [180, 1, 64, 5, 28, 104, 96, 181, 1, 64, 42, 89, 180, 1, 68, 5, 28, 104, 100, 181, 1, 68, 42, 89]
abbrev dktX1_back_2 : List UInt8 := dkwX1_back_2 ++ dktX1_back_3
def dkwX1_back_1 : List UInt8 := [161, 0, 7, 4, 167, 0, 4, 3, 184, 0, 89, 45, 89, 180, 1, 63, 28, 100, 181, 1, 63, 45, 89]
abbrev dktX1_back_1 : List UInt8 := dkwX1_back_1 ++ dktX1_back_2
def dkwX1_back_0 : List UInt8 := [42, 27, 182, 0, 251, 78, 28, 4, 161, 0, 7, 4, 167, 0, 4, 3, 184, 0, 54, 45, 180, 1, 63, 28]
abbrev dktX1_back_0 : List UInt8 := dkwX1_back_0 ++ dktX1_back_1
theorem dksX1_back_0 : cX1_back.data.toList.drop 0 = dktX1_back_0 := by decide +kernel
theorem dksX1_back_1 : cX1_back.data.toList.drop 24 = dktX1_back_1 := dk_seg dksX1_back_0 24 rfl rfl
theorem dksX1_back_2 : cX1_back.data.toList.drop 47 = dktX1_back_2 := dk_seg dksX1_back_1 23 rfl rfl
theorem dksX1_back_3 : cX1_back.data.toList.drop 71 = dktX1_back_3 := dk_seg dksX1_back_2 24 rfl rfl
theorem dX1_back_0 : decode cX1_back 0 = .ok (.aload_n 0, 1) := dk_42 (dk_at dksX1_back_0 0 rfl rfl)
theorem dX1_back_1 : decode cX1_back 1 = .ok (.iload_n 1, 1) := dk_27 (dk_at dksX1_back_0 1 rfl rfl)
theorem dX1_back_2 : decode cX1_back 2 = .ok (.invokevirtual 251, 3) := dk_182 0 251 (dk_at dksX1_back_0 2 rfl rfl)
theorem dX1_back_5 : decode cX1_back 5 = .ok (.astore_n 3, 1) := dk_78 (dk_at dksX1_back_0 5 rfl rfl)
theorem dX1_back_6 : decode cX1_back 6 = .ok (.iload_n 2, 1) := dk_28 (dk_at dksX1_back_0 6 rfl rfl)
theorem dX1_back_7 : decode cX1_back 7 = .ok (.iconst 1, 1) := dk_4 (dk_at dksX1_back_0 7 rfl rfl)
theorem dX1_back_8 : decode cX1_back 8 = .ok (.if_icmp .lt 7, 3) := dk_161 0 7 (dk_at dksX1_back_0 8 rfl rfl)
theorem dX1_back_11 : decode cX1_back 11 = .ok (.iconst 1, 1) := dk_4 (dk_at dksX1_back_0 11 rfl rfl)
theorem dX1_back_12 : decode cX1_back 12 = .ok (.goto 4, 3) := dk_167 0 4 (dk_at dksX1_back_0 12 rfl rfl)
theorem dX1_back_15 : decode cX1_back 15 = .ok (.iconst 0, 1) := dk_3 (dk_at dksX1_back_0 15 rfl rfl)
theorem dX1_back_16 : decode cX1_back 16 = .ok (.invokestatic 54, 3) := dk_184 0 54 (dk_at dksX1_back_0 16 rfl rfl)
theorem dX1_back_19 : decode cX1_back 19 = .ok (.aload_n 3, 1) := dk_45 (dk_at dksX1_back_0 19 rfl rfl)
theorem dX1_back_20 : decode cX1_back 20 = .ok (.getfield 319, 3) := dk_180 1 63 (dk_at dksX1_back_0 20 rfl rfl)
theorem dX1_back_23 : decode cX1_back 23 = .ok (.iload_n 2, 1) := dk_28 (dk_at dksX1_back_0 23 rfl rfl)
theorem dX1_back_24 : decode cX1_back 24 = .ok (.if_icmp .lt 7, 3) := dk_161 0 7 (dk_at dksX1_back_1 0 rfl rfl)
theorem dX1_back_27 : decode cX1_back 27 = .ok (.iconst 1, 1) := dk_4 (dk_at dksX1_back_1 3 rfl rfl)
theorem dX1_back_28 : decode cX1_back 28 = .ok (.goto 4, 3) := dk_167 0 4 (dk_at dksX1_back_1 4 rfl rfl)
theorem dX1_back_31 : decode cX1_back 31 = .ok (.iconst 0, 1) := dk_3 (dk_at dksX1_back_1 7 rfl rfl)
theorem dX1_back_32 : decode cX1_back 32 = .ok (.invokestatic 89, 3) := dk_184 0 89 (dk_at dksX1_back_1 8 rfl rfl)
theorem dX1_back_35 : decode cX1_back 35 = .ok (.aload_n 3, 1) := dk_45 (dk_at dksX1_back_1 11 rfl rfl)
theorem dX1_back_36 : decode cX1_back 36 = .ok (.dup, 1) := dk_89 (dk_at dksX1_back_1 12 rfl rfl)
theorem dX1_back_37 : decode cX1_back 37 = .ok (.getfield 319, 3) := dk_180 1 63 (dk_at dksX1_back_1 13 rfl rfl)
theorem dX1_back_40 : decode cX1_back 40 = .ok (.iload_n 2, 1) := dk_28 (dk_at dksX1_back_1 16 rfl rfl)
theorem dX1_back_41 : decode cX1_back 41 = .ok (.isub, 1) := dk_100 (dk_at dksX1_back_1 17 rfl rfl)
theorem dX1_back_42 : decode cX1_back 42 = .ok (.putfield 319, 3) := dk_181 1 63 (dk_at dksX1_back_1 18 rfl rfl)
theorem dX1_back_45 : decode cX1_back 45 = .ok (.aload_n 3, 1) := dk_45 (dk_at dksX1_back_1 21 rfl rfl)
theorem dX1_back_46 : decode cX1_back 46 = .ok (.dup, 1) := dk_89 (dk_at dksX1_back_1 22 rfl rfl)
theorem dX1_back_47 : decode cX1_back 47 = .ok (.getfield 320, 3) := dk_180 1 64 (dk_at dksX1_back_2 0 rfl rfl)
theorem dX1_back_50 : decode cX1_back 50 = .ok (.iconst 2, 1) := dk_5 (dk_at dksX1_back_2 3 rfl rfl)
theorem dX1_back_51 : decode cX1_back 51 = .ok (.iload_n 2, 1) := dk_28 (dk_at dksX1_back_2 4 rfl rfl)
theorem dX1_back_52 : decode cX1_back 52 = .ok (.imul, 1) := dk_104 (dk_at dksX1_back_2 5 rfl rfl)
theorem dX1_back_53 : decode cX1_back 53 = .ok (.iadd, 1) := dk_96 (dk_at dksX1_back_2 6 rfl rfl)
theorem dX1_back_54 : decode cX1_back 54 = .ok (.putfield 320, 3) := dk_181 1 64 (dk_at dksX1_back_2 7 rfl rfl)
theorem dX1_back_57 : decode cX1_back 57 = .ok (.aload_n 0, 1) := dk_42 (dk_at dksX1_back_2 10 rfl rfl)
theorem dX1_back_58 : decode cX1_back 58 = .ok (.dup, 1) := dk_89 (dk_at dksX1_back_2 11 rfl rfl)
theorem dX1_back_59 : decode cX1_back 59 = .ok (.getfield 324, 3) := dk_180 1 68 (dk_at dksX1_back_2 12 rfl rfl)
theorem dX1_back_62 : decode cX1_back 62 = .ok (.iconst 2, 1) := dk_5 (dk_at dksX1_back_2 15 rfl rfl)
theorem dX1_back_63 : decode cX1_back 63 = .ok (.iload_n 2, 1) := dk_28 (dk_at dksX1_back_2 16 rfl rfl)
theorem dX1_back_64 : decode cX1_back 64 = .ok (.imul, 1) := dk_104 (dk_at dksX1_back_2 17 rfl rfl)
theorem dX1_back_65 : decode cX1_back 65 = .ok (.isub, 1) := dk_100 (dk_at dksX1_back_2 18 rfl rfl)
theorem dX1_back_66 : decode cX1_back 66 = .ok (.putfield 324, 3) := dk_181 1 68 (dk_at dksX1_back_2 19 rfl rfl)
theorem dX1_back_69 : decode cX1_back 69 = .ok (.aload_n 0, 1) := dk_42 (dk_at dksX1_back_2 22 rfl rfl)
theorem dX1_back_70 : decode cX1_back 70 = .ok (.dup, 1) := dk_89 (dk_at dksX1_back_2 23 rfl rfl)
theorem dX1_back_71 : decode cX1_back 71 = .ok (.getfield 45, 3) := dk_180 0 45 (dk_at dksX1_back_3 0 rfl rfl)
theorem dX1_back_74 : decode cX1_back 74 = .ok (.iload_n 2, 1) := dk_28 (dk_at dksX1_back_3 3 rfl rfl)
theorem dX1_back_75 : decode cX1_back 75 = .ok (.iadd, 1) := dk_96 (dk_at dksX1_back_3 4 rfl rfl)
theorem dX1_back_76 : decode cX1_back 76 = .ok (.putfield 45, 3) := dk_181 0 45 (dk_at dksX1_back_3 5 rfl rfl)
theorem dX1_back_79 : decode cX1_back 79 = .ok (.aload_n 0, 1) := dk_42 (dk_at dksX1_back_3 8 rfl rfl)
theorem dX1_back_80 : decode cX1_back 80 = .ok (.getfield 45, 3) := dk_180 0 45 (dk_at dksX1_back_3 9 rfl rfl)
theorem dX1_back_83 : decode cX1_back 83 = .ok (.ireturn, 1) := dk_172 (dk_at dksX1_back_3 12 rfl rfl)
abbrev cX1_clear : ByteArray := prog_1_method_37_code
def yX1_clear : MethodName := ⟨RX1, "clear", "(IZ)I"⟩
def dkwX1_clear_3 : List UInt8 := [180, 0, 219, 185, 0, 74, 2, 0, 192, 0, 78, 4, 182, 0, 244, 21, 4, 172]
abbrev dktX1_clear_3 : List UInt8 := dkwX1_clear_3 ++ []
def dkwX1_clear_2 : List UInt8 := [181, 0, 227, 45, 3, 181, 1, 60, 45, 178, 1, 80, 181, 0, 237, 28, 153, 0, 23, 42, 180, 0, 12, 45]
abbrev dktX1_clear_2 : List UInt8 := dkwX1_clear_2 ++ dktX1_clear_3
def dkwX1_clear_1 : List UInt8 := [180, 0, 207, 21, 4, 96, 181, 0, 207, 42, 89, 180, 0, 45, 45, 180, 1, 60, 96, 181, 0, 45, 45, 3]
abbrev dktX1_clear_1 : List UInt8 := dkwX1_clear_1 ++ dktX1_clear_2
def dkwX1_clear_0 : List UInt8 := [42, 27, 182, 0, 128, 78, 45, 178, 0, 132, 182, 0, 138, 184, 0, 89, 45, 180, 0, 227, 54, 4, 42, 89]
abbrev dktX1_clear_0 : List UInt8 := dkwX1_clear_0 ++ dktX1_clear_1
theorem dksX1_clear_0 : cX1_clear.data.toList.drop 0 = dktX1_clear_0 := by decide +kernel
theorem dksX1_clear_1 : cX1_clear.data.toList.drop 24 = dktX1_clear_1 := dk_seg dksX1_clear_0 24 rfl rfl
theorem dksX1_clear_2 : cX1_clear.data.toList.drop 48 = dktX1_clear_2 := dk_seg dksX1_clear_1 24 rfl rfl
theorem dksX1_clear_3 : cX1_clear.data.toList.drop 72 = dktX1_clear_3 := dk_seg dksX1_clear_2 24 rfl rfl
theorem dX1_clear_0 : decode cX1_clear 0 = .ok (.aload_n 0, 1) := dk_42 (dk_at dksX1_clear_0 0 rfl rfl)
theorem dX1_clear_1 : decode cX1_clear 1 = .ok (.iload_n 1, 1) := dk_27 (dk_at dksX1_clear_0 1 rfl rfl)
theorem dX1_clear_2 : decode cX1_clear 2 = .ok (.invokevirtual 128, 3) := dk_182 0 128 (dk_at dksX1_clear_0 2 rfl rfl)
theorem dX1_clear_5 : decode cX1_clear 5 = .ok (.astore_n 3, 1) := dk_78 (dk_at dksX1_clear_0 5 rfl rfl)
theorem dX1_clear_6 : decode cX1_clear 6 = .ok (.aload_n 3, 1) := dk_45 (dk_at dksX1_clear_0 6 rfl rfl)
theorem dX1_clear_7 : decode cX1_clear 7 = .ok (.getstatic 132, 3) := dk_178 0 132 (dk_at dksX1_clear_0 7 rfl rfl)
theorem dX1_clear_10 : decode cX1_clear 10 = .ok (.invokevirtual 138, 3) := dk_182 0 138 (dk_at dksX1_clear_0 10 rfl rfl)
theorem dX1_clear_13 : decode cX1_clear 13 = .ok (.invokestatic 89, 3) := dk_184 0 89 (dk_at dksX1_clear_0 13 rfl rfl)
theorem dX1_clear_16 : decode cX1_clear 16 = .ok (.aload_n 3, 1) := dk_45 (dk_at dksX1_clear_0 16 rfl rfl)
theorem dX1_clear_17 : decode cX1_clear 17 = .ok (.getfield 227, 3) := dk_180 0 227 (dk_at dksX1_clear_0 17 rfl rfl)
theorem dX1_clear_20 : decode cX1_clear 20 = .ok (.istore 4, 2) := dk_54 4 (dk_at dksX1_clear_0 20 rfl rfl)
theorem dX1_clear_22 : decode cX1_clear 22 = .ok (.aload_n 0, 1) := dk_42 (dk_at dksX1_clear_0 22 rfl rfl)
theorem dX1_clear_23 : decode cX1_clear 23 = .ok (.dup, 1) := dk_89 (dk_at dksX1_clear_0 23 rfl rfl)
theorem dX1_clear_24 : decode cX1_clear 24 = .ok (.getfield 207, 3) := dk_180 0 207 (dk_at dksX1_clear_1 0 rfl rfl)
theorem dX1_clear_27 : decode cX1_clear 27 = .ok (.iload 4, 2) := dk_21 4 (dk_at dksX1_clear_1 3 rfl rfl)
theorem dX1_clear_29 : decode cX1_clear 29 = .ok (.iadd, 1) := dk_96 (dk_at dksX1_clear_1 5 rfl rfl)
theorem dX1_clear_30 : decode cX1_clear 30 = .ok (.putfield 207, 3) := dk_181 0 207 (dk_at dksX1_clear_1 6 rfl rfl)
theorem dX1_clear_33 : decode cX1_clear 33 = .ok (.aload_n 0, 1) := dk_42 (dk_at dksX1_clear_1 9 rfl rfl)
theorem dX1_clear_34 : decode cX1_clear 34 = .ok (.dup, 1) := dk_89 (dk_at dksX1_clear_1 10 rfl rfl)
theorem dX1_clear_35 : decode cX1_clear 35 = .ok (.getfield 45, 3) := dk_180 0 45 (dk_at dksX1_clear_1 11 rfl rfl)
theorem dX1_clear_38 : decode cX1_clear 38 = .ok (.aload_n 3, 1) := dk_45 (dk_at dksX1_clear_1 14 rfl rfl)
theorem dX1_clear_39 : decode cX1_clear 39 = .ok (.getfield 316, 3) := dk_180 1 60 (dk_at dksX1_clear_1 15 rfl rfl)
theorem dX1_clear_42 : decode cX1_clear 42 = .ok (.iadd, 1) := dk_96 (dk_at dksX1_clear_1 18 rfl rfl)
theorem dX1_clear_43 : decode cX1_clear 43 = .ok (.putfield 45, 3) := dk_181 0 45 (dk_at dksX1_clear_1 19 rfl rfl)
theorem dX1_clear_46 : decode cX1_clear 46 = .ok (.aload_n 3, 1) := dk_45 (dk_at dksX1_clear_1 22 rfl rfl)
theorem dX1_clear_47 : decode cX1_clear 47 = .ok (.iconst 0, 1) := dk_3 (dk_at dksX1_clear_1 23 rfl rfl)
theorem dX1_clear_48 : decode cX1_clear 48 = .ok (.putfield 227, 3) := dk_181 0 227 (dk_at dksX1_clear_2 0 rfl rfl)
theorem dX1_clear_51 : decode cX1_clear 51 = .ok (.aload_n 3, 1) := dk_45 (dk_at dksX1_clear_2 3 rfl rfl)
theorem dX1_clear_52 : decode cX1_clear 52 = .ok (.iconst 0, 1) := dk_3 (dk_at dksX1_clear_2 4 rfl rfl)
theorem dX1_clear_53 : decode cX1_clear 53 = .ok (.putfield 316, 3) := dk_181 1 60 (dk_at dksX1_clear_2 5 rfl rfl)
theorem dX1_clear_56 : decode cX1_clear 56 = .ok (.aload_n 3, 1) := dk_45 (dk_at dksX1_clear_2 8 rfl rfl)
theorem dX1_clear_57 : decode cX1_clear 57 = .ok (.getstatic 336, 3) := dk_178 1 80 (dk_at dksX1_clear_2 9 rfl rfl)
theorem dX1_clear_60 : decode cX1_clear 60 = .ok (.putfield 237, 3) := dk_181 0 237 (dk_at dksX1_clear_2 12 rfl rfl)
theorem dX1_clear_63 : decode cX1_clear 63 = .ok (.iload_n 2, 1) := dk_28 (dk_at dksX1_clear_2 15 rfl rfl)
theorem dX1_clear_64 : decode cX1_clear 64 = .ok (.ifCond .eq 23, 3) := dk_153 0 23 (dk_at dksX1_clear_2 16 rfl rfl)
theorem dX1_clear_67 : decode cX1_clear 67 = .ok (.aload_n 0, 1) := dk_42 (dk_at dksX1_clear_2 19 rfl rfl)
theorem dX1_clear_68 : decode cX1_clear 68 = .ok (.getfield 12, 3) := dk_180 0 12 (dk_at dksX1_clear_2 20 rfl rfl)
theorem dX1_clear_71 : decode cX1_clear 71 = .ok (.aload_n 3, 1) := dk_45 (dk_at dksX1_clear_2 23 rfl rfl)
theorem dX1_clear_72 : decode cX1_clear 72 = .ok (.getfield 219, 3) := dk_180 0 219 (dk_at dksX1_clear_3 0 rfl rfl)
theorem dX1_clear_75 : decode cX1_clear 75 = .ok (.invokeinterface 74 2, 5) := by decide +kernel
theorem dX1_clear_80 : decode cX1_clear 80 = .ok (.checkcast 78, 3) := dk_192 0 78 (dk_at dksX1_clear_3 8 rfl rfl)
theorem dX1_clear_83 : decode cX1_clear 83 = .ok (.iconst 1, 1) := dk_4 (dk_at dksX1_clear_3 11 rfl rfl)
theorem dX1_clear_84 : decode cX1_clear 84 = .ok (.invokevirtual 244, 3) := dk_182 0 244 (dk_at dksX1_clear_3 12 rfl rfl)
theorem dX1_clear_87 : decode cX1_clear 87 = .ok (.iload 4, 2) := dk_21 4 (dk_at dksX1_clear_3 15 rfl rfl)
theorem dX1_clear_89 : decode cX1_clear 89 = .ok (.ireturn, 1) := dk_172 (dk_at dksX1_clear_3 17 rfl rfl)
abbrev cX1_vote : ByteArray := prog_1_method_38_code
def yX1_vote : MethodName := ⟨RX1, "vote", "(II)I"⟩
def dkwX1_vote_6 : List UInt8 := [79, 29, 172]
abbrev dktX1_vote_6 : List UInt8 := dkwX1_vote_6 ++ []
def dkwX1_vote_5 : List UInt8 := [167, 255, 162, 42, 180, 0, 38, 27, 29, 21, 4, 164, 0, 7, 28, 167, 0, 9, 42, 180, 0, 38, 27, 46]
abbrev dktX1_vote_5 : List UInt8 := dkwX1_vote_5 ++ dktX1_vote_6
def dkwX1_vote_4 : List UInt8 := [21, 7, 153, 0, 7, 3, 167, 0, 10, 4, 25, 6, 180, 1, 72, 96, 96, 54, 4, 132, 5, 1]
abbrev dktX1_vote_4 : List UInt8 := dkwX1_vote_4 ++ dktX1_vote_5
def dkwX1_vote_3 : List UInt8 := [54, 7, 29, 21, 7, 153, 0, 13, 4, 25, 6, 180, 1, 72, 96, 167, 0, 4, 3, 96, 62, 21, 4]
abbrev dktX1_vote_3 : List UInt8 := dkwX1_vote_3 ++ dktX1_vote_4
def dkwX1_vote_2 : List UInt8 := [192, 0, 78, 58, 6, 25, 6, 27, 42, 182, 0, 221, 182, 0, 224, 28, 163, 0, 7, 4, 167, 0, 4, 3]
abbrev dktX1_vote_2 : List UInt8 := dkwX1_vote_2 ++ dktX1_vote_3
def dkwX1_vote_1 : List UInt8 := [180, 0, 12, 185, 0, 64, 1, 0, 162, 0, 86, 42, 180, 0, 12, 21, 5, 185, 0, 74, 2, 0]
abbrev dktX1_vote_1 : List UInt8 := dkwX1_vote_1 ++ dktX1_vote_2
def dkwX1_vote_0 : List UInt8 := [27, 6, 184, 0, 70, 28, 3, 17, 3, 231, 184, 0, 101, 3, 62, 3, 54, 4, 3, 54, 5, 21, 5, 42]
abbrev dktX1_vote_0 : List UInt8 := dkwX1_vote_0 ++ dktX1_vote_1
theorem dksX1_vote_0 : cX1_vote.data.toList.drop 0 = dktX1_vote_0 := by decide +kernel
theorem dksX1_vote_1 : cX1_vote.data.toList.drop 24 = dktX1_vote_1 := dk_seg dksX1_vote_0 24 rfl rfl
theorem dksX1_vote_2 : cX1_vote.data.toList.drop 46 = dktX1_vote_2 := dk_seg dksX1_vote_1 22 rfl rfl
theorem dksX1_vote_3 : cX1_vote.data.toList.drop 70 = dktX1_vote_3 := dk_seg dksX1_vote_2 24 rfl rfl
theorem dksX1_vote_4 : cX1_vote.data.toList.drop 93 = dktX1_vote_4 := dk_seg dksX1_vote_3 23 rfl rfl
theorem dksX1_vote_5 : cX1_vote.data.toList.drop 115 = dktX1_vote_5 := dk_seg dksX1_vote_4 22 rfl rfl
theorem dksX1_vote_6 : cX1_vote.data.toList.drop 139 = dktX1_vote_6 := dk_seg dksX1_vote_5 24 rfl rfl
theorem dX1_vote_0 : decode cX1_vote 0 = .ok (.iload_n 1, 1) := dk_27 (dk_at dksX1_vote_0 0 rfl rfl)
theorem dX1_vote_1 : decode cX1_vote 1 = .ok (.iconst 3, 1) := dk_6 (dk_at dksX1_vote_0 1 rfl rfl)
theorem dX1_vote_2 : decode cX1_vote 2 = .ok (.invokestatic 70, 3) := dk_184 0 70 (dk_at dksX1_vote_0 2 rfl rfl)
theorem dX1_vote_5 : decode cX1_vote 5 = .ok (.iload_n 2, 1) := dk_28 (dk_at dksX1_vote_0 5 rfl rfl)
theorem dX1_vote_6 : decode cX1_vote 6 = .ok (.iconst 0, 1) := dk_3 (dk_at dksX1_vote_0 6 rfl rfl)
theorem dX1_vote_7 : decode cX1_vote 7 = .ok (.sipush 999, 3) := dk_17 3 231 (dk_at dksX1_vote_0 7 rfl rfl)
theorem dX1_vote_10 : decode cX1_vote 10 = .ok (.invokestatic 101, 3) := dk_184 0 101 (dk_at dksX1_vote_0 10 rfl rfl)
theorem dX1_vote_13 : decode cX1_vote 13 = .ok (.iconst 0, 1) := dk_3 (dk_at dksX1_vote_0 13 rfl rfl)
theorem dX1_vote_14 : decode cX1_vote 14 = .ok (.istore_n 3, 1) := dk_62 (dk_at dksX1_vote_0 14 rfl rfl)
theorem dX1_vote_15 : decode cX1_vote 15 = .ok (.iconst 0, 1) := dk_3 (dk_at dksX1_vote_0 15 rfl rfl)
theorem dX1_vote_16 : decode cX1_vote 16 = .ok (.istore 4, 2) := dk_54 4 (dk_at dksX1_vote_0 16 rfl rfl)
theorem dX1_vote_18 : decode cX1_vote 18 = .ok (.iconst 0, 1) := dk_3 (dk_at dksX1_vote_0 18 rfl rfl)
theorem dX1_vote_19 : decode cX1_vote 19 = .ok (.istore 5, 2) := dk_54 5 (dk_at dksX1_vote_0 19 rfl rfl)
theorem dX1_vote_21 : decode cX1_vote 21 = .ok (.iload 5, 2) := dk_21 5 (dk_at dksX1_vote_0 21 rfl rfl)
theorem dX1_vote_23 : decode cX1_vote 23 = .ok (.aload_n 0, 1) := dk_42 (dk_at dksX1_vote_0 23 rfl rfl)
theorem dX1_vote_24 : decode cX1_vote 24 = .ok (.getfield 12, 3) := dk_180 0 12 (dk_at dksX1_vote_1 0 rfl rfl)
theorem dX1_vote_27 : decode cX1_vote 27 = .ok (.invokeinterface 64 1, 5) := by decide +kernel
theorem dX1_vote_32 : decode cX1_vote 32 = .ok (.if_icmp .ge 86, 3) := dk_162 0 86 (dk_at dksX1_vote_1 8 rfl rfl)
theorem dX1_vote_35 : decode cX1_vote 35 = .ok (.aload_n 0, 1) := dk_42 (dk_at dksX1_vote_1 11 rfl rfl)
theorem dX1_vote_36 : decode cX1_vote 36 = .ok (.getfield 12, 3) := dk_180 0 12 (dk_at dksX1_vote_1 12 rfl rfl)
theorem dX1_vote_39 : decode cX1_vote 39 = .ok (.iload 5, 2) := dk_21 5 (dk_at dksX1_vote_1 15 rfl rfl)
theorem dX1_vote_41 : decode cX1_vote 41 = .ok (.invokeinterface 74 2, 5) := by decide +kernel
theorem dX1_vote_46 : decode cX1_vote 46 = .ok (.checkcast 78, 3) := dk_192 0 78 (dk_at dksX1_vote_2 0 rfl rfl)
theorem dX1_vote_49 : decode cX1_vote 49 = .ok (.astore 6, 2) := dk_58 6 (dk_at dksX1_vote_2 3 rfl rfl)
theorem dX1_vote_51 : decode cX1_vote 51 = .ok (.aload 6, 2) := dk_25 6 (dk_at dksX1_vote_2 5 rfl rfl)
theorem dX1_vote_53 : decode cX1_vote 53 = .ok (.iload_n 1, 1) := dk_27 (dk_at dksX1_vote_2 7 rfl rfl)
theorem dX1_vote_54 : decode cX1_vote 54 = .ok (.aload_n 0, 1) := dk_42 (dk_at dksX1_vote_2 8 rfl rfl)
theorem dX1_vote_55 : decode cX1_vote 55 = .ok (.invokevirtual 221, 3) := dk_182 0 221 (dk_at dksX1_vote_2 9 rfl rfl)
theorem dX1_vote_58 : decode cX1_vote 58 = .ok (.invokevirtual 224, 3) := dk_182 0 224 (dk_at dksX1_vote_2 12 rfl rfl)
theorem dX1_vote_61 : decode cX1_vote 61 = .ok (.iload_n 2, 1) := dk_28 (dk_at dksX1_vote_2 15 rfl rfl)
theorem dX1_vote_62 : decode cX1_vote 62 = .ok (.if_icmp .gt 7, 3) := dk_163 0 7 (dk_at dksX1_vote_2 16 rfl rfl)
theorem dX1_vote_65 : decode cX1_vote 65 = .ok (.iconst 1, 1) := dk_4 (dk_at dksX1_vote_2 19 rfl rfl)
theorem dX1_vote_66 : decode cX1_vote 66 = .ok (.goto 4, 3) := dk_167 0 4 (dk_at dksX1_vote_2 20 rfl rfl)
theorem dX1_vote_69 : decode cX1_vote 69 = .ok (.iconst 0, 1) := dk_3 (dk_at dksX1_vote_2 23 rfl rfl)
theorem dX1_vote_70 : decode cX1_vote 70 = .ok (.istore 7, 2) := dk_54 7 (dk_at dksX1_vote_3 0 rfl rfl)
theorem dX1_vote_72 : decode cX1_vote 72 = .ok (.iload_n 3, 1) := dk_29 (dk_at dksX1_vote_3 2 rfl rfl)
theorem dX1_vote_73 : decode cX1_vote 73 = .ok (.iload 7, 2) := dk_21 7 (dk_at dksX1_vote_3 3 rfl rfl)
theorem dX1_vote_75 : decode cX1_vote 75 = .ok (.ifCond .eq 13, 3) := dk_153 0 13 (dk_at dksX1_vote_3 5 rfl rfl)
theorem dX1_vote_78 : decode cX1_vote 78 = .ok (.iconst 1, 1) := dk_4 (dk_at dksX1_vote_3 8 rfl rfl)
theorem dX1_vote_79 : decode cX1_vote 79 = .ok (.aload 6, 2) := dk_25 6 (dk_at dksX1_vote_3 9 rfl rfl)
theorem dX1_vote_81 : decode cX1_vote 81 = .ok (.getfield 328, 3) := dk_180 1 72 (dk_at dksX1_vote_3 11 rfl rfl)
theorem dX1_vote_84 : decode cX1_vote 84 = .ok (.iadd, 1) := dk_96 (dk_at dksX1_vote_3 14 rfl rfl)
theorem dX1_vote_85 : decode cX1_vote 85 = .ok (.goto 4, 3) := dk_167 0 4 (dk_at dksX1_vote_3 15 rfl rfl)
theorem dX1_vote_88 : decode cX1_vote 88 = .ok (.iconst 0, 1) := dk_3 (dk_at dksX1_vote_3 18 rfl rfl)
theorem dX1_vote_89 : decode cX1_vote 89 = .ok (.iadd, 1) := dk_96 (dk_at dksX1_vote_3 19 rfl rfl)
theorem dX1_vote_90 : decode cX1_vote 90 = .ok (.istore_n 3, 1) := dk_62 (dk_at dksX1_vote_3 20 rfl rfl)
theorem dX1_vote_91 : decode cX1_vote 91 = .ok (.iload 4, 2) := dk_21 4 (dk_at dksX1_vote_3 21 rfl rfl)
theorem dX1_vote_93 : decode cX1_vote 93 = .ok (.iload 7, 2) := dk_21 7 (dk_at dksX1_vote_4 0 rfl rfl)
theorem dX1_vote_95 : decode cX1_vote 95 = .ok (.ifCond .eq 7, 3) := dk_153 0 7 (dk_at dksX1_vote_4 2 rfl rfl)
theorem dX1_vote_98 : decode cX1_vote 98 = .ok (.iconst 0, 1) := dk_3 (dk_at dksX1_vote_4 5 rfl rfl)
theorem dX1_vote_99 : decode cX1_vote 99 = .ok (.goto 10, 3) := dk_167 0 10 (dk_at dksX1_vote_4 6 rfl rfl)
theorem dX1_vote_102 : decode cX1_vote 102 = .ok (.iconst 1, 1) := dk_4 (dk_at dksX1_vote_4 9 rfl rfl)
theorem dX1_vote_103 : decode cX1_vote 103 = .ok (.aload 6, 2) := dk_25 6 (dk_at dksX1_vote_4 10 rfl rfl)
theorem dX1_vote_105 : decode cX1_vote 105 = .ok (.getfield 328, 3) := dk_180 1 72 (dk_at dksX1_vote_4 12 rfl rfl)
theorem dX1_vote_108 : decode cX1_vote 108 = .ok (.iadd, 1) := dk_96 (dk_at dksX1_vote_4 15 rfl rfl)
theorem dX1_vote_109 : decode cX1_vote 109 = .ok (.iadd, 1) := dk_96 (dk_at dksX1_vote_4 16 rfl rfl)
theorem dX1_vote_110 : decode cX1_vote 110 = .ok (.istore 4, 2) := dk_54 4 (dk_at dksX1_vote_4 17 rfl rfl)
theorem dX1_vote_112 : decode cX1_vote 112 = .ok (.iinc 5 1, 3) := dk_132 5 1 (dk_at dksX1_vote_4 19 rfl rfl)
theorem dX1_vote_115 : decode cX1_vote 115 = .ok (.goto (-94), 3) := dk_167 255 162 (dk_at dksX1_vote_5 0 rfl rfl)
theorem dX1_vote_118 : decode cX1_vote 118 = .ok (.aload_n 0, 1) := dk_42 (dk_at dksX1_vote_5 3 rfl rfl)
theorem dX1_vote_119 : decode cX1_vote 119 = .ok (.getfield 38, 3) := dk_180 0 38 (dk_at dksX1_vote_5 4 rfl rfl)
theorem dX1_vote_122 : decode cX1_vote 122 = .ok (.iload_n 1, 1) := dk_27 (dk_at dksX1_vote_5 7 rfl rfl)
theorem dX1_vote_123 : decode cX1_vote 123 = .ok (.iload_n 3, 1) := dk_29 (dk_at dksX1_vote_5 8 rfl rfl)
theorem dX1_vote_124 : decode cX1_vote 124 = .ok (.iload 4, 2) := dk_21 4 (dk_at dksX1_vote_5 9 rfl rfl)
theorem dX1_vote_126 : decode cX1_vote 126 = .ok (.if_icmp .le 7, 3) := dk_164 0 7 (dk_at dksX1_vote_5 11 rfl rfl)
theorem dX1_vote_129 : decode cX1_vote 129 = .ok (.iload_n 2, 1) := dk_28 (dk_at dksX1_vote_5 14 rfl rfl)
theorem dX1_vote_130 : decode cX1_vote 130 = .ok (.goto 9, 3) := dk_167 0 9 (dk_at dksX1_vote_5 15 rfl rfl)
theorem dX1_vote_133 : decode cX1_vote 133 = .ok (.aload_n 0, 1) := dk_42 (dk_at dksX1_vote_5 18 rfl rfl)
theorem dX1_vote_134 : decode cX1_vote 134 = .ok (.getfield 38, 3) := dk_180 0 38 (dk_at dksX1_vote_5 19 rfl rfl)
theorem dX1_vote_137 : decode cX1_vote 137 = .ok (.iload_n 1, 1) := dk_27 (dk_at dksX1_vote_5 22 rfl rfl)
theorem dX1_vote_138 : decode cX1_vote 138 = .ok (.iaload, 1) := dk_46 (dk_at dksX1_vote_5 23 rfl rfl)
theorem dX1_vote_139 : decode cX1_vote 139 = .ok (.iastore, 1) := dk_79 (dk_at dksX1_vote_6 0 rfl rfl)
theorem dX1_vote_140 : decode cX1_vote 140 = .ok (.iload_n 3, 1) := dk_29 (dk_at dksX1_vote_6 1 rfl rfl)
theorem dX1_vote_141 : decode cX1_vote 141 = .ok (.ireturn, 1) := dk_172 (dk_at dksX1_vote_6 2 rfl rfl)
abbrev cX1_ofCrop : ByteArray := prog_1_method_39_code
def yX1_ofCrop : MethodName := ⟨RX1, "ofCrop", "(II)I"⟩
def dkwX1_ofCrop_0 : List UInt8 := [42, 27, 182, 0, 110, 78, 28, 3, 8, 184, 0, 101, 45, 28, 182, 1, 90, 172]
abbrev dktX1_ofCrop_0 : List UInt8 := dkwX1_ofCrop_0 ++ []
theorem dksX1_ofCrop_0 : cX1_ofCrop.data.toList.drop 0 = dktX1_ofCrop_0 := by decide +kernel
theorem dX1_ofCrop_0 : decode cX1_ofCrop 0 = .ok (.aload_n 0, 1) := dk_42 (dk_at dksX1_ofCrop_0 0 rfl rfl)
theorem dX1_ofCrop_1 : decode cX1_ofCrop 1 = .ok (.iload_n 1, 1) := dk_27 (dk_at dksX1_ofCrop_0 1 rfl rfl)
theorem dX1_ofCrop_2 : decode cX1_ofCrop 2 = .ok (.invokevirtual 110, 3) := dk_182 0 110 (dk_at dksX1_ofCrop_0 2 rfl rfl)
theorem dX1_ofCrop_5 : decode cX1_ofCrop 5 = .ok (.astore_n 3, 1) := dk_78 (dk_at dksX1_ofCrop_0 5 rfl rfl)
theorem dX1_ofCrop_6 : decode cX1_ofCrop 6 = .ok (.iload_n 2, 1) := dk_28 (dk_at dksX1_ofCrop_0 6 rfl rfl)
theorem dX1_ofCrop_7 : decode cX1_ofCrop 7 = .ok (.iconst 0, 1) := dk_3 (dk_at dksX1_ofCrop_0 7 rfl rfl)
theorem dX1_ofCrop_8 : decode cX1_ofCrop 8 = .ok (.iconst 5, 1) := dk_8 (dk_at dksX1_ofCrop_0 8 rfl rfl)
theorem dX1_ofCrop_9 : decode cX1_ofCrop 9 = .ok (.invokestatic 101, 3) := dk_184 0 101 (dk_at dksX1_ofCrop_0 9 rfl rfl)
theorem dX1_ofCrop_12 : decode cX1_ofCrop 12 = .ok (.aload_n 3, 1) := dk_45 (dk_at dksX1_ofCrop_0 12 rfl rfl)
theorem dX1_ofCrop_13 : decode cX1_ofCrop 13 = .ok (.iload_n 2, 1) := dk_28 (dk_at dksX1_ofCrop_0 13 rfl rfl)
theorem dX1_ofCrop_14 : decode cX1_ofCrop 14 = .ok (.invokevirtual 346, 3) := dk_182 1 90 (dk_at dksX1_ofCrop_0 14 rfl rfl)
theorem dX1_ofCrop_17 : decode cX1_ofCrop 17 = .ok (.ireturn, 1) := dk_172 (dk_at dksX1_ofCrop_0 17 rfl rfl)
abbrev cX1_ofLot : ByteArray := prog_1_method_40_code
def yX1_ofLot : MethodName := ⟨RX1, "ofLot", "(II)I"⟩
def dkwX1_ofLot_0 : List UInt8 := [42, 27, 182, 0, 128, 78, 28, 3, 16, 9, 184, 0, 101, 45, 28, 182, 1, 93, 172]
abbrev dktX1_ofLot_0 : List UInt8 := dkwX1_ofLot_0 ++ []
theorem dksX1_ofLot_0 : cX1_ofLot.data.toList.drop 0 = dktX1_ofLot_0 := by decide +kernel
theorem dX1_ofLot_0 : decode cX1_ofLot 0 = .ok (.aload_n 0, 1) := dk_42 (dk_at dksX1_ofLot_0 0 rfl rfl)
theorem dX1_ofLot_1 : decode cX1_ofLot 1 = .ok (.iload_n 1, 1) := dk_27 (dk_at dksX1_ofLot_0 1 rfl rfl)
theorem dX1_ofLot_2 : decode cX1_ofLot 2 = .ok (.invokevirtual 128, 3) := dk_182 0 128 (dk_at dksX1_ofLot_0 2 rfl rfl)
theorem dX1_ofLot_5 : decode cX1_ofLot 5 = .ok (.astore_n 3, 1) := dk_78 (dk_at dksX1_ofLot_0 5 rfl rfl)
theorem dX1_ofLot_6 : decode cX1_ofLot 6 = .ok (.iload_n 2, 1) := dk_28 (dk_at dksX1_ofLot_0 6 rfl rfl)
theorem dX1_ofLot_7 : decode cX1_ofLot 7 = .ok (.iconst 0, 1) := dk_3 (dk_at dksX1_ofLot_0 7 rfl rfl)
theorem dX1_ofLot_8 : decode cX1_ofLot 8 = .ok (.bipush 9, 2) := dk_16 9 (dk_at dksX1_ofLot_0 8 rfl rfl)
theorem dX1_ofLot_10 : decode cX1_ofLot 10 = .ok (.invokestatic 101, 3) := dk_184 0 101 (dk_at dksX1_ofLot_0 10 rfl rfl)
theorem dX1_ofLot_13 : decode cX1_ofLot 13 = .ok (.aload_n 3, 1) := dk_45 (dk_at dksX1_ofLot_0 13 rfl rfl)
theorem dX1_ofLot_14 : decode cX1_ofLot 14 = .ok (.iload_n 2, 1) := dk_28 (dk_at dksX1_ofLot_0 14 rfl rfl)
theorem dX1_ofLot_15 : decode cX1_ofLot 15 = .ok (.invokevirtual 349, 3) := dk_182 1 93 (dk_at dksX1_ofLot_0 15 rfl rfl)
theorem dX1_ofLot_18 : decode cX1_ofLot 18 = .ok (.ireturn, 1) := dk_172 (dk_at dksX1_ofLot_0 18 rfl rfl)
abbrev cX1_ofGrower : ByteArray := prog_1_method_42_code
def yX1_ofGrower : MethodName := ⟨RX1, "ofGrower", "(II)I"⟩
def dkwX1_ofGrower_0 : List UInt8 := [42, 27, 182, 0, 97, 78, 28, 3, 7, 184, 0, 101, 42, 45, 28, 182, 1, 97, 172]
abbrev dktX1_ofGrower_0 : List UInt8 := dkwX1_ofGrower_0 ++ []
theorem dksX1_ofGrower_0 : cX1_ofGrower.data.toList.drop 0 = dktX1_ofGrower_0 := by decide +kernel
theorem dX1_ofGrower_0 : decode cX1_ofGrower 0 = .ok (.aload_n 0, 1) := dk_42 (dk_at dksX1_ofGrower_0 0 rfl rfl)
theorem dX1_ofGrower_1 : decode cX1_ofGrower 1 = .ok (.iload_n 1, 1) := dk_27 (dk_at dksX1_ofGrower_0 1 rfl rfl)
theorem dX1_ofGrower_2 : decode cX1_ofGrower 2 = .ok (.invokevirtual 97, 3) := dk_182 0 97 (dk_at dksX1_ofGrower_0 2 rfl rfl)
theorem dX1_ofGrower_5 : decode cX1_ofGrower 5 = .ok (.astore_n 3, 1) := dk_78 (dk_at dksX1_ofGrower_0 5 rfl rfl)
theorem dX1_ofGrower_6 : decode cX1_ofGrower 6 = .ok (.iload_n 2, 1) := dk_28 (dk_at dksX1_ofGrower_0 6 rfl rfl)
theorem dX1_ofGrower_7 : decode cX1_ofGrower 7 = .ok (.iconst 0, 1) := dk_3 (dk_at dksX1_ofGrower_0 7 rfl rfl)
theorem dX1_ofGrower_8 : decode cX1_ofGrower 8 = .ok (.iconst 4, 1) := dk_7 (dk_at dksX1_ofGrower_0 8 rfl rfl)
theorem dX1_ofGrower_9 : decode cX1_ofGrower 9 = .ok (.invokestatic 101, 3) := dk_184 0 101 (dk_at dksX1_ofGrower_0 9 rfl rfl)
theorem dX1_ofGrower_12 : decode cX1_ofGrower 12 = .ok (.aload_n 0, 1) := dk_42 (dk_at dksX1_ofGrower_0 12 rfl rfl)
theorem dX1_ofGrower_13 : decode cX1_ofGrower 13 = .ok (.aload_n 3, 1) := dk_45 (dk_at dksX1_ofGrower_0 13 rfl rfl)
theorem dX1_ofGrower_14 : decode cX1_ofGrower 14 = .ok (.iload_n 2, 1) := dk_28 (dk_at dksX1_ofGrower_0 14 rfl rfl)
theorem dX1_ofGrower_15 : decode cX1_ofGrower 15 = .ok (.invokevirtual 353, 3) := dk_182 1 97 (dk_at dksX1_ofGrower_0 15 rfl rfl)
theorem dX1_ofGrower_18 : decode cX1_ofGrower 18 = .ok (.ireturn, 1) := dk_172 (dk_at dksX1_ofGrower_0 18 rfl rfl)
abbrev cX1_ofBuyer : ByteArray := prog_1_method_43_code
def yX1_ofBuyer : MethodName := ⟨RX1, "ofBuyer", "(II)I"⟩
def dkwX1_ofBuyer_0 : List UInt8 := [42, 27, 182, 0, 251, 78, 28, 3, 16, 8, 184, 0, 101, 45, 28, 182, 1, 101, 172]
abbrev dktX1_ofBuyer_0 : List UInt8 := dkwX1_ofBuyer_0 ++ []
theorem dksX1_ofBuyer_0 : cX1_ofBuyer.data.toList.drop 0 = dktX1_ofBuyer_0 := by decide +kernel
theorem dX1_ofBuyer_0 : decode cX1_ofBuyer 0 = .ok (.aload_n 0, 1) := dk_42 (dk_at dksX1_ofBuyer_0 0 rfl rfl)
theorem dX1_ofBuyer_1 : decode cX1_ofBuyer 1 = .ok (.iload_n 1, 1) := dk_27 (dk_at dksX1_ofBuyer_0 1 rfl rfl)
theorem dX1_ofBuyer_2 : decode cX1_ofBuyer 2 = .ok (.invokevirtual 251, 3) := dk_182 0 251 (dk_at dksX1_ofBuyer_0 2 rfl rfl)
theorem dX1_ofBuyer_5 : decode cX1_ofBuyer 5 = .ok (.astore_n 3, 1) := dk_78 (dk_at dksX1_ofBuyer_0 5 rfl rfl)
theorem dX1_ofBuyer_6 : decode cX1_ofBuyer 6 = .ok (.iload_n 2, 1) := dk_28 (dk_at dksX1_ofBuyer_0 6 rfl rfl)
theorem dX1_ofBuyer_7 : decode cX1_ofBuyer 7 = .ok (.iconst 0, 1) := dk_3 (dk_at dksX1_ofBuyer_0 7 rfl rfl)
theorem dX1_ofBuyer_8 : decode cX1_ofBuyer 8 = .ok (.bipush 8, 2) := dk_16 8 (dk_at dksX1_ofBuyer_0 8 rfl rfl)
theorem dX1_ofBuyer_10 : decode cX1_ofBuyer 10 = .ok (.invokestatic 101, 3) := dk_184 0 101 (dk_at dksX1_ofBuyer_0 10 rfl rfl)
theorem dX1_ofBuyer_13 : decode cX1_ofBuyer 13 = .ok (.aload_n 3, 1) := dk_45 (dk_at dksX1_ofBuyer_0 13 rfl rfl)
theorem dX1_ofBuyer_14 : decode cX1_ofBuyer 14 = .ok (.iload_n 2, 1) := dk_28 (dk_at dksX1_ofBuyer_0 14 rfl rfl)
theorem dX1_ofBuyer_15 : decode cX1_ofBuyer 15 = .ok (.invokevirtual 357, 3) := dk_182 1 101 (dk_at dksX1_ofBuyer_0 15 rfl rfl)
theorem dX1_ofBuyer_18 : decode cX1_ofBuyer 18 = .ok (.ireturn, 1) := dk_172 (dk_at dksX1_ofBuyer_0 18 rfl rfl)
abbrev cX1_wants : ByteArray := prog_1_method_44_code
def yX1_wants : MethodName := ⟨RX1, "wants", "(I)I"⟩
def dkwX1_wants_1 : List UInt8 := [192, 1, 2, 180, 1, 7, 172]
abbrev dktX1_wants_1 : List UInt8 := dkwX1_wants_1 ++ []
def dkwX1_wants_0 : List UInt8 := [27, 42, 180, 0, 25, 185, 0, 64, 1, 0, 184, 0, 70, 42, 180, 0, 25, 27, 185, 0, 74, 2, 0]
abbrev dktX1_wants_0 : List UInt8 := dkwX1_wants_0 ++ dktX1_wants_1
theorem dksX1_wants_0 : cX1_wants.data.toList.drop 0 = dktX1_wants_0 := by decide +kernel
theorem dksX1_wants_1 : cX1_wants.data.toList.drop 23 = dktX1_wants_1 := dk_seg dksX1_wants_0 23 rfl rfl
theorem dX1_wants_0 : decode cX1_wants 0 = .ok (.iload_n 1, 1) := dk_27 (dk_at dksX1_wants_0 0 rfl rfl)
theorem dX1_wants_1 : decode cX1_wants 1 = .ok (.aload_n 0, 1) := dk_42 (dk_at dksX1_wants_0 1 rfl rfl)
theorem dX1_wants_2 : decode cX1_wants 2 = .ok (.getfield 25, 3) := dk_180 0 25 (dk_at dksX1_wants_0 2 rfl rfl)
theorem dX1_wants_5 : decode cX1_wants 5 = .ok (.invokeinterface 64 1, 5) := by decide +kernel
theorem dX1_wants_10 : decode cX1_wants 10 = .ok (.invokestatic 70, 3) := dk_184 0 70 (dk_at dksX1_wants_0 10 rfl rfl)
theorem dX1_wants_13 : decode cX1_wants 13 = .ok (.aload_n 0, 1) := dk_42 (dk_at dksX1_wants_0 13 rfl rfl)
theorem dX1_wants_14 : decode cX1_wants 14 = .ok (.getfield 25, 3) := dk_180 0 25 (dk_at dksX1_wants_0 14 rfl rfl)
theorem dX1_wants_17 : decode cX1_wants 17 = .ok (.iload_n 1, 1) := dk_27 (dk_at dksX1_wants_0 17 rfl rfl)
theorem dX1_wants_18 : decode cX1_wants 18 = .ok (.invokeinterface 74 2, 5) := by decide +kernel
theorem dX1_wants_23 : decode cX1_wants 23 = .ok (.checkcast 258, 3) := dk_192 1 2 (dk_at dksX1_wants_1 0 rfl rfl)
theorem dX1_wants_26 : decode cX1_wants 26 = .ok (.getfield 263, 3) := dk_180 1 7 (dk_at dksX1_wants_1 3 rfl rfl)
theorem dX1_wants_29 : decode cX1_wants 29 = .ok (.ireturn, 1) := dk_172 (dk_at dksX1_wants_1 6 rfl rfl)
abbrev cX1_sale : ByteArray := prog_1_method_45_code
def yX1_sale : MethodName := ⟨RX1, "sale", "(II)I"⟩
def dkwX1_sale_2 : List UInt8 := [172]
abbrev dktX1_sale_2 : List UInt8 := dkwX1_sale_2 ++ []
def dkwX1_sale_1 : List UInt8 := [180, 0, 28, 185, 0, 64, 1, 0, 4, 100, 27, 100, 185, 0, 74, 2, 0, 192, 0, 197, 28, 182, 1, 102]
abbrev dktX1_sale_1 : List UInt8 := dkwX1_sale_1 ++ dktX1_sale_2
def dkwX1_sale_0 : List UInt8 := [27, 42, 180, 0, 28, 185, 0, 64, 1, 0, 184, 0, 70, 28, 3, 7, 184, 0, 101, 42, 180, 0, 28, 42]
abbrev dktX1_sale_0 : List UInt8 := dkwX1_sale_0 ++ dktX1_sale_1
theorem dksX1_sale_0 : cX1_sale.data.toList.drop 0 = dktX1_sale_0 := by decide +kernel
theorem dksX1_sale_1 : cX1_sale.data.toList.drop 24 = dktX1_sale_1 := dk_seg dksX1_sale_0 24 rfl rfl
theorem dksX1_sale_2 : cX1_sale.data.toList.drop 48 = dktX1_sale_2 := dk_seg dksX1_sale_1 24 rfl rfl
theorem dX1_sale_0 : decode cX1_sale 0 = .ok (.iload_n 1, 1) := dk_27 (dk_at dksX1_sale_0 0 rfl rfl)
theorem dX1_sale_1 : decode cX1_sale 1 = .ok (.aload_n 0, 1) := dk_42 (dk_at dksX1_sale_0 1 rfl rfl)
theorem dX1_sale_2 : decode cX1_sale 2 = .ok (.getfield 28, 3) := dk_180 0 28 (dk_at dksX1_sale_0 2 rfl rfl)
theorem dX1_sale_5 : decode cX1_sale 5 = .ok (.invokeinterface 64 1, 5) := by decide +kernel
theorem dX1_sale_10 : decode cX1_sale 10 = .ok (.invokestatic 70, 3) := dk_184 0 70 (dk_at dksX1_sale_0 10 rfl rfl)
theorem dX1_sale_13 : decode cX1_sale 13 = .ok (.iload_n 2, 1) := dk_28 (dk_at dksX1_sale_0 13 rfl rfl)
theorem dX1_sale_14 : decode cX1_sale 14 = .ok (.iconst 0, 1) := dk_3 (dk_at dksX1_sale_0 14 rfl rfl)
theorem dX1_sale_15 : decode cX1_sale 15 = .ok (.iconst 4, 1) := dk_7 (dk_at dksX1_sale_0 15 rfl rfl)
theorem dX1_sale_16 : decode cX1_sale 16 = .ok (.invokestatic 101, 3) := dk_184 0 101 (dk_at dksX1_sale_0 16 rfl rfl)
theorem dX1_sale_19 : decode cX1_sale 19 = .ok (.aload_n 0, 1) := dk_42 (dk_at dksX1_sale_0 19 rfl rfl)
theorem dX1_sale_20 : decode cX1_sale 20 = .ok (.getfield 28, 3) := dk_180 0 28 (dk_at dksX1_sale_0 20 rfl rfl)
theorem dX1_sale_23 : decode cX1_sale 23 = .ok (.aload_n 0, 1) := dk_42 (dk_at dksX1_sale_0 23 rfl rfl)
theorem dX1_sale_24 : decode cX1_sale 24 = .ok (.getfield 28, 3) := dk_180 0 28 (dk_at dksX1_sale_1 0 rfl rfl)
theorem dX1_sale_27 : decode cX1_sale 27 = .ok (.invokeinterface 64 1, 5) := by decide +kernel
theorem dX1_sale_32 : decode cX1_sale 32 = .ok (.iconst 1, 1) := dk_4 (dk_at dksX1_sale_1 8 rfl rfl)
theorem dX1_sale_33 : decode cX1_sale 33 = .ok (.isub, 1) := dk_100 (dk_at dksX1_sale_1 9 rfl rfl)
theorem dX1_sale_34 : decode cX1_sale 34 = .ok (.iload_n 1, 1) := dk_27 (dk_at dksX1_sale_1 10 rfl rfl)
theorem dX1_sale_35 : decode cX1_sale 35 = .ok (.isub, 1) := dk_100 (dk_at dksX1_sale_1 11 rfl rfl)
theorem dX1_sale_36 : decode cX1_sale 36 = .ok (.invokeinterface 74 2, 5) := by decide +kernel
theorem dX1_sale_41 : decode cX1_sale 41 = .ok (.checkcast 197, 3) := dk_192 0 197 (dk_at dksX1_sale_1 17 rfl rfl)
theorem dX1_sale_44 : decode cX1_sale 44 = .ok (.iload_n 2, 1) := dk_28 (dk_at dksX1_sale_1 20 rfl rfl)
theorem dX1_sale_45 : decode cX1_sale 45 = .ok (.invokevirtual 358, 3) := dk_182 1 102 (dk_at dksX1_sale_1 21 rfl rfl)
theorem dX1_sale_48 : decode cX1_sale 48 = .ok (.ireturn, 1) := dk_172 (dk_at dksX1_sale_2 0 rfl rfl)
abbrev cX1_row : ByteArray := prog_1_method_47_code
def yX1_row : MethodName := ⟨RX1, "row", "(I)I"⟩
def dkwX1_row_0 : List UInt8 := [27, 155, 0, 7, 4, 167, 0, 4, 3, 184, 0, 54, 42, 27, 182, 1, 103, 172]
abbrev dktX1_row_0 : List UInt8 := dkwX1_row_0 ++ []
theorem dksX1_row_0 : cX1_row.data.toList.drop 0 = dktX1_row_0 := by decide +kernel
theorem dX1_row_0 : decode cX1_row 0 = .ok (.iload_n 1, 1) := dk_27 (dk_at dksX1_row_0 0 rfl rfl)
theorem dX1_row_1 : decode cX1_row 1 = .ok (.ifCond .lt 7, 3) := dk_155 0 7 (dk_at dksX1_row_0 1 rfl rfl)
theorem dX1_row_4 : decode cX1_row 4 = .ok (.iconst 1, 1) := dk_4 (dk_at dksX1_row_0 4 rfl rfl)
theorem dX1_row_5 : decode cX1_row 5 = .ok (.goto 4, 3) := dk_167 0 4 (dk_at dksX1_row_0 5 rfl rfl)
theorem dX1_row_8 : decode cX1_row 8 = .ok (.iconst 0, 1) := dk_3 (dk_at dksX1_row_0 8 rfl rfl)
theorem dX1_row_9 : decode cX1_row 9 = .ok (.invokestatic 54, 3) := dk_184 0 54 (dk_at dksX1_row_0 9 rfl rfl)
theorem dX1_row_12 : decode cX1_row 12 = .ok (.aload_n 0, 1) := dk_42 (dk_at dksX1_row_0 12 rfl rfl)
theorem dX1_row_13 : decode cX1_row 13 = .ok (.iload_n 1, 1) := dk_27 (dk_at dksX1_row_0 13 rfl rfl)
theorem dX1_row_14 : decode cX1_row 14 = .ok (.invokevirtual 359, 3) := dk_182 1 103 (dk_at dksX1_row_0 14 rfl rfl)
theorem dX1_row_17 : decode cX1_row 17 = .ok (.ireturn, 1) := dk_172 (dk_at dksX1_row_0 17 rfl rfl)
abbrev cX1_many : ByteArray := prog_1_method_50_code
def yX1_many : MethodName := ⟨RX1, "many", "(I)I"⟩
def dkwX1_many_0 : List UInt8 := [27, 3, 16, 15, 184, 0, 101, 42, 27, 182, 1, 109, 172]
abbrev dktX1_many_0 : List UInt8 := dkwX1_many_0 ++ []
theorem dksX1_many_0 : cX1_many.data.toList.drop 0 = dktX1_many_0 := by decide +kernel
theorem dX1_many_0 : decode cX1_many 0 = .ok (.iload_n 1, 1) := dk_27 (dk_at dksX1_many_0 0 rfl rfl)
theorem dX1_many_1 : decode cX1_many 1 = .ok (.iconst 0, 1) := dk_3 (dk_at dksX1_many_0 1 rfl rfl)
theorem dX1_many_2 : decode cX1_many 2 = .ok (.bipush 15, 2) := dk_16 15 (dk_at dksX1_many_0 2 rfl rfl)
theorem dX1_many_4 : decode cX1_many 4 = .ok (.invokestatic 101, 3) := dk_184 0 101 (dk_at dksX1_many_0 4 rfl rfl)
theorem dX1_many_7 : decode cX1_many 7 = .ok (.aload_n 0, 1) := dk_42 (dk_at dksX1_many_0 7 rfl rfl)
theorem dX1_many_8 : decode cX1_many 8 = .ok (.iload_n 1, 1) := dk_27 (dk_at dksX1_many_0 8 rfl rfl)
theorem dX1_many_9 : decode cX1_many 9 = .ok (.invokevirtual 365, 3) := dk_182 1 109 (dk_at dksX1_many_0 9 rfl rfl)
theorem dX1_many_12 : decode cX1_many 12 = .ok (.ireturn, 1) := dk_172 (dk_at dksX1_many_0 12 rfl rfl)
abbrev cX1_wouldFetch : ByteArray := prog_1_method_54_code
def yX1_wouldFetch : MethodName := ⟨RX1, "wouldFetch", "(I)I"⟩
def dkwX1_wouldFetch_0 : List UInt8 := [42, 27, 182, 0, 128, 87, 42, 27, 182, 1, 116, 172]
abbrev dktX1_wouldFetch_0 : List UInt8 := dkwX1_wouldFetch_0 ++ []
theorem dksX1_wouldFetch_0 : cX1_wouldFetch.data.toList.drop 0 = dktX1_wouldFetch_0 := by decide +kernel
theorem dX1_wouldFetch_0 : decode cX1_wouldFetch 0 = .ok (.aload_n 0, 1) := dk_42 (dk_at dksX1_wouldFetch_0 0 rfl rfl)
theorem dX1_wouldFetch_1 : decode cX1_wouldFetch 1 = .ok (.iload_n 1, 1) := dk_27 (dk_at dksX1_wouldFetch_0 1 rfl rfl)
theorem dX1_wouldFetch_2 : decode cX1_wouldFetch 2 = .ok (.invokevirtual 128, 3) := dk_182 0 128 (dk_at dksX1_wouldFetch_0 2 rfl rfl)
theorem dX1_wouldFetch_5 : decode cX1_wouldFetch 5 = .ok (.pop, 1) := dk_87 (dk_at dksX1_wouldFetch_0 5 rfl rfl)
theorem dX1_wouldFetch_6 : decode cX1_wouldFetch 6 = .ok (.aload_n 0, 1) := dk_42 (dk_at dksX1_wouldFetch_0 6 rfl rfl)
theorem dX1_wouldFetch_7 : decode cX1_wouldFetch 7 = .ok (.iload_n 1, 1) := dk_27 (dk_at dksX1_wouldFetch_0 7 rfl rfl)
theorem dX1_wouldFetch_8 : decode cX1_wouldFetch 8 = .ok (.invokevirtual 372, 3) := dk_182 1 116 (dk_at dksX1_wouldFetch_0 8 rfl rfl)
theorem dX1_wouldFetch_11 : decode cX1_wouldFetch 11 = .ok (.ireturn, 1) := dk_172 (dk_at dksX1_wouldFetch_0 11 rfl rfl)
abbrev cX1_bestMinimum : ByteArray := prog_1_method_56_code
def yX1_bestMinimum : MethodName := ⟨RX1, "bestMinimum", "(I)I"⟩
def dkwX1_bestMinimum_0 : List UInt8 := [42, 27, 182, 0, 128, 87, 42, 27, 182, 1, 119, 172]
abbrev dktX1_bestMinimum_0 : List UInt8 := dkwX1_bestMinimum_0 ++ []
theorem dksX1_bestMinimum_0 : cX1_bestMinimum.data.toList.drop 0 = dktX1_bestMinimum_0 := by decide +kernel
theorem dX1_bestMinimum_0 : decode cX1_bestMinimum 0 = .ok (.aload_n 0, 1) := dk_42 (dk_at dksX1_bestMinimum_0 0 rfl rfl)
theorem dX1_bestMinimum_1 : decode cX1_bestMinimum 1 = .ok (.iload_n 1, 1) := dk_27 (dk_at dksX1_bestMinimum_0 1 rfl rfl)
theorem dX1_bestMinimum_2 : decode cX1_bestMinimum 2 = .ok (.invokevirtual 128, 3) := dk_182 0 128 (dk_at dksX1_bestMinimum_0 2 rfl rfl)
theorem dX1_bestMinimum_5 : decode cX1_bestMinimum 5 = .ok (.pop, 1) := dk_87 (dk_at dksX1_bestMinimum_0 5 rfl rfl)
theorem dX1_bestMinimum_6 : decode cX1_bestMinimum 6 = .ok (.aload_n 0, 1) := dk_42 (dk_at dksX1_bestMinimum_0 6 rfl rfl)
theorem dX1_bestMinimum_7 : decode cX1_bestMinimum 7 = .ok (.iload_n 1, 1) := dk_27 (dk_at dksX1_bestMinimum_0 7 rfl rfl)
theorem dX1_bestMinimum_8 : decode cX1_bestMinimum 8 = .ok (.invokevirtual 375, 3) := dk_182 1 119 (dk_at dksX1_bestMinimum_0 8 rfl rfl)
theorem dX1_bestMinimum_11 : decode cX1_bestMinimum 11 = .ok (.ireturn, 1) := dk_172 (dk_at dksX1_bestMinimum_0 11 rfl rfl)
abbrev cX1_readyIn : ByteArray := prog_1_method_58_code
def yX1_readyIn : MethodName := ⟨RX1, "readyIn", "(I)I"⟩
def dkwX1_readyIn_0 : List UInt8 := [42, 42, 27, 182, 0, 110, 182, 1, 133, 172]
abbrev dktX1_readyIn_0 : List UInt8 := dkwX1_readyIn_0 ++ []
theorem dksX1_readyIn_0 : cX1_readyIn.data.toList.drop 0 = dktX1_readyIn_0 := by decide +kernel
theorem dX1_readyIn_0 : decode cX1_readyIn 0 = .ok (.aload_n 0, 1) := dk_42 (dk_at dksX1_readyIn_0 0 rfl rfl)
theorem dX1_readyIn_1 : decode cX1_readyIn 1 = .ok (.aload_n 0, 1) := dk_42 (dk_at dksX1_readyIn_0 1 rfl rfl)
theorem dX1_readyIn_2 : decode cX1_readyIn 2 = .ok (.iload_n 1, 1) := dk_27 (dk_at dksX1_readyIn_0 2 rfl rfl)
theorem dX1_readyIn_3 : decode cX1_readyIn 3 = .ok (.invokevirtual 110, 3) := dk_182 0 110 (dk_at dksX1_readyIn_0 3 rfl rfl)
theorem dX1_readyIn_6 : decode cX1_readyIn 6 = .ok (.invokevirtual 389, 3) := dk_182 1 133 (dk_at dksX1_readyIn_0 6 rfl rfl)
theorem dX1_readyIn_9 : decode cX1_readyIn 9 = .ok (.ireturn, 1) := dk_172 (dk_at dksX1_readyIn_0 9 rfl rfl)
abbrev cX1_lampsFor : ByteArray := prog_1_method_60_code
def yX1_lampsFor : MethodName := ⟨RX1, "lampsFor", "(II)I"⟩
def dkwX1_lampsFor_0 : List UInt8 := [27, 6, 184, 0, 70, 28, 4, 17, 0, 200, 184, 0, 101, 42, 27, 28, 182, 1, 137, 172]
abbrev dktX1_lampsFor_0 : List UInt8 := dkwX1_lampsFor_0 ++ []
theorem dksX1_lampsFor_0 : cX1_lampsFor.data.toList.drop 0 = dktX1_lampsFor_0 := by decide +kernel
theorem dX1_lampsFor_0 : decode cX1_lampsFor 0 = .ok (.iload_n 1, 1) := dk_27 (dk_at dksX1_lampsFor_0 0 rfl rfl)
theorem dX1_lampsFor_1 : decode cX1_lampsFor 1 = .ok (.iconst 3, 1) := dk_6 (dk_at dksX1_lampsFor_0 1 rfl rfl)
theorem dX1_lampsFor_2 : decode cX1_lampsFor 2 = .ok (.invokestatic 70, 3) := dk_184 0 70 (dk_at dksX1_lampsFor_0 2 rfl rfl)
theorem dX1_lampsFor_5 : decode cX1_lampsFor 5 = .ok (.iload_n 2, 1) := dk_28 (dk_at dksX1_lampsFor_0 5 rfl rfl)
theorem dX1_lampsFor_6 : decode cX1_lampsFor 6 = .ok (.iconst 1, 1) := dk_4 (dk_at dksX1_lampsFor_0 6 rfl rfl)
theorem dX1_lampsFor_7 : decode cX1_lampsFor 7 = .ok (.sipush 200, 3) := dk_17 0 200 (dk_at dksX1_lampsFor_0 7 rfl rfl)
theorem dX1_lampsFor_10 : decode cX1_lampsFor 10 = .ok (.invokestatic 101, 3) := dk_184 0 101 (dk_at dksX1_lampsFor_0 10 rfl rfl)
theorem dX1_lampsFor_13 : decode cX1_lampsFor 13 = .ok (.aload_n 0, 1) := dk_42 (dk_at dksX1_lampsFor_0 13 rfl rfl)
theorem dX1_lampsFor_14 : decode cX1_lampsFor 14 = .ok (.iload_n 1, 1) := dk_27 (dk_at dksX1_lampsFor_0 14 rfl rfl)
theorem dX1_lampsFor_15 : decode cX1_lampsFor 15 = .ok (.iload_n 2, 1) := dk_28 (dk_at dksX1_lampsFor_0 15 rfl rfl)
theorem dX1_lampsFor_16 : decode cX1_lampsFor 16 = .ok (.invokevirtual 393, 3) := dk_182 1 137 (dk_at dksX1_lampsFor_0 16 rfl rfl)
theorem dX1_lampsFor_19 : decode cX1_lampsFor 19 = .ok (.ireturn, 1) := dk_172 (dk_at dksX1_lampsFor_0 19 rfl rfl)
theorem q56 : (Jvm.Cond.initialized "Bloomclock") ∈ lw_all := lw_g (lw_at lw_m1 1 rfl) rfl
theorem q99 : (Jvm.Cond.instantiable "Bloomclock" (18 : Nat)) ∈ lw_all := lw_g (lw_at lw_m1 44 rfl) rfl
theorem q101 : (Jvm.Cond.instanceMethod ({ cls := "Bloomclock", name := "<init>", desc := "()V" } : Jvm.MethodName)) ∈ lw_all := lw_g (lw_at lw_m1 46 rfl) rfl
theorem q102 : (Jvm.Cond.code ({ cls := "Bloomclock", name := "<init>", desc := "()V" } : Jvm.MethodName) prog_1_method_2_code (1 : Nat) (Option.none : Option Jvm.ClassFile.FieldType)) ∈ lw_all := lw_g (lw_at lw_m1 47 rfl) rfl
theorem q103 : (Jvm.Cond.methodLink "Bloomclock" (3 : Nat) ({ cls := "java/lang/Object", name := "<init>", desc := "()V" } : Jvm.MethodName)) ∈ lw_all := lw_g (lw_at lw_m1 48 rfl) rfl
theorem q106 : (Jvm.Cond.classLink "Bloomclock" (9 : Nat) "java/util/ArrayList") ∈ lw_all := lw_g (lw_at lw_m1 51 rfl) rfl
theorem q108 : (Jvm.Cond.methodLink "Bloomclock" (11 : Nat) ({ cls := "java/util/ArrayList", name := "<init>", desc := "()V" } : Jvm.MethodName)) ∈ lw_all := lw_g (lw_at lw_m1 53 rfl) rfl
theorem q135 : (Jvm.Cond.fieldLink "Bloomclock" (12 : Nat) "Bloomclock" "growers" "Ljava/util/List;") ∈ lw_all := lw_g (lw_at lw_m1 80 rfl) rfl
theorem q136 : (Jvm.Cond.fieldLink "Bloomclock" (16 : Nat) "Bloomclock" "crops" "Ljava/util/List;") ∈ lw_all := lw_g (lw_at lw_m1 81 rfl) rfl
theorem q137 : (Jvm.Cond.fieldLink "Bloomclock" (19 : Nat) "Bloomclock" "lots" "Ljava/util/List;") ∈ lw_all := lw_g (lw_at lw_m1 82 rfl) rfl
theorem q138 : (Jvm.Cond.fieldLink "Bloomclock" (22 : Nat) "Bloomclock" "buyers" "Ljava/util/List;") ∈ lw_all := lw_g (lw_at lw_m1 83 rfl) rfl
theorem q139 : (Jvm.Cond.fieldLink "Bloomclock" (25 : Nat) "Bloomclock" "orders" "Ljava/util/List;") ∈ lw_all := lw_g (lw_at lw_m1 84 rfl) rfl
theorem q140 : (Jvm.Cond.fieldLink "Bloomclock" (28 : Nat) "Bloomclock" "sales" "Ljava/util/List;") ∈ lw_all := lw_g (lw_at lw_m1 85 rfl) rfl
theorem q141 : (Jvm.Cond.fieldLink "Bloomclock" (31 : Nat) "Bloomclock" "rail" "Ljava/util/List;") ∈ lw_all := lw_g (lw_at lw_m1 86 rfl) rfl
theorem q142 : (Jvm.Cond.fieldLink "Bloomclock" (34 : Nat) "Bloomclock" "row" "[I") ∈ lw_all := lw_g (lw_at lw_m1 87 rfl) rfl
theorem q143 : (Jvm.Cond.fieldLink "Bloomclock" (38 : Nat) "Bloomclock" "quotas" "[I") ∈ lw_all := lw_g (lw_at lw_m1 88 rfl) rfl
theorem q144 : (Jvm.Cond.fieldLink "Bloomclock" (240 : Nat) "Bloomclock" "inRow" "I") ∈ lw_all := lw_g (lw_at lw_m1 89 rfl) rfl
theorem q145 : (Jvm.Cond.fieldLink "Bloomclock" (86 : Nat) "Bloomclock" "hour" "I") ∈ lw_all := lw_g (lw_at lw_m1 90 rfl) rfl
theorem q146 : (Jvm.Cond.fieldLink "Bloomclock" (41 : Nat) "Bloomclock" "light" "I") ∈ lw_all := lw_g (lw_at lw_m1 91 rfl) rfl
theorem q147 : (Jvm.Cond.fieldLink "Bloomclock" (45 : Nat) "Bloomclock" "pool" "I") ∈ lw_all := lw_g (lw_at lw_m1 92 rfl) rfl
theorem q148 : (Jvm.Cond.fieldLink "Bloomclock" (324 : Nat) "Bloomclock" "coins" "I") ∈ lw_all := lw_g (lw_at lw_m1 93 rfl) rfl
theorem q149 : (Jvm.Cond.fieldLink "Bloomclock" (207 : Nat) "Bloomclock" "waste" "I") ∈ lw_all := lw_g (lw_at lw_m1 94 rfl) rfl
theorem q150 : (Jvm.Cond.fieldLink "Bloomclock" (331 : Nat) "Bloomclock" "sold" "I") ∈ lw_all := lw_g (lw_at lw_m1 95 rfl) rfl
theorem q151 : (Jvm.Cond.fieldLink "Bloomclock" (332 : Nat) "Bloomclock" "money" "I") ∈ lw_all := lw_g (lw_at lw_m1 96 rfl) rfl
theorem q152 : (Jvm.Cond.fieldLink "Bloomclock" (48 : Nat) "Bloomclock" "speed" "I") ∈ lw_all := lw_g (lw_at lw_m1 97 rfl) rfl
theorem q153 : (Jvm.Cond.laysFinal "Bloomclock" "Bloomclock" "growers" "Ljava/util/List;") ∈ lw_all := lw_g (lw_at lw_m1 98 rfl) rfl
theorem q154 : (Jvm.Cond.soleField "Bloomclock" "growers") ∈ lw_all := lw_g (lw_at lw_m1 99 rfl) rfl
theorem q155 : (Jvm.Cond.laysFinal "Bloomclock" "Bloomclock" "crops" "Ljava/util/List;") ∈ lw_all := lw_g (lw_at lw_m1 100 rfl) rfl
theorem q156 : (Jvm.Cond.soleField "Bloomclock" "crops") ∈ lw_all := lw_g (lw_at lw_m1 101 rfl) rfl
theorem q157 : (Jvm.Cond.laysFinal "Bloomclock" "Bloomclock" "lots" "Ljava/util/List;") ∈ lw_all := lw_g (lw_at lw_m1 102 rfl) rfl
theorem q158 : (Jvm.Cond.soleField "Bloomclock" "lots") ∈ lw_all := lw_g (lw_at lw_m1 103 rfl) rfl
theorem q159 : (Jvm.Cond.laysFinal "Bloomclock" "Bloomclock" "buyers" "Ljava/util/List;") ∈ lw_all := lw_g (lw_at lw_m1 104 rfl) rfl
theorem q160 : (Jvm.Cond.soleField "Bloomclock" "buyers") ∈ lw_all := lw_g (lw_at lw_m1 105 rfl) rfl
theorem q161 : (Jvm.Cond.laysFinal "Bloomclock" "Bloomclock" "orders" "Ljava/util/List;") ∈ lw_all := lw_g (lw_at lw_m1 106 rfl) rfl
theorem q162 : (Jvm.Cond.soleField "Bloomclock" "orders") ∈ lw_all := lw_g (lw_at lw_m1 107 rfl) rfl
theorem q163 : (Jvm.Cond.laysFinal "Bloomclock" "Bloomclock" "sales" "Ljava/util/List;") ∈ lw_all := lw_g (lw_at lw_m1 108 rfl) rfl
theorem q164 : (Jvm.Cond.soleField "Bloomclock" "sales") ∈ lw_all := lw_g (lw_at lw_m1 109 rfl) rfl
theorem q165 : (Jvm.Cond.laysFinal "Bloomclock" "Bloomclock" "rail" "Ljava/util/List;") ∈ lw_all := lw_g (lw_at lw_m1 110 rfl) rfl
theorem q166 : (Jvm.Cond.soleField "Bloomclock" "rail") ∈ lw_all := lw_g (lw_at lw_m1 111 rfl) rfl
theorem q167 : (Jvm.Cond.laysFinal "Bloomclock" "Bloomclock" "row" "[I") ∈ lw_all := lw_g (lw_at lw_m1 112 rfl) rfl
theorem q168 : (Jvm.Cond.soleField "Bloomclock" "row") ∈ lw_all := lw_g (lw_at lw_m1 113 rfl) rfl
theorem q169 : (Jvm.Cond.laysFinal "Bloomclock" "Bloomclock" "quotas" "[I") ∈ lw_all := lw_g (lw_at lw_m1 114 rfl) rfl
theorem q170 : (Jvm.Cond.soleField "Bloomclock" "quotas") ∈ lw_all := lw_g (lw_at lw_m1 115 rfl) rfl
theorem q171 : (Jvm.Cond.lays "Bloomclock" "Bloomclock" "inRow" "I") ∈ lw_all := lw_g (lw_at lw_m1 116 rfl) rfl
theorem q172 : (Jvm.Cond.soleField "Bloomclock" "inRow") ∈ lw_all := lw_g (lw_at lw_m1 117 rfl) rfl
theorem q173 : (Jvm.Cond.lays "Bloomclock" "Bloomclock" "hour" "I") ∈ lw_all := lw_g (lw_at lw_m1 118 rfl) rfl
theorem q174 : (Jvm.Cond.soleField "Bloomclock" "hour") ∈ lw_all := lw_g (lw_at lw_m1 119 rfl) rfl
theorem q175 : (Jvm.Cond.lays "Bloomclock" "Bloomclock" "light" "I") ∈ lw_all := lw_g (lw_at lw_m1 120 rfl) rfl
theorem q176 : (Jvm.Cond.soleField "Bloomclock" "light") ∈ lw_all := lw_g (lw_at lw_m1 121 rfl) rfl
theorem q177 : (Jvm.Cond.lays "Bloomclock" "Bloomclock" "pool" "I") ∈ lw_all := lw_g (lw_at lw_m1 122 rfl) rfl
theorem q178 : (Jvm.Cond.soleField "Bloomclock" "pool") ∈ lw_all := lw_g (lw_at lw_m1 123 rfl) rfl
theorem q179 : (Jvm.Cond.lays "Bloomclock" "Bloomclock" "coins" "I") ∈ lw_all := lw_g (lw_at lw_m1 124 rfl) rfl
theorem q180 : (Jvm.Cond.soleField "Bloomclock" "coins") ∈ lw_all := lw_g (lw_at lw_m1 125 rfl) rfl
theorem q181 : (Jvm.Cond.lays "Bloomclock" "Bloomclock" "waste" "I") ∈ lw_all := lw_g (lw_at lw_m1 126 rfl) rfl
theorem q182 : (Jvm.Cond.soleField "Bloomclock" "waste") ∈ lw_all := lw_g (lw_at lw_m1 127 rfl) rfl
theorem q183 : (Jvm.Cond.lays "Bloomclock" "Bloomclock" "sold" "I") ∈ lw_all := lw_g (lw_at lw_m1 128 rfl) rfl
theorem q184 : (Jvm.Cond.soleField "Bloomclock" "sold") ∈ lw_all := lw_g (lw_at lw_m1 129 rfl) rfl
theorem q185 : (Jvm.Cond.lays "Bloomclock" "Bloomclock" "money" "I") ∈ lw_all := lw_g (lw_at lw_m1 130 rfl) rfl
theorem q186 : (Jvm.Cond.soleField "Bloomclock" "money") ∈ lw_all := lw_g (lw_at lw_m1 131 rfl) rfl
theorem q187 : (Jvm.Cond.lays "Bloomclock" "Bloomclock" "speed" "I") ∈ lw_all := lw_g (lw_at lw_m1 132 rfl) rfl
theorem q188 : (Jvm.Cond.soleField "Bloomclock" "speed") ∈ lw_all := lw_g (lw_at lw_m1 133 rfl) rfl
theorem q189 : (Jvm.Cond.superclass "Bloomclock" "java/lang/Object") ∈ lw_all := lw_g (lw_at lw_m1 134 rfl) rfl
theorem q192 : (Jvm.Cond.instanceMethod ({ cls := "Bloomclock", name := "meanPrice", desc := "()D" } : Jvm.MethodName)) ∈ lw_all := lw_g (lw_at lw_m1 137 rfl) rfl
theorem q193 : (Jvm.Cond.selects "Bloomclock" ({ cls := "Bloomclock", name := "meanPrice", desc := "()D" } : Jvm.MethodName) ({ cls := "Bloomclock", name := "meanPrice", desc := "()D" } : Jvm.MethodName)) ∈ lw_all := lw_g (lw_at lw_m1 138 rfl) rfl
theorem q194 : (Jvm.Cond.code ({ cls := "Bloomclock", name := "meanPrice", desc := "()D" } : Jvm.MethodName) prog_1_method_51_code (1 : Nat) (Option.some Jvm.ClassFile.FieldType.double)) ∈ lw_all := lw_g (lw_at lw_m1 139 rfl) rfl
theorem q196 : (Jvm.Cond.instanceMethod ({ cls := "Bloomclock", name := "digest", desc := "()J" } : Jvm.MethodName)) ∈ lw_all := lw_g (lw_at lw_m1 141 rfl) rfl
theorem q197 : (Jvm.Cond.selects "Bloomclock" ({ cls := "Bloomclock", name := "digest", desc := "()J" } : Jvm.MethodName) ({ cls := "Bloomclock", name := "digest", desc := "()J" } : Jvm.MethodName)) ∈ lw_all := lw_g (lw_at lw_m1 142 rfl) rfl
theorem q198 : (Jvm.Cond.code ({ cls := "Bloomclock", name := "digest", desc := "()J" } : Jvm.MethodName) prog_1_method_63_code (5 : Nat) (Option.some Jvm.ClassFile.FieldType.long)) ∈ lw_all := lw_g (lw_at lw_m1 143 rfl) rfl
theorem q199 : (Jvm.Cond.constantLong "Bloomclock" (402 : Nat) (58185 : Int64)) ∈ lw_all := lw_g (lw_at lw_m1 144 rfl) rfl
theorem q200 : (Jvm.Cond.methodLink "Bloomclock" (365 : Nat) ({ cls := "Bloomclock", name := "manyNow", desc := "(I)I" } : Jvm.MethodName)) ∈ lw_all := lw_g (lw_at lw_m1 145 rfl) rfl
theorem q201 : (Jvm.Cond.privateMethod ({ cls := "Bloomclock", name := "manyNow", desc := "(I)I" } : Jvm.MethodName)) ∈ lw_tbl := lw_at lw_m1 146 rfl
theorem q202 : (Jvm.Cond.instanceMethod ({ cls := "Bloomclock", name := "manyNow", desc := "(I)I" } : Jvm.MethodName)) ∈ lw_all := lw_g (lw_at lw_m1 147 rfl) rfl
theorem q203 : (Jvm.Cond.code ({ cls := "Bloomclock", name := "manyNow", desc := "(I)I" } : Jvm.MethodName) prog_1_method_49_code (2 : Nat) (Option.some Jvm.ClassFile.FieldType.int)) ∈ lw_all := lw_g (lw_at lw_m1 148 rfl) rfl
theorem q204 : (Jvm.Cond.interfaceEntry "Bloomclock" (64 : Nat)) ∈ lw_tbl := lw_at lw_m1 149 rfl
theorem q205 : (Jvm.Cond.methodLink "Bloomclock" (64 : Nat) ({ cls := "java/util/List", name := "size", desc := "()I" } : Jvm.MethodName)) ∈ lw_all := lw_g (lw_at lw_m1 150 rfl) rfl
theorem q214 : (Jvm.Cond.methodLink "Bloomclock" (362 : Nat) ({ cls := "Bloomclock", name := "leastLife", desc := "()I" } : Jvm.MethodName)) ∈ lw_all := lw_g (lw_at lw_m1 159 rfl) rfl
theorem q215 : (Jvm.Cond.privateMethod ({ cls := "Bloomclock", name := "leastLife", desc := "()I" } : Jvm.MethodName)) ∈ lw_tbl := lw_at lw_m1 160 rfl
theorem q216 : (Jvm.Cond.instanceMethod ({ cls := "Bloomclock", name := "leastLife", desc := "()I" } : Jvm.MethodName)) ∈ lw_all := lw_g (lw_at lw_m1 161 rfl) rfl
theorem q217 : (Jvm.Cond.code ({ cls := "Bloomclock", name := "leastLife", desc := "()I" } : Jvm.MethodName) prog_1_method_48_code (3 : Nat) (Option.some Jvm.ClassFile.FieldType.int)) ∈ lw_all := lw_g (lw_at lw_m1 162 rfl) rfl
theorem q218 : (Jvm.Cond.interfaceEntry "Bloomclock" (74 : Nat)) ∈ lw_tbl := lw_at lw_m1 163 rfl
theorem q219 : (Jvm.Cond.methodLink "Bloomclock" (74 : Nat) ({ cls := "java/util/List", name := "get", desc := "(I)Ljava/lang/Object;" } : Jvm.MethodName)) ∈ lw_all := lw_g (lw_at lw_m1 164 rfl) rfl
theorem q237 : (Jvm.Cond.classLink "Bloomclock" (164 : Nat) "Bloomclock$Trolley") ∈ lw_all := lw_g (lw_at lw_m1 182 rfl) rfl
theorem q238 : (Jvm.Cond.methodLink "Bloomclock" (274 : Nat) ({ cls := "java/lang/Math", name := "min", desc := "(II)I" } : Jvm.MethodName)) ∈ lw_all := lw_g (lw_at lw_m1 183 rfl) rfl
theorem q241 : (Jvm.Cond.methodLink "Bloomclock" (398 : Nat) ({ cls := "Bloomclock", name := "mix", desc := "(JI)J" } : Jvm.MethodName)) ∈ lw_all := lw_g (lw_at lw_m1 186 rfl) rfl
theorem q242 : (Jvm.Cond.static ({ cls := "Bloomclock", name := "mix", desc := "(JI)J" } : Jvm.MethodName)) ∈ lw_all := lw_g (lw_at lw_m1 187 rfl) rfl
theorem q243 : (Jvm.Cond.code ({ cls := "Bloomclock", name := "mix", desc := "(JI)J" } : Jvm.MethodName) prog_1_method_61_code (3 : Nat) (Option.some Jvm.ClassFile.FieldType.long)) ∈ lw_all := lw_g (lw_at lw_m1 188 rfl) rfl
theorem q244 : (Jvm.Cond.constantLong "Bloomclock" (396 : Nat) (31 : Int64)) ∈ lw_all := lw_g (lw_at lw_m1 189 rfl) rfl
theorem q245 : (Jvm.Cond.methodLink "Bloomclock" (404 : Nat) ({ cls := "Bloomclock", name := "mixGrown", desc := "(J)J" } : Jvm.MethodName)) ∈ lw_all := lw_g (lw_at lw_m1 190 rfl) rfl
theorem q246 : (Jvm.Cond.privateMethod ({ cls := "Bloomclock", name := "mixGrown", desc := "(J)J" } : Jvm.MethodName)) ∈ lw_tbl := lw_at lw_m1 191 rfl
theorem q247 : (Jvm.Cond.instanceMethod ({ cls := "Bloomclock", name := "mixGrown", desc := "(J)J" } : Jvm.MethodName)) ∈ lw_all := lw_g (lw_at lw_m1 192 rfl) rfl
theorem q248 : (Jvm.Cond.code ({ cls := "Bloomclock", name := "mixGrown", desc := "(J)J" } : Jvm.MethodName) prog_1_method_62_code (7 : Nat) (Option.some Jvm.ClassFile.FieldType.long)) ∈ lw_all := lw_g (lw_at lw_m1 193 rfl) rfl
theorem q249 : (Jvm.Cond.classLink "Bloomclock" (78 : Nat) "Bloomclock$Grower") ∈ lw_all := lw_g (lw_at lw_m1 194 rfl) rfl
theorem q250 : (Jvm.Cond.methodLink "Bloomclock" (353 : Nat) ({ cls := "Bloomclock", name := "growerNow", desc := "(LBloomclock$Grower;I)I" } : Jvm.MethodName)) ∈ lw_all := lw_g (lw_at lw_m1 195 rfl) rfl
theorem q251 : (Jvm.Cond.privateMethod ({ cls := "Bloomclock", name := "growerNow", desc := "(LBloomclock$Grower;I)I" } : Jvm.MethodName)) ∈ lw_tbl := lw_at lw_m1 196 rfl
theorem q252 : (Jvm.Cond.instanceMethod ({ cls := "Bloomclock", name := "growerNow", desc := "(LBloomclock$Grower;I)I" } : Jvm.MethodName)) ∈ lw_all := lw_g (lw_at lw_m1 197 rfl) rfl
theorem q253 : (Jvm.Cond.code ({ cls := "Bloomclock", name := "growerNow", desc := "(LBloomclock$Grower;I)I" } : Jvm.MethodName) prog_1_method_41_code (3 : Nat) (Option.some Jvm.ClassFile.FieldType.int)) ∈ lw_all := lw_g (lw_at lw_m1 198 rfl) rfl
theorem q254 : (Jvm.Cond.methodLink "Bloomclock" (221 : Nat) ({ cls := "Bloomclock", name := "today", desc := "()I" } : Jvm.MethodName)) ∈ lw_all := lw_g (lw_at lw_m1 199 rfl) rfl
theorem q255 : (Jvm.Cond.privateMethod ({ cls := "Bloomclock", name := "today", desc := "()I" } : Jvm.MethodName)) ∈ lw_tbl := lw_at lw_m1 200 rfl
theorem q256 : (Jvm.Cond.instanceMethod ({ cls := "Bloomclock", name := "today", desc := "()I" } : Jvm.MethodName)) ∈ lw_all := lw_g (lw_at lw_m1 201 rfl) rfl
theorem q257 : (Jvm.Cond.code ({ cls := "Bloomclock", name := "today", desc := "()I" } : Jvm.MethodName) prog_1_method_11_code (1 : Nat) (Option.some Jvm.ClassFile.FieldType.int)) ∈ lw_all := lw_g (lw_at lw_m1 202 rfl) rfl
theorem q258 : (Jvm.Cond.methodLink "Bloomclock" (350 : Nat) ({ cls := "Bloomclock$Grower", name := "allOn", desc := "(I)I" } : Jvm.MethodName)) ∈ lw_all := lw_g (lw_at lw_m1 203 rfl) rfl
theorem q266 : (Jvm.Cond.classLink "Bloomclock" (80 : Nat) "Bloomclock$Crop") ∈ lw_all := lw_g (lw_at lw_m1 211 rfl) rfl
theorem q267 : (Jvm.Cond.methodLink "Bloomclock" (346 : Nat) ({ cls := "Bloomclock$Crop", name := "told", desc := "(I)I" } : Jvm.MethodName)) ∈ lw_all := lw_g (lw_at lw_m1 212 rfl) rfl
theorem q271 : (Jvm.Cond.methodLink "Bloomclock" (389 : Nat) ({ cls := "Bloomclock", name := "readyNow", desc := "(LBloomclock$Crop;)I" } : Jvm.MethodName)) ∈ lw_all := lw_g (lw_at lw_m1 216 rfl) rfl
theorem q272 : (Jvm.Cond.privateMethod ({ cls := "Bloomclock", name := "readyNow", desc := "(LBloomclock$Crop;)I" } : Jvm.MethodName)) ∈ lw_tbl := lw_at lw_m1 217 rfl
theorem q273 : (Jvm.Cond.instanceMethod ({ cls := "Bloomclock", name := "readyNow", desc := "(LBloomclock$Crop;)I" } : Jvm.MethodName)) ∈ lw_all := lw_g (lw_at lw_m1 218 rfl) rfl
theorem q274 : (Jvm.Cond.code ({ cls := "Bloomclock", name := "readyNow", desc := "(LBloomclock$Crop;)I" } : Jvm.MethodName) prog_1_method_57_code (4 : Nat) (Option.some Jvm.ClassFile.FieldType.int)) ∈ lw_all := lw_g (lw_at lw_m1 219 rfl) rfl
theorem q275 : (Jvm.Cond.methodLink "Bloomclock" (379 : Nat) ({ cls := "Bloomclock$Cultivar", name := "of", desc := "(I)LBloomclock$Cultivar;" } : Jvm.MethodName)) ∈ lw_all := lw_g (lw_at lw_m1 220 rfl) rfl
theorem q284 : (Jvm.Cond.classLink "Bloomclock" (82 : Nat) "Bloomclock$Lot") ∈ lw_all := lw_g (lw_at lw_m1 229 rfl) rfl
theorem q285 : (Jvm.Cond.methodLink "Bloomclock" (349 : Nat) ({ cls := "Bloomclock$Lot", name := "told", desc := "(I)I" } : Jvm.MethodName)) ∈ lw_all := lw_g (lw_at lw_m1 230 rfl) rfl
theorem q295 : (Jvm.Cond.methodLink "Bloomclock" (372 : Nat) ({ cls := "Bloomclock", name := "fetchNow", desc := "(I)I" } : Jvm.MethodName)) ∈ lw_all := lw_g (lw_at lw_m2 0 rfl) rfl
theorem q296 : (Jvm.Cond.privateMethod ({ cls := "Bloomclock", name := "fetchNow", desc := "(I)I" } : Jvm.MethodName)) ∈ lw_tbl := lw_at lw_m2 1 rfl
theorem q297 : (Jvm.Cond.instanceMethod ({ cls := "Bloomclock", name := "fetchNow", desc := "(I)I" } : Jvm.MethodName)) ∈ lw_all := lw_g (lw_at lw_m2 2 rfl) rfl
theorem q298 : (Jvm.Cond.code ({ cls := "Bloomclock", name := "fetchNow", desc := "(I)I" } : Jvm.MethodName) prog_1_method_53_code (3 : Nat) (Option.some Jvm.ClassFile.FieldType.int)) ∈ lw_all := lw_g (lw_at lw_m2 3 rfl) rfl
theorem q299 : (Jvm.Cond.methodLink "Bloomclock" (368 : Nat) ({ cls := "Bloomclock", name := "look", desc := "(I)LBloomclock$Auction;" } : Jvm.MethodName)) ∈ lw_all := lw_g (lw_at lw_m2 4 rfl) rfl
theorem q300 : (Jvm.Cond.privateMethod ({ cls := "Bloomclock", name := "look", desc := "(I)LBloomclock$Auction;" } : Jvm.MethodName)) ∈ lw_tbl := lw_at lw_m2 5 rfl
theorem q301 : (Jvm.Cond.instanceMethod ({ cls := "Bloomclock", name := "look", desc := "(I)LBloomclock$Auction;" } : Jvm.MethodName)) ∈ lw_all := lw_g (lw_at lw_m2 6 rfl) rfl
theorem q302 : (Jvm.Cond.code ({ cls := "Bloomclock", name := "look", desc := "(I)LBloomclock$Auction;" } : Jvm.MethodName) prog_1_method_52_code (3 : Nat) (Option.some (Jvm.ClassFile.FieldType.object "Bloomclock$Auction"))) ∈ lw_all := lw_g (lw_at lw_m2 7 rfl) rfl
theorem q303 : (Jvm.Cond.classLink "Bloomclock" (272 : Nat) "Bloomclock$Auction") ∈ lw_all := lw_g (lw_at lw_m2 8 rfl) rfl
theorem q305 : (Jvm.Cond.methodLink "Bloomclock" (277 : Nat) ({ cls := "Bloomclock$Auction", name := "<init>", desc := "(LBloomclock$Lot;IIILjava/util/List;Ljava/util/List;)V" } : Jvm.MethodName)) ∈ lw_all := lw_g (lw_at lw_m2 10 rfl) rfl
theorem q328 : (Jvm.Cond.fieldLinkNest "Bloomclock" (283 : Nat) "Bloomclock$Auction" "order" "I" "Bloomclock") ∈ lw_tbl := lw_at lw_m2 33 rfl
theorem q330 : (Jvm.Cond.fieldLinkNest "Bloomclock" (290 : Nat) "Bloomclock$Auction" "price" "I" "Bloomclock") ∈ lw_tbl := lw_at lw_m2 35 rfl
theorem q332 : (Jvm.Cond.fieldLinkNest "Bloomclock" (287 : Nat) "Bloomclock$Auction" "taken" "I" "Bloomclock") ∈ lw_tbl := lw_at lw_m2 37 rfl
theorem q334 : (Jvm.Cond.fieldLinkNest "Bloomclock" (293 : Nat) "Bloomclock$Auction" "packed" "I" "Bloomclock") ∈ lw_tbl := lw_at lw_m2 39 rfl
theorem q369 : (Jvm.Cond.methodLink "Bloomclock" (280 : Nat) ({ cls := "Bloomclock$Auction", name := "goesOn", desc := "()Z" } : Jvm.MethodName)) ∈ lw_all := lw_g (lw_at lw_m2 74 rfl) rfl
theorem q399 : (Jvm.Cond.static ({ cls := "Bloomclock", name := "buckets", desc := "(I)I" } : Jvm.MethodName)) ∈ lw_all := lw_g (lw_at lw_m2 104 rfl) rfl
theorem q400 : (Jvm.Cond.code ({ cls := "Bloomclock", name := "buckets", desc := "(I)I" } : Jvm.MethodName) prog_1_method_1_code (1 : Nat) (Option.some Jvm.ClassFile.FieldType.int)) ∈ lw_all := lw_g (lw_at lw_m2 105 rfl) rfl
theorem q401 : (Jvm.Cond.methodLink "Bloomclock" (375 : Nat) ({ cls := "Bloomclock", name := "bestNow", desc := "(I)I" } : Jvm.MethodName)) ∈ lw_all := lw_g (lw_at lw_m2 106 rfl) rfl
theorem q402 : (Jvm.Cond.privateMethod ({ cls := "Bloomclock", name := "bestNow", desc := "(I)I" } : Jvm.MethodName)) ∈ lw_tbl := lw_at lw_m2 107 rfl
theorem q403 : (Jvm.Cond.instanceMethod ({ cls := "Bloomclock", name := "bestNow", desc := "(I)I" } : Jvm.MethodName)) ∈ lw_all := lw_g (lw_at lw_m2 108 rfl) rfl
theorem q404 : (Jvm.Cond.code ({ cls := "Bloomclock", name := "bestNow", desc := "(I)I" } : Jvm.MethodName) prog_1_method_55_code (4 : Nat) (Option.some Jvm.ClassFile.FieldType.int)) ∈ lw_all := lw_g (lw_at lw_m2 109 rfl) rfl
theorem q405 : (Jvm.Cond.classLink "Bloomclock" (84 : Nat) "Bloomclock$Buyer") ∈ lw_all := lw_g (lw_at lw_m2 110 rfl) rfl
theorem q406 : (Jvm.Cond.methodLink "Bloomclock" (357 : Nat) ({ cls := "Bloomclock$Buyer", name := "told", desc := "(I)I" } : Jvm.MethodName)) ∈ lw_all := lw_g (lw_at lw_m2 111 rfl) rfl
theorem q410 : (Jvm.Cond.classLink "Bloomclock" (258 : Nat) "Bloomclock$Order") ∈ lw_all := lw_g (lw_at lw_m2 115 rfl) rfl
theorem q411 : (Jvm.Cond.classLink "Bloomclock" (197 : Nat) "Bloomclock$Sale") ∈ lw_all := lw_g (lw_at lw_m2 116 rfl) rfl
theorem q412 : (Jvm.Cond.methodLink "Bloomclock" (358 : Nat) ({ cls := "Bloomclock$Sale", name := "told", desc := "(I)I" } : Jvm.MethodName)) ∈ lw_all := lw_g (lw_at lw_m2 117 rfl) rfl
theorem q416 : (Jvm.Cond.methodLink "Bloomclock" (359 : Nat) ({ cls := "Bloomclock", name := "rowNow", desc := "(I)I" } : Jvm.MethodName)) ∈ lw_all := lw_g (lw_at lw_m2 121 rfl) rfl
theorem q417 : (Jvm.Cond.privateMethod ({ cls := "Bloomclock", name := "rowNow", desc := "(I)I" } : Jvm.MethodName)) ∈ lw_tbl := lw_at lw_m2 122 rfl
theorem q418 : (Jvm.Cond.instanceMethod ({ cls := "Bloomclock", name := "rowNow", desc := "(I)I" } : Jvm.MethodName)) ∈ lw_all := lw_g (lw_at lw_m2 123 rfl) rfl
theorem q419 : (Jvm.Cond.code ({ cls := "Bloomclock", name := "rowNow", desc := "(I)I" } : Jvm.MethodName) prog_1_method_46_code (2 : Nat) (Option.some Jvm.ClassFile.FieldType.int)) ∈ lw_all := lw_g (lw_at lw_m2 124 rfl) rfl
theorem q420 : (Jvm.Cond.methodLink "Bloomclock" (393 : Nat) ({ cls := "Bloomclock", name := "lampsNow", desc := "(II)I" } : Jvm.MethodName)) ∈ lw_all := lw_g (lw_at lw_m2 125 rfl) rfl
theorem q421 : (Jvm.Cond.privateMethod ({ cls := "Bloomclock", name := "lampsNow", desc := "(II)I" } : Jvm.MethodName)) ∈ lw_tbl := lw_at lw_m2 126 rfl
theorem q422 : (Jvm.Cond.instanceMethod ({ cls := "Bloomclock", name := "lampsNow", desc := "(II)I" } : Jvm.MethodName)) ∈ lw_all := lw_g (lw_at lw_m2 127 rfl) rfl
theorem q423 : (Jvm.Cond.code ({ cls := "Bloomclock", name := "lampsNow", desc := "(II)I" } : Jvm.MethodName) prog_1_method_59_code (4 : Nat) (Option.some Jvm.ClassFile.FieldType.int)) ∈ lw_all := lw_g (lw_at lw_m2 128 rfl) rfl
theorem q429 : (Jvm.Cond.instanceMethod ({ cls := "Bloomclock", name := "grower", desc := "()I" } : Jvm.MethodName)) ∈ lw_all := lw_g (lw_at lw_m2 134 rfl) rfl
theorem q430 : (Jvm.Cond.selects "Bloomclock" ({ cls := "Bloomclock", name := "grower", desc := "()I" } : Jvm.MethodName) ({ cls := "Bloomclock", name := "grower", desc := "()I" } : Jvm.MethodName)) ∈ lw_all := lw_g (lw_at lw_m2 135 rfl) rfl
theorem q431 : (Jvm.Cond.code ({ cls := "Bloomclock", name := "grower", desc := "()I" } : Jvm.MethodName) prog_1_method_12_code (1 : Nat) (Option.some Jvm.ClassFile.FieldType.int)) ∈ lw_all := lw_g (lw_at lw_m2 136 rfl) rfl
theorem q432 : (Jvm.Cond.methodLink "Bloomclock" (89 : Nat) ({ cls := "Bloomclock", name := "checkState", desc := "(Z)V" } : Jvm.MethodName)) ∈ lw_all := lw_g (lw_at lw_m2 137 rfl) rfl
theorem q433 : (Jvm.Cond.static ({ cls := "Bloomclock", name := "checkState", desc := "(Z)V" } : Jvm.MethodName)) ∈ lw_all := lw_g (lw_at lw_m2 138 rfl) rfl
theorem q434 : (Jvm.Cond.code ({ cls := "Bloomclock", name := "checkState", desc := "(Z)V" } : Jvm.MethodName) prog_1_method_5_code (1 : Nat) (Option.none : Option Jvm.ClassFile.FieldType)) ∈ lw_all := lw_g (lw_at lw_m2 139 rfl) rfl
theorem q435 : (Jvm.Cond.classLink "Bloomclock" (58 : Nat) "java/lang/IllegalStateException") ∈ lw_all := lw_g (lw_at lw_m2 140 rfl) rfl
theorem q477 : (Jvm.Cond.methodLink "Bloomclock" (60 : Nat) ({ cls := "java/lang/IllegalStateException", name := "<init>", desc := "()V" } : Jvm.MethodName)) ∈ lw_all := lw_g (lw_at lw_m2 182 rfl) rfl
theorem q501 : (Jvm.Cond.methodLinkNest "Bloomclock" (92 : Nat) ({ cls := "Bloomclock$Grower", name := "<init>", desc := "()V" } : Jvm.MethodName) "Bloomclock") ∈ lw_tbl := lw_at lw_m2 206 rfl
theorem q506 : (Jvm.Cond.fieldLinkNest "Bloomclock" (158 : Nat) "Bloomclock$Grower" "coins" "I" "Bloomclock") ∈ lw_tbl := lw_at lw_m2 211 rfl
theorem q507 : (Jvm.Cond.fieldLinkNest "Bloomclock" (105 : Nat) "Bloomclock$Grower" "lamps" "I" "Bloomclock") ∈ lw_tbl := lw_at lw_m2 212 rfl
theorem q509 : (Jvm.Cond.fieldLinkNest "Bloomclock" (247 : Nat) "Bloomclock$Grower" "mark" "I" "Bloomclock") ∈ lw_tbl := lw_at lw_m2 214 rfl
theorem q510 : (Jvm.Cond.fieldLinkNest "Bloomclock" (328 : Nat) "Bloomclock$Grower" "sold" "I" "Bloomclock") ∈ lw_tbl := lw_at lw_m2 215 rfl
theorem q526 : (Jvm.Cond.interfaceEntry "Bloomclock" (93 : Nat)) ∈ lw_tbl := lw_at lw_m2 231 rfl
theorem q527 : (Jvm.Cond.methodLink "Bloomclock" (93 : Nat) ({ cls := "java/util/List", name := "add", desc := "(Ljava/lang/Object;)Z" } : Jvm.MethodName)) ∈ lw_all := lw_g (lw_at lw_m2 232 rfl) rfl
theorem q561 : (Jvm.Cond.selects "Bloomclock" ({ cls := "java/lang/Object", name := "getClass", desc := "()Ljava/lang/Class;" } : Jvm.MethodName) ({ cls := "java/lang/Object", name := "getClass", desc := "()Ljava/lang/Class;" } : Jvm.MethodName)) ∈ lw_all := lw_g (lw_at lw_m3 26 rfl) rfl
theorem q639 : (Jvm.Cond.instanceMethod ({ cls := "Bloomclock", name := "lamps", desc := "(II)I" } : Jvm.MethodName)) ∈ lw_all := lw_g (lw_at lw_m3 104 rfl) rfl
theorem q640 : (Jvm.Cond.selects "Bloomclock" ({ cls := "Bloomclock", name := "lamps", desc := "(II)I" } : Jvm.MethodName) ({ cls := "Bloomclock", name := "lamps", desc := "(II)I" } : Jvm.MethodName)) ∈ lw_all := lw_g (lw_at lw_m3 105 rfl) rfl
theorem q641 : (Jvm.Cond.code ({ cls := "Bloomclock", name := "lamps", desc := "(II)I" } : Jvm.MethodName) prog_1_method_13_code (5 : Nat) (Option.some Jvm.ClassFile.FieldType.int)) ∈ lw_all := lw_g (lw_at lw_m3 106 rfl) rfl
theorem q642 : (Jvm.Cond.methodLink "Bloomclock" (97 : Nat) ({ cls := "Bloomclock", name := "growerAt", desc := "(I)LBloomclock$Grower;" } : Jvm.MethodName)) ∈ lw_all := lw_g (lw_at lw_m3 107 rfl) rfl
theorem q643 : (Jvm.Cond.privateMethod ({ cls := "Bloomclock", name := "growerAt", desc := "(I)LBloomclock$Grower;" } : Jvm.MethodName)) ∈ lw_tbl := lw_at lw_m3 108 rfl
theorem q644 : (Jvm.Cond.instanceMethod ({ cls := "Bloomclock", name := "growerAt", desc := "(I)LBloomclock$Grower;" } : Jvm.MethodName)) ∈ lw_all := lw_g (lw_at lw_m3 109 rfl) rfl
theorem q645 : (Jvm.Cond.code ({ cls := "Bloomclock", name := "growerAt", desc := "(I)LBloomclock$Grower;" } : Jvm.MethodName) prog_1_method_7_code (2 : Nat) (Option.some (Jvm.ClassFile.FieldType.object "Bloomclock$Grower"))) ∈ lw_all := lw_g (lw_at lw_m3 110 rfl) rfl
theorem q646 : (Jvm.Cond.methodLink "Bloomclock" (70 : Nat) ({ cls := "Bloomclock", name := "checkPlace", desc := "(II)V" } : Jvm.MethodName)) ∈ lw_all := lw_g (lw_at lw_m3 111 rfl) rfl
theorem q647 : (Jvm.Cond.static ({ cls := "Bloomclock", name := "checkPlace", desc := "(II)V" } : Jvm.MethodName)) ∈ lw_all := lw_g (lw_at lw_m3 112 rfl) rfl
theorem q648 : (Jvm.Cond.code ({ cls := "Bloomclock", name := "checkPlace", desc := "(II)V" } : Jvm.MethodName) prog_1_method_6_code (2 : Nat) (Option.none : Option Jvm.ClassFile.FieldType)) ∈ lw_all := lw_g (lw_at lw_m3 113 rfl) rfl
theorem q649 : (Jvm.Cond.classLink "Bloomclock" (61 : Nat) "java/lang/IndexOutOfBoundsException") ∈ lw_all := lw_g (lw_at lw_m3 114 rfl) rfl
theorem q658 : (Jvm.Cond.methodLink "Bloomclock" (63 : Nat) ({ cls := "java/lang/IndexOutOfBoundsException", name := "<init>", desc := "()V" } : Jvm.MethodName)) ∈ lw_all := lw_g (lw_at lw_m3 123 rfl) rfl
theorem q664 : (Jvm.Cond.methodLink "Bloomclock" (101 : Nat) ({ cls := "Bloomclock", name := "mustBeIn", desc := "(III)V" } : Jvm.MethodName)) ∈ lw_all := lw_g (lw_at lw_m3 129 rfl) rfl
theorem q665 : (Jvm.Cond.static ({ cls := "Bloomclock", name := "mustBeIn", desc := "(III)V" } : Jvm.MethodName)) ∈ lw_all := lw_g (lw_at lw_m3 130 rfl) rfl
theorem q666 : (Jvm.Cond.code ({ cls := "Bloomclock", name := "mustBeIn", desc := "(III)V" } : Jvm.MethodName) prog_1_method_4_code (3 : Nat) (Option.none : Option Jvm.ClassFile.FieldType)) ∈ lw_all := lw_g (lw_at lw_m3 131 rfl) rfl
theorem q667 : (Jvm.Cond.methodLink "Bloomclock" (54 : Nat) ({ cls := "Bloomclock", name := "must", desc := "(Z)V" } : Jvm.MethodName)) ∈ lw_all := lw_g (lw_at lw_m3 132 rfl) rfl
theorem q668 : (Jvm.Cond.static ({ cls := "Bloomclock", name := "must", desc := "(Z)V" } : Jvm.MethodName)) ∈ lw_all := lw_g (lw_at lw_m3 133 rfl) rfl
theorem q669 : (Jvm.Cond.code ({ cls := "Bloomclock", name := "must", desc := "(Z)V" } : Jvm.MethodName) prog_1_method_3_code (1 : Nat) (Option.none : Option Jvm.ClassFile.FieldType)) ∈ lw_all := lw_g (lw_at lw_m3 134 rfl) rfl
theorem q670 : (Jvm.Cond.classLink "Bloomclock" (51 : Nat) "java/lang/IllegalArgumentException") ∈ lw_all := lw_g (lw_at lw_m3 135 rfl) rfl
theorem q679 : (Jvm.Cond.methodLink "Bloomclock" (53 : Nat) ({ cls := "java/lang/IllegalArgumentException", name := "<init>", desc := "()V" } : Jvm.MethodName)) ∈ lw_all := lw_g (lw_at lw_m3 144 rfl) rfl
theorem q689 : (Jvm.Cond.instanceMethod ({ cls := "Bloomclock", name := "plant", desc := "(III)I" } : Jvm.MethodName)) ∈ lw_all := lw_g (lw_at lw_m3 154 rfl) rfl
theorem q690 : (Jvm.Cond.selects "Bloomclock" ({ cls := "Bloomclock", name := "plant", desc := "(III)I" } : Jvm.MethodName) ({ cls := "Bloomclock", name := "plant", desc := "(III)I" } : Jvm.MethodName)) ∈ lw_all := lw_g (lw_at lw_m3 155 rfl) rfl
theorem q691 : (Jvm.Cond.code ({ cls := "Bloomclock", name := "plant", desc := "(III)I" } : Jvm.MethodName) prog_1_method_14_code (4 : Nat) (Option.some Jvm.ClassFile.FieldType.int)) ∈ lw_all := lw_g (lw_at lw_m3 156 rfl) rfl
theorem q693 : (Jvm.Cond.methodLink "Bloomclock" (108 : Nat) ({ cls := "Bloomclock$Crop", name := "<init>", desc := "(III)V" } : Jvm.MethodName)) ∈ lw_all := lw_g (lw_at lw_m3 158 rfl) rfl
theorem q699 : (Jvm.Cond.fieldLinkNest "Bloomclock" (151 : Nat) "Bloomclock$Crop" "grower" "I" "Bloomclock") ∈ lw_tbl := lw_at lw_m3 164 rfl
theorem q702 : (Jvm.Cond.fieldLinkNest "Bloomclock" (378 : Nat) "Bloomclock$Crop" "cultivar" "I" "Bloomclock") ∈ lw_tbl := lw_at lw_m3 167 rfl
theorem q704 : (Jvm.Cond.fieldLinkNest "Bloomclock" (118 : Nat) "Bloomclock$Crop" "plants" "I" "Bloomclock") ∈ lw_tbl := lw_at lw_m3 169 rfl
theorem q706 : (Jvm.Cond.fieldLinkNest "Bloomclock" (386 : Nat) "Bloomclock$Crop" "sum" "I" "Bloomclock") ∈ lw_tbl := lw_at lw_m3 171 rfl
theorem q708 : (Jvm.Cond.fieldLinkNest "Bloomclock" (114 : Nat) "Bloomclock$Crop" "isReady" "Z" "Bloomclock") ∈ lw_tbl := lw_at lw_m3 173 rfl
theorem q728 : (Jvm.Cond.instanceMethod ({ cls := "Bloomclock", name := "cut", desc := "(II)I" } : Jvm.MethodName)) ∈ lw_all := lw_g (lw_at lw_m3 193 rfl) rfl
theorem q729 : (Jvm.Cond.selects "Bloomclock" ({ cls := "Bloomclock", name := "cut", desc := "(II)I" } : Jvm.MethodName) ({ cls := "Bloomclock", name := "cut", desc := "(II)I" } : Jvm.MethodName)) ∈ lw_all := lw_g (lw_at lw_m3 194 rfl) rfl
theorem q730 : (Jvm.Cond.code ({ cls := "Bloomclock", name := "cut", desc := "(II)I" } : Jvm.MethodName) prog_1_method_15_code (4 : Nat) (Option.some Jvm.ClassFile.FieldType.int)) ∈ lw_all := lw_g (lw_at lw_m3 195 rfl) rfl
theorem q731 : (Jvm.Cond.methodLink "Bloomclock" (110 : Nat) ({ cls := "Bloomclock", name := "cropAt", desc := "(I)LBloomclock$Crop;" } : Jvm.MethodName)) ∈ lw_all := lw_g (lw_at lw_m3 196 rfl) rfl
theorem q732 : (Jvm.Cond.privateMethod ({ cls := "Bloomclock", name := "cropAt", desc := "(I)LBloomclock$Crop;" } : Jvm.MethodName)) ∈ lw_tbl := lw_at lw_m3 197 rfl
theorem q733 : (Jvm.Cond.instanceMethod ({ cls := "Bloomclock", name := "cropAt", desc := "(I)LBloomclock$Crop;" } : Jvm.MethodName)) ∈ lw_all := lw_g (lw_at lw_m3 198 rfl) rfl
theorem q734 : (Jvm.Cond.code ({ cls := "Bloomclock", name := "cropAt", desc := "(I)LBloomclock$Crop;" } : Jvm.MethodName) prog_1_method_8_code (2 : Nat) (Option.some (Jvm.ClassFile.FieldType.object "Bloomclock$Crop"))) ∈ lw_all := lw_g (lw_at lw_m3 199 rfl) rfl
theorem q735 : (Jvm.Cond.methodLink "Bloomclock" (121 : Nat) ({ cls := "Bloomclock", name := "buckets", desc := "(I)I" } : Jvm.MethodName)) ∈ lw_all := lw_g (lw_at lw_m3 200 rfl) rfl
theorem q737 : (Jvm.Cond.methodLink "Bloomclock" (125 : Nat) ({ cls := "Bloomclock$Lot", name := "<init>", desc := "(LBloomclock$Crop;I)V" } : Jvm.MethodName)) ∈ lw_all := lw_g (lw_at lw_m3 202 rfl) rfl
theorem q747 : (Jvm.Cond.fieldLinkNest "Bloomclock" (219 : Nat) "Bloomclock$Lot" "grower" "I" "Bloomclock") ∈ lw_tbl := lw_at lw_m3 212 rfl
theorem q751 : (Jvm.Cond.fieldLinkNest "Bloomclock" (220 : Nat) "Bloomclock$Lot" "cultivar" "I" "Bloomclock") ∈ lw_tbl := lw_at lw_m3 216 rfl
theorem q756 : (Jvm.Cond.fieldLinkNest "Bloomclock" (227 : Nat) "Bloomclock$Lot" "stems" "I" "Bloomclock") ∈ lw_tbl := lw_at lw_m3 221 rfl
theorem q759 : (Jvm.Cond.fieldLinkNest "Bloomclock" (243 : Nat) "Bloomclock$Lot" "life" "I" "Bloomclock") ∈ lw_tbl := lw_at lw_m3 224 rfl
theorem q762 : (Jvm.Cond.fieldLinkNest "Bloomclock" (316 : Nat) "Bloomclock$Lot" "buckets" "I" "Bloomclock") ∈ lw_tbl := lw_at lw_m3 227 rfl
theorem q764 : (Jvm.Cond.fieldLinkNest "Bloomclock" (145 : Nat) "Bloomclock$Lot" "place" "I" "Bloomclock") ∈ lw_tbl := lw_at lw_m3 229 rfl
theorem q766 : (Jvm.Cond.fieldLinkNest "Bloomclock" (237 : Nat) "Bloomclock$Lot" "state" "LBloomclock$State;" "Bloomclock") ∈ lw_tbl := lw_at lw_m3 231 rfl
theorem q768 : (Jvm.Cond.fieldLinkNest "Bloomclock" (231 : Nat) "Bloomclock$Lot" "shown" "I" "Bloomclock") ∈ lw_tbl := lw_at lw_m3 233 rfl
theorem q770 : (Jvm.Cond.fieldLinkNest "Bloomclock" (234 : Nat) "Bloomclock$Lot" "minimum" "I" "Bloomclock") ∈ lw_tbl := lw_at lw_m3 235 rfl
theorem q796 : (Jvm.Cond.instanceMethod ({ cls := "Bloomclock", name := "move", desc := "(II)I" } : Jvm.MethodName)) ∈ lw_all := lw_g (lw_at lw_m4 21 rfl) rfl
theorem q797 : (Jvm.Cond.selects "Bloomclock" ({ cls := "Bloomclock", name := "move", desc := "(II)I" } : Jvm.MethodName) ({ cls := "Bloomclock", name := "move", desc := "(II)I" } : Jvm.MethodName)) ∈ lw_all := lw_g (lw_at lw_m4 22 rfl) rfl
theorem q798 : (Jvm.Cond.code ({ cls := "Bloomclock", name := "move", desc := "(II)I" } : Jvm.MethodName) prog_1_method_16_code (5 : Nat) (Option.some Jvm.ClassFile.FieldType.int)) ∈ lw_all := lw_g (lw_at lw_m4 23 rfl) rfl
theorem q799 : (Jvm.Cond.methodLink "Bloomclock" (128 : Nat) ({ cls := "Bloomclock", name := "lotAt", desc := "(I)LBloomclock$Lot;" } : Jvm.MethodName)) ∈ lw_all := lw_g (lw_at lw_m4 24 rfl) rfl
theorem q800 : (Jvm.Cond.privateMethod ({ cls := "Bloomclock", name := "lotAt", desc := "(I)LBloomclock$Lot;" } : Jvm.MethodName)) ∈ lw_tbl := lw_at lw_m4 25 rfl
theorem q801 : (Jvm.Cond.instanceMethod ({ cls := "Bloomclock", name := "lotAt", desc := "(I)LBloomclock$Lot;" } : Jvm.MethodName)) ∈ lw_all := lw_g (lw_at lw_m4 26 rfl) rfl
theorem q802 : (Jvm.Cond.code ({ cls := "Bloomclock", name := "lotAt", desc := "(I)LBloomclock$Lot;" } : Jvm.MethodName) prog_1_method_9_code (2 : Nat) (Option.some (Jvm.ClassFile.FieldType.object "Bloomclock$Lot"))) ∈ lw_all := lw_g (lw_at lw_m4 27 rfl) rfl
theorem q803 : (Jvm.Cond.fieldLink "Bloomclock" (132 : Nat) "Bloomclock$State" "HELD" "LBloomclock$State;") ∈ lw_all := lw_g (lw_at lw_m4 28 rfl) rfl
theorem q804 : (Jvm.Cond.methodLink "Bloomclock" (138 : Nat) ({ cls := "Bloomclock$Lot", name := "is", desc := "(LBloomclock$State;)Z" } : Jvm.MethodName)) ∈ lw_all := lw_g (lw_at lw_m4 29 rfl) rfl
theorem q808 : (Jvm.Cond.fieldLink "Bloomclock" (142 : Nat) "Bloomclock$State" "ROW" "LBloomclock$State;") ∈ lw_all := lw_g (lw_at lw_m4 33 rfl) rfl
theorem q814 : (Jvm.Cond.instanceMethod ({ cls := "Bloomclock", name := "pass", desc := "(II)I" } : Jvm.MethodName)) ∈ lw_all := lw_g (lw_at lw_m4 39 rfl) rfl
theorem q815 : (Jvm.Cond.selects "Bloomclock" ({ cls := "Bloomclock", name := "pass", desc := "(II)I" } : Jvm.MethodName) ({ cls := "Bloomclock", name := "pass", desc := "(II)I" } : Jvm.MethodName)) ∈ lw_all := lw_g (lw_at lw_m4 40 rfl) rfl
theorem q816 : (Jvm.Cond.code ({ cls := "Bloomclock", name := "pass", desc := "(II)I" } : Jvm.MethodName) prog_1_method_17_code (5 : Nat) (Option.some Jvm.ClassFile.FieldType.int)) ∈ lw_all := lw_g (lw_at lw_m4 41 rfl) rfl
theorem q817 : (Jvm.Cond.methodLink "Bloomclock" (148 : Nat) ({ cls := "Bloomclock", name := "goOn", desc := "()I" } : Jvm.MethodName)) ∈ lw_all := lw_g (lw_at lw_m4 42 rfl) rfl
theorem q818 : (Jvm.Cond.privateMethod ({ cls := "Bloomclock", name := "goOn", desc := "()I" } : Jvm.MethodName)) ∈ lw_tbl := lw_at lw_m4 43 rfl
theorem q819 : (Jvm.Cond.instanceMethod ({ cls := "Bloomclock", name := "goOn", desc := "()I" } : Jvm.MethodName)) ∈ lw_all := lw_g (lw_at lw_m4 44 rfl) rfl
theorem q820 : (Jvm.Cond.code ({ cls := "Bloomclock", name := "goOn", desc := "()I" } : Jvm.MethodName) prog_1_method_18_code (2 : Nat) (Option.some Jvm.ClassFile.FieldType.int)) ∈ lw_all := lw_g (lw_at lw_m4 45 rfl) rfl
theorem q821 : (Jvm.Cond.methodLink "Bloomclock" (154 : Nat) ({ cls := "Bloomclock$Crop", name := "grow", desc := "(I)V" } : Jvm.MethodName)) ∈ lw_all := lw_g (lw_at lw_m4 46 rfl) rfl
theorem q826 : (Jvm.Cond.methodLink "Bloomclock" (161 : Nat) ({ cls := "Bloomclock$Lot", name := "fade", desc := "()V" } : Jvm.MethodName)) ∈ lw_all := lw_g (lw_at lw_m4 51 rfl) rfl
theorem q830 : (Jvm.Cond.methodLink "Bloomclock" (169 : Nat) ({ cls := "java/lang/Math", name := "max", desc := "(II)I" } : Jvm.MethodName)) ∈ lw_all := lw_g (lw_at lw_m4 55 rfl) rfl
theorem q831 : (Jvm.Cond.interfaceEntry "Bloomclock" (175 : Nat)) ∈ lw_tbl := lw_at lw_m4 56 rfl
theorem q832 : (Jvm.Cond.methodLink "Bloomclock" (175 : Nat) ({ cls := "java/util/List", name := "isEmpty", desc := "()Z" } : Jvm.MethodName)) ∈ lw_all := lw_g (lw_at lw_m4 57 rfl) rfl
theorem q840 : (Jvm.Cond.methodLink "Bloomclock" (179 : Nat) ({ cls := "Bloomclock", name := "next", desc := "()I" } : Jvm.MethodName)) ∈ lw_all := lw_g (lw_at lw_m4 65 rfl) rfl
theorem q841 : (Jvm.Cond.privateMethod ({ cls := "Bloomclock", name := "next", desc := "()I" } : Jvm.MethodName)) ∈ lw_tbl := lw_at lw_m4 66 rfl
theorem q842 : (Jvm.Cond.instanceMethod ({ cls := "Bloomclock", name := "next", desc := "()I" } : Jvm.MethodName)) ∈ lw_all := lw_g (lw_at lw_m4 67 rfl) rfl
theorem q843 : (Jvm.Cond.code ({ cls := "Bloomclock", name := "next", desc := "()I" } : Jvm.MethodName) prog_1_method_19_code (3 : Nat) (Option.some Jvm.ClassFile.FieldType.int)) ∈ lw_all := lw_g (lw_at lw_m4 68 rfl) rfl
theorem q844 : (Jvm.Cond.methodLink "Bloomclock" (189 : Nat) ({ cls := "Bloomclock", name := "rankOf", desc := "(I)I" } : Jvm.MethodName)) ∈ lw_all := lw_g (lw_at lw_m4 69 rfl) rfl
theorem q845 : (Jvm.Cond.privateMethod ({ cls := "Bloomclock", name := "rankOf", desc := "(I)I" } : Jvm.MethodName)) ∈ lw_tbl := lw_at lw_m4 70 rfl
theorem q846 : (Jvm.Cond.instanceMethod ({ cls := "Bloomclock", name := "rankOf", desc := "(I)I" } : Jvm.MethodName)) ∈ lw_all := lw_g (lw_at lw_m4 71 rfl) rfl
theorem q847 : (Jvm.Cond.code ({ cls := "Bloomclock", name := "rankOf", desc := "(I)I" } : Jvm.MethodName) prog_1_method_20_code (2 : Nat) (Option.some Jvm.ClassFile.FieldType.int)) ∈ lw_all := lw_g (lw_at lw_m4 72 rfl) rfl
theorem q848 : (Jvm.Cond.methodLink "Bloomclock" (201 : Nat) ({ cls := "Bloomclock$Buyer", name := "rank", desc := "()I" } : Jvm.MethodName)) ∈ lw_all := lw_g (lw_at lw_m4 73 rfl) rfl
theorem q852 : (Jvm.Cond.interfaceEntry "Bloomclock" (182 : Nat)) ∈ lw_tbl := lw_at lw_m4 77 rfl
theorem q853 : (Jvm.Cond.methodLink "Bloomclock" (182 : Nat) ({ cls := "java/util/List", name := "remove", desc := "(I)Ljava/lang/Object;" } : Jvm.MethodName)) ∈ lw_all := lw_g (lw_at lw_m4 78 rfl) rfl
theorem q866 : (Jvm.Cond.methodLink "Bloomclock" (185 : Nat) ({ cls := "Bloomclock", name := "arrive", desc := "(LBloomclock$Trolley;)V" } : Jvm.MethodName)) ∈ lw_all := lw_g (lw_at lw_m4 91 rfl) rfl
theorem q867 : (Jvm.Cond.privateMethod ({ cls := "Bloomclock", name := "arrive", desc := "(LBloomclock$Trolley;)V" } : Jvm.MethodName)) ∈ lw_tbl := lw_at lw_m4 92 rfl
theorem q868 : (Jvm.Cond.instanceMethod ({ cls := "Bloomclock", name := "arrive", desc := "(LBloomclock$Trolley;)V" } : Jvm.MethodName)) ∈ lw_all := lw_g (lw_at lw_m4 93 rfl) rfl
theorem q869 : (Jvm.Cond.code ({ cls := "Bloomclock", name := "arrive", desc := "(LBloomclock$Trolley;)V" } : Jvm.MethodName) prog_1_method_21_code (3 : Nat) (Option.none : Option Jvm.ClassFile.FieldType)) ∈ lw_all := lw_g (lw_at lw_m4 94 rfl) rfl
theorem q874 : (Jvm.Cond.instanceMethod ({ cls := "Bloomclock", name := "bring", desc := "(III)I" } : Jvm.MethodName)) ∈ lw_all := lw_g (lw_at lw_m4 99 rfl) rfl
theorem q875 : (Jvm.Cond.selects "Bloomclock" ({ cls := "Bloomclock", name := "bring", desc := "(III)I" } : Jvm.MethodName) ({ cls := "Bloomclock", name := "bring", desc := "(III)I" } : Jvm.MethodName)) ∈ lw_all := lw_g (lw_at lw_m4 100 rfl) rfl
theorem q876 : (Jvm.Cond.code ({ cls := "Bloomclock", name := "bring", desc := "(III)I" } : Jvm.MethodName) prog_1_method_22_code (6 : Nat) (Option.some Jvm.ClassFile.FieldType.int)) ∈ lw_all := lw_g (lw_at lw_m4 101 rfl) rfl
theorem q877 : (Jvm.Cond.methodLink "Bloomclock" (224 : Nat) ({ cls := "Bloomclock$Grower", name := "broughtOn", desc := "(II)I" } : Jvm.MethodName)) ∈ lw_all := lw_g (lw_at lw_m4 102 rfl) rfl
theorem q878 : (Jvm.Cond.methodLink "Bloomclock" (228 : Nat) ({ cls := "Bloomclock$Grower", name := "bring", desc := "(III)V" } : Jvm.MethodName)) ∈ lw_all := lw_g (lw_at lw_m4 103 rfl) rfl
theorem q886 : (Jvm.Cond.instanceMethod ({ cls := "Bloomclock", name := "inspect", desc := "(I)I" } : Jvm.MethodName)) ∈ lw_all := lw_g (lw_at lw_m4 111 rfl) rfl
theorem q887 : (Jvm.Cond.selects "Bloomclock" ({ cls := "Bloomclock", name := "inspect", desc := "(I)I" } : Jvm.MethodName) ({ cls := "Bloomclock", name := "inspect", desc := "(I)I" } : Jvm.MethodName)) ∈ lw_all := lw_g (lw_at lw_m4 112 rfl) rfl
theorem q888 : (Jvm.Cond.code ({ cls := "Bloomclock", name := "inspect", desc := "(I)I" } : Jvm.MethodName) prog_1_method_23_code (4 : Nat) (Option.some Jvm.ClassFile.FieldType.int)) ∈ lw_all := lw_g (lw_at lw_m4 113 rfl) rfl
theorem q889 : (Jvm.Cond.methodLink "Bloomclock" (244 : Nat) ({ cls := "Bloomclock$Grower", name := "mark", desc := "(I)V" } : Jvm.MethodName)) ∈ lw_all := lw_g (lw_at lw_m4 114 rfl) rfl
theorem q899 : (Jvm.Cond.instanceMethod ({ cls := "Bloomclock", name := "buyer", desc := "(I)I" } : Jvm.MethodName)) ∈ lw_all := lw_g (lw_at lw_m4 124 rfl) rfl
theorem q900 : (Jvm.Cond.selects "Bloomclock" ({ cls := "Bloomclock", name := "buyer", desc := "(I)I" } : Jvm.MethodName) ({ cls := "Bloomclock", name := "buyer", desc := "(I)I" } : Jvm.MethodName)) ∈ lw_all := lw_g (lw_at lw_m4 125 rfl) rfl
theorem q901 : (Jvm.Cond.code ({ cls := "Bloomclock", name := "buyer", desc := "(I)I" } : Jvm.MethodName) prog_1_method_24_code (2 : Nat) (Option.some Jvm.ClassFile.FieldType.int)) ∈ lw_all := lw_g (lw_at lw_m4 126 rfl) rfl
theorem q903 : (Jvm.Cond.methodLink "Bloomclock" (249 : Nat) ({ cls := "Bloomclock$Buyer", name := "<init>", desc := "(I)V" } : Jvm.MethodName)) ∈ lw_all := lw_g (lw_at lw_m4 128 rfl) rfl
theorem q910 : (Jvm.Cond.fieldLinkNest "Bloomclock" (320 : Nat) "Bloomclock$Buyer" "coins" "I" "Bloomclock") ∈ lw_tbl := lw_at lw_m4 135 rfl
theorem q912 : (Jvm.Cond.fieldLinkNest "Bloomclock" (255 : Nat) "Bloomclock$Buyer" "evened" "I" "Bloomclock") ∈ lw_tbl := lw_at lw_m4 137 rfl
theorem q914 : (Jvm.Cond.fieldLinkNest "Bloomclock" (204 : Nat) "Bloomclock$Buyer" "leaves" "I" "Bloomclock") ∈ lw_tbl := lw_at lw_m4 139 rfl
theorem q916 : (Jvm.Cond.fieldLinkNest "Bloomclock" (213 : Nat) "Bloomclock$Buyer" "stock" "[I" "Bloomclock") ∈ lw_tbl := lw_at lw_m4 141 rfl
theorem q918 : (Jvm.Cond.fieldLinkNest "Bloomclock" (319 : Nat) "Bloomclock$Buyer" "buckets" "I" "Bloomclock") ∈ lw_tbl := lw_at lw_m4 143 rfl
theorem q939 : (Jvm.Cond.instanceMethod ({ cls := "Bloomclock", name := "even", desc := "(II)I" } : Jvm.MethodName)) ∈ lw_all := lw_g (lw_at lw_m4 164 rfl) rfl
theorem q940 : (Jvm.Cond.selects "Bloomclock" ({ cls := "Bloomclock", name := "even", desc := "(II)I" } : Jvm.MethodName) ({ cls := "Bloomclock", name := "even", desc := "(II)I" } : Jvm.MethodName)) ∈ lw_all := lw_g (lw_at lw_m4 165 rfl) rfl
theorem q941 : (Jvm.Cond.code ({ cls := "Bloomclock", name := "even", desc := "(II)I" } : Jvm.MethodName) prog_1_method_25_code (5 : Nat) (Option.some Jvm.ClassFile.FieldType.int)) ∈ lw_all := lw_g (lw_at lw_m4 166 rfl) rfl
theorem q942 : (Jvm.Cond.methodLink "Bloomclock" (251 : Nat) ({ cls := "Bloomclock", name := "buyerAt", desc := "(I)LBloomclock$Buyer;" } : Jvm.MethodName)) ∈ lw_all := lw_g (lw_at lw_m4 167 rfl) rfl
theorem q943 : (Jvm.Cond.privateMethod ({ cls := "Bloomclock", name := "buyerAt", desc := "(I)LBloomclock$Buyer;" } : Jvm.MethodName)) ∈ lw_tbl := lw_at lw_m4 168 rfl
theorem q944 : (Jvm.Cond.instanceMethod ({ cls := "Bloomclock", name := "buyerAt", desc := "(I)LBloomclock$Buyer;" } : Jvm.MethodName)) ∈ lw_all := lw_g (lw_at lw_m4 169 rfl) rfl
theorem q945 : (Jvm.Cond.code ({ cls := "Bloomclock", name := "buyerAt", desc := "(I)LBloomclock$Buyer;" } : Jvm.MethodName) prog_1_method_10_code (2 : Nat) (Option.some (Jvm.ClassFile.FieldType.object "Bloomclock$Buyer"))) ∈ lw_all := lw_g (lw_at lw_m4 170 rfl) rfl
theorem q950 : (Jvm.Cond.instanceMethod ({ cls := "Bloomclock", name := "leave", desc := "(II)I" } : Jvm.MethodName)) ∈ lw_all := lw_g (lw_at lw_m4 175 rfl) rfl
theorem q951 : (Jvm.Cond.selects "Bloomclock" ({ cls := "Bloomclock", name := "leave", desc := "(II)I" } : Jvm.MethodName) ({ cls := "Bloomclock", name := "leave", desc := "(II)I" } : Jvm.MethodName)) ∈ lw_all := lw_g (lw_at lw_m4 176 rfl) rfl
theorem q952 : (Jvm.Cond.code ({ cls := "Bloomclock", name := "leave", desc := "(II)I" } : Jvm.MethodName) prog_1_method_26_code (5 : Nat) (Option.some Jvm.ClassFile.FieldType.int)) ∈ lw_all := lw_g (lw_at lw_m4 177 rfl) rfl
theorem q957 : (Jvm.Cond.instanceMethod ({ cls := "Bloomclock", name := "order", desc := "(IIIIIII)I" } : Jvm.MethodName)) ∈ lw_all := lw_g (lw_at lw_m4 182 rfl) rfl
theorem q958 : (Jvm.Cond.selects "Bloomclock" ({ cls := "Bloomclock", name := "order", desc := "(IIIIIII)I" } : Jvm.MethodName) ({ cls := "Bloomclock", name := "order", desc := "(IIIIIII)I" } : Jvm.MethodName)) ∈ lw_all := lw_g (lw_at lw_m4 183 rfl) rfl
theorem q959 : (Jvm.Cond.code ({ cls := "Bloomclock", name := "order", desc := "(IIIIIII)I" } : Jvm.MethodName) prog_1_method_27_code (9 : Nat) (Option.some Jvm.ClassFile.FieldType.int)) ∈ lw_all := lw_g (lw_at lw_m4 184 rfl) rfl
theorem q961 : (Jvm.Cond.methodLink "Bloomclock" (260 : Nat) ({ cls := "Bloomclock$Order", name := "<init>", desc := "(IIIIII)V" } : Jvm.MethodName)) ∈ lw_all := lw_g (lw_at lw_m4 186 rfl) rfl
theorem q967 : (Jvm.Cond.fieldLinkNest "Bloomclock" (286 : Nat) "Bloomclock$Order" "buyer" "I" "Bloomclock") ∈ lw_tbl := lw_at lw_m4 192 rfl
theorem q975 : (Jvm.Cond.fieldLinkNest "Bloomclock" (263 : Nat) "Bloomclock$Order" "wants" "I" "Bloomclock") ∈ lw_tbl := lw_at lw_m4 200 rfl
theorem q995 : (Jvm.Cond.instanceMethod ({ cls := "Bloomclock", name := "clock", desc := "()I" } : Jvm.MethodName)) ∈ lw_all := lw_g (lw_at lw_m4 220 rfl) rfl
theorem q996 : (Jvm.Cond.selects "Bloomclock" ({ cls := "Bloomclock", name := "clock", desc := "()I" } : Jvm.MethodName) ({ cls := "Bloomclock", name := "clock", desc := "()I" } : Jvm.MethodName)) ∈ lw_all := lw_g (lw_at lw_m4 221 rfl) rfl
theorem q997 : (Jvm.Cond.code ({ cls := "Bloomclock", name := "clock", desc := "()I" } : Jvm.MethodName) prog_1_method_28_code (5 : Nat) (Option.some Jvm.ClassFile.FieldType.int)) ∈ lw_all := lw_g (lw_at lw_m4 222 rfl) rfl
theorem q998 : (Jvm.Cond.methodLink "Bloomclock" (266 : Nat) ({ cls := "java/lang/System", name := "arraycopy", desc := "(Ljava/lang/Object;ILjava/lang/Object;II)V" } : Jvm.MethodName)) ∈ lw_all := lw_g (lw_at lw_m4 223 rfl) rfl
theorem q999 : (Jvm.Cond.methodLink "Bloomclock" (296 : Nat) ({ cls := "Bloomclock", name := "sell", desc := "(IIIIII)LBloomclock$Sale;" } : Jvm.MethodName)) ∈ lw_all := lw_g (lw_at lw_m4 224 rfl) rfl
theorem q1000 : (Jvm.Cond.privateMethod ({ cls := "Bloomclock", name := "sell", desc := "(IIIIII)LBloomclock$Sale;" } : Jvm.MethodName)) ∈ lw_tbl := lw_at lw_m4 225 rfl
theorem q1001 : (Jvm.Cond.instanceMethod ({ cls := "Bloomclock", name := "sell", desc := "(IIIIII)LBloomclock$Sale;" } : Jvm.MethodName)) ∈ lw_all := lw_g (lw_at lw_m4 226 rfl) rfl
theorem q1002 : (Jvm.Cond.code ({ cls := "Bloomclock", name := "sell", desc := "(IIIIII)LBloomclock$Sale;" } : Jvm.MethodName) prog_1_method_29_code (9 : Nat) (Option.some (Jvm.ClassFile.FieldType.object "Bloomclock$Sale"))) ∈ lw_all := lw_g (lw_at lw_m4 227 rfl) rfl
theorem q1004 : (Jvm.Cond.methodLink "Bloomclock" (300 : Nat) ({ cls := "Bloomclock$Sale", name := "<init>", desc := "(IIIIIII)V" } : Jvm.MethodName)) ∈ lw_all := lw_g (lw_at lw_m4 229 rfl) rfl
theorem q1009 : (Jvm.Cond.fieldLinkNest "Bloomclock" (313 : Nat) "Bloomclock$Sale" "lot" "I" "Bloomclock") ∈ lw_tbl := lw_at lw_m4 234 rfl
theorem q1011 : (Jvm.Cond.fieldLinkNest "Bloomclock" (196 : Nat) "Bloomclock$Sale" "buyer" "I" "Bloomclock") ∈ lw_tbl := lw_at lw_m4 236 rfl
theorem q1013 : (Jvm.Cond.fieldLinkNest "Bloomclock" (210 : Nat) "Bloomclock$Sale" "stems" "I" "Bloomclock") ∈ lw_tbl := lw_at lw_m4 238 rfl
theorem q1016 : (Jvm.Cond.fieldLinkNest "Bloomclock" (335 : Nat) "Bloomclock$Sale" "hour" "I" "Bloomclock") ∈ lw_tbl := lw_at lw_m5 1 rfl
theorem q1018 : (Jvm.Cond.fieldLinkNest "Bloomclock" (334 : Nat) "Bloomclock$Sale" "order" "I" "Bloomclock") ∈ lw_tbl := lw_at lw_m5 3 rfl
theorem q1020 : (Jvm.Cond.fieldLinkNest "Bloomclock" (318 : Nat) "Bloomclock$Sale" "buckets" "I" "Bloomclock") ∈ lw_tbl := lw_at lw_m5 5 rfl
theorem q1036 : (Jvm.Cond.methodLink "Bloomclock" (303 : Nat) ({ cls := "Bloomclock", name := "settle", desc := "(LBloomclock$Sale;I)V" } : Jvm.MethodName)) ∈ lw_all := lw_g (lw_at lw_m5 21 rfl) rfl
theorem q1037 : (Jvm.Cond.privateMethod ({ cls := "Bloomclock", name := "settle", desc := "(LBloomclock$Sale;I)V" } : Jvm.MethodName)) ∈ lw_tbl := lw_at lw_m5 22 rfl
theorem q1038 : (Jvm.Cond.instanceMethod ({ cls := "Bloomclock", name := "settle", desc := "(LBloomclock$Sale;I)V" } : Jvm.MethodName)) ∈ lw_all := lw_g (lw_at lw_m5 23 rfl) rfl
theorem q1039 : (Jvm.Cond.code ({ cls := "Bloomclock", name := "settle", desc := "(LBloomclock$Sale;I)V" } : Jvm.MethodName) prog_1_method_30_code (6 : Nat) (Option.none : Option Jvm.ClassFile.FieldType)) ∈ lw_all := lw_g (lw_at lw_m5 24 rfl) rfl
theorem q1040 : (Jvm.Cond.methodLink "Bloomclock" (321 : Nat) ({ cls := "Bloomclock$Sale", name := "money", desc := "()I" } : Jvm.MethodName)) ∈ lw_all := lw_g (lw_at lw_m5 25 rfl) rfl
theorem q1044 : (Jvm.Cond.methodLink "Bloomclock" (325 : Nat) ({ cls := "Bloomclock$Sale", name := "fee", desc := "()I" } : Jvm.MethodName)) ∈ lw_all := lw_g (lw_at lw_m5 29 rfl) rfl
theorem q1049 : (Jvm.Cond.fieldLink "Bloomclock" (307 : Nat) "Bloomclock$State" "SOLD" "LBloomclock$State;") ∈ lw_all := lw_g (lw_at lw_m5 34 rfl) rfl
theorem q1052 : (Jvm.Cond.methodLink "Bloomclock" (310 : Nat) ({ cls := "Bloomclock$Trolley", name := "<init>", desc := "(LBloomclock$Sale;LBloomclock$Lot;)V" } : Jvm.MethodName)) ∈ lw_all := lw_g (lw_at lw_m5 37 rfl) rfl
theorem q1057 : (Jvm.Cond.fieldLinkNest "Bloomclock" (192 : Nat) "Bloomclock$Trolley" "sale" "LBloomclock$Sale;" "Bloomclock") ∈ lw_tbl := lw_at lw_m5 42 rfl
theorem q1059 : (Jvm.Cond.fieldLinkNest "Bloomclock" (216 : Nat) "Bloomclock$Trolley" "cultivar" "I" "Bloomclock") ∈ lw_tbl := lw_at lw_m5 44 rfl
theorem q1061 : (Jvm.Cond.fieldLinkNest "Bloomclock" (166 : Nat) "Bloomclock$Trolley" "life" "I" "Bloomclock") ∈ lw_tbl := lw_at lw_m5 46 rfl
theorem q1073 : (Jvm.Cond.instanceMethod ({ cls := "Bloomclock", name := "presell", desc := "(IIII)I" } : Jvm.MethodName)) ∈ lw_all := lw_g (lw_at lw_m5 58 rfl) rfl
theorem q1074 : (Jvm.Cond.selects "Bloomclock" ({ cls := "Bloomclock", name := "presell", desc := "(IIII)I" } : Jvm.MethodName) ({ cls := "Bloomclock", name := "presell", desc := "(IIII)I" } : Jvm.MethodName)) ∈ lw_all := lw_g (lw_at lw_m5 59 rfl) rfl
theorem q1075 : (Jvm.Cond.code ({ cls := "Bloomclock", name := "presell", desc := "(IIII)I" } : Jvm.MethodName) prog_1_method_31_code (9 : Nat) (Option.some Jvm.ClassFile.FieldType.int)) ∈ lw_all := lw_g (lw_at lw_m5 60 rfl) rfl
theorem q1080 : (Jvm.Cond.instanceMethod ({ cls := "Bloomclock", name := "undo", desc := "()I" } : Jvm.MethodName)) ∈ lw_all := lw_g (lw_at lw_m5 65 rfl) rfl
theorem q1081 : (Jvm.Cond.selects "Bloomclock" ({ cls := "Bloomclock", name := "undo", desc := "()I" } : Jvm.MethodName) ({ cls := "Bloomclock", name := "undo", desc := "()I" } : Jvm.MethodName)) ∈ lw_all := lw_g (lw_at lw_m5 66 rfl) rfl
theorem q1082 : (Jvm.Cond.code ({ cls := "Bloomclock", name := "undo", desc := "()I" } : Jvm.MethodName) prog_1_method_33_code (3 : Nat) (Option.some Jvm.ClassFile.FieldType.int)) ∈ lw_all := lw_g (lw_at lw_m5 67 rfl) rfl
theorem q1083 : (Jvm.Cond.fieldLink "Bloomclock" (336 : Nat) "Bloomclock$State" "CLEARED" "LBloomclock$State;") ∈ lw_all := lw_g (lw_at lw_m5 68 rfl) rfl
theorem q1085 : (Jvm.Cond.methodLink "Bloomclock" (339 : Nat) ({ cls := "Bloomclock", name := "onRail", desc := "(LBloomclock$Sale;)I" } : Jvm.MethodName)) ∈ lw_all := lw_g (lw_at lw_m5 70 rfl) rfl
theorem q1086 : (Jvm.Cond.privateMethod ({ cls := "Bloomclock", name := "onRail", desc := "(LBloomclock$Sale;)I" } : Jvm.MethodName)) ∈ lw_tbl := lw_at lw_m5 71 rfl
theorem q1087 : (Jvm.Cond.instanceMethod ({ cls := "Bloomclock", name := "onRail", desc := "(LBloomclock$Sale;)I" } : Jvm.MethodName)) ∈ lw_all := lw_g (lw_at lw_m5 72 rfl) rfl
theorem q1088 : (Jvm.Cond.code ({ cls := "Bloomclock", name := "onRail", desc := "(LBloomclock$Sale;)I" } : Jvm.MethodName) prog_1_method_32_code (3 : Nat) (Option.some Jvm.ClassFile.FieldType.int)) ∈ lw_all := lw_g (lw_at lw_m5 73 rfl) rfl
theorem q1093 : (Jvm.Cond.instanceMethod ({ cls := "Bloomclock", name := "speed", desc := "(I)I" } : Jvm.MethodName)) ∈ lw_all := lw_g (lw_at lw_m5 78 rfl) rfl
theorem q1094 : (Jvm.Cond.selects "Bloomclock" ({ cls := "Bloomclock", name := "speed", desc := "(I)I" } : Jvm.MethodName) ({ cls := "Bloomclock", name := "speed", desc := "(I)I" } : Jvm.MethodName)) ∈ lw_all := lw_g (lw_at lw_m5 79 rfl) rfl
theorem q1095 : (Jvm.Cond.code ({ cls := "Bloomclock", name := "speed", desc := "(I)I" } : Jvm.MethodName) prog_1_method_34_code (3 : Nat) (Option.some Jvm.ClassFile.FieldType.int)) ∈ lw_all := lw_g (lw_at lw_m5 80 rfl) rfl
theorem q1100 : (Jvm.Cond.instanceMethod ({ cls := "Bloomclock", name := "bind", desc := "(II)I" } : Jvm.MethodName)) ∈ lw_all := lw_g (lw_at lw_m5 85 rfl) rfl
theorem q1101 : (Jvm.Cond.selects "Bloomclock" ({ cls := "Bloomclock", name := "bind", desc := "(II)I" } : Jvm.MethodName) ({ cls := "Bloomclock", name := "bind", desc := "(II)I" } : Jvm.MethodName)) ∈ lw_all := lw_g (lw_at lw_m5 86 rfl) rfl
theorem q1102 : (Jvm.Cond.code ({ cls := "Bloomclock", name := "bind", desc := "(II)I" } : Jvm.MethodName) prog_1_method_35_code (5 : Nat) (Option.some Jvm.ClassFile.FieldType.int)) ∈ lw_all := lw_g (lw_at lw_m5 87 rfl) rfl
theorem q1103 : (Jvm.Cond.methodLink "Bloomclock" (343 : Nat) ({ cls := "Bloomclock$Buyer", name := "bind", desc := "()Z" } : Jvm.MethodName)) ∈ lw_all := lw_g (lw_at lw_m5 88 rfl) rfl
theorem q1112 : (Jvm.Cond.instanceMethod ({ cls := "Bloomclock", name := "back", desc := "(II)I" } : Jvm.MethodName)) ∈ lw_all := lw_g (lw_at lw_m5 97 rfl) rfl
theorem q1113 : (Jvm.Cond.selects "Bloomclock" ({ cls := "Bloomclock", name := "back", desc := "(II)I" } : Jvm.MethodName) ({ cls := "Bloomclock", name := "back", desc := "(II)I" } : Jvm.MethodName)) ∈ lw_all := lw_g (lw_at lw_m5 98 rfl) rfl
theorem q1114 : (Jvm.Cond.code ({ cls := "Bloomclock", name := "back", desc := "(II)I" } : Jvm.MethodName) prog_1_method_36_code (4 : Nat) (Option.some Jvm.ClassFile.FieldType.int)) ∈ lw_all := lw_g (lw_at lw_m5 99 rfl) rfl
theorem q1119 : (Jvm.Cond.instanceMethod ({ cls := "Bloomclock", name := "clear", desc := "(IZ)I" } : Jvm.MethodName)) ∈ lw_all := lw_g (lw_at lw_m5 104 rfl) rfl
theorem q1120 : (Jvm.Cond.selects "Bloomclock" ({ cls := "Bloomclock", name := "clear", desc := "(IZ)I" } : Jvm.MethodName) ({ cls := "Bloomclock", name := "clear", desc := "(IZ)I" } : Jvm.MethodName)) ∈ lw_all := lw_g (lw_at lw_m5 105 rfl) rfl
theorem q1121 : (Jvm.Cond.code ({ cls := "Bloomclock", name := "clear", desc := "(IZ)I" } : Jvm.MethodName) prog_1_method_37_code (5 : Nat) (Option.some Jvm.ClassFile.FieldType.int)) ∈ lw_all := lw_g (lw_at lw_m5 106 rfl) rfl
theorem q1126 : (Jvm.Cond.instanceMethod ({ cls := "Bloomclock", name := "vote", desc := "(II)I" } : Jvm.MethodName)) ∈ lw_all := lw_g (lw_at lw_m5 111 rfl) rfl
theorem q1127 : (Jvm.Cond.selects "Bloomclock" ({ cls := "Bloomclock", name := "vote", desc := "(II)I" } : Jvm.MethodName) ({ cls := "Bloomclock", name := "vote", desc := "(II)I" } : Jvm.MethodName)) ∈ lw_all := lw_g (lw_at lw_m5 112 rfl) rfl
theorem q1128 : (Jvm.Cond.code ({ cls := "Bloomclock", name := "vote", desc := "(II)I" } : Jvm.MethodName) prog_1_method_38_code (8 : Nat) (Option.some Jvm.ClassFile.FieldType.int)) ∈ lw_all := lw_g (lw_at lw_m5 113 rfl) rfl
theorem q1133 : (Jvm.Cond.instanceMethod ({ cls := "Bloomclock", name := "ofCrop", desc := "(II)I" } : Jvm.MethodName)) ∈ lw_all := lw_g (lw_at lw_m5 118 rfl) rfl
theorem q1134 : (Jvm.Cond.selects "Bloomclock" ({ cls := "Bloomclock", name := "ofCrop", desc := "(II)I" } : Jvm.MethodName) ({ cls := "Bloomclock", name := "ofCrop", desc := "(II)I" } : Jvm.MethodName)) ∈ lw_all := lw_g (lw_at lw_m5 119 rfl) rfl
theorem q1135 : (Jvm.Cond.code ({ cls := "Bloomclock", name := "ofCrop", desc := "(II)I" } : Jvm.MethodName) prog_1_method_39_code (4 : Nat) (Option.some Jvm.ClassFile.FieldType.int)) ∈ lw_all := lw_g (lw_at lw_m5 120 rfl) rfl
theorem q1140 : (Jvm.Cond.instanceMethod ({ cls := "Bloomclock", name := "ofLot", desc := "(II)I" } : Jvm.MethodName)) ∈ lw_all := lw_g (lw_at lw_m5 125 rfl) rfl
theorem q1141 : (Jvm.Cond.selects "Bloomclock" ({ cls := "Bloomclock", name := "ofLot", desc := "(II)I" } : Jvm.MethodName) ({ cls := "Bloomclock", name := "ofLot", desc := "(II)I" } : Jvm.MethodName)) ∈ lw_all := lw_g (lw_at lw_m5 126 rfl) rfl
theorem q1142 : (Jvm.Cond.code ({ cls := "Bloomclock", name := "ofLot", desc := "(II)I" } : Jvm.MethodName) prog_1_method_40_code (4 : Nat) (Option.some Jvm.ClassFile.FieldType.int)) ∈ lw_all := lw_g (lw_at lw_m5 127 rfl) rfl
theorem q1147 : (Jvm.Cond.instanceMethod ({ cls := "Bloomclock", name := "ofGrower", desc := "(II)I" } : Jvm.MethodName)) ∈ lw_all := lw_g (lw_at lw_m5 132 rfl) rfl
theorem q1148 : (Jvm.Cond.selects "Bloomclock" ({ cls := "Bloomclock", name := "ofGrower", desc := "(II)I" } : Jvm.MethodName) ({ cls := "Bloomclock", name := "ofGrower", desc := "(II)I" } : Jvm.MethodName)) ∈ lw_all := lw_g (lw_at lw_m5 133 rfl) rfl
theorem q1149 : (Jvm.Cond.code ({ cls := "Bloomclock", name := "ofGrower", desc := "(II)I" } : Jvm.MethodName) prog_1_method_42_code (4 : Nat) (Option.some Jvm.ClassFile.FieldType.int)) ∈ lw_all := lw_g (lw_at lw_m5 134 rfl) rfl
theorem q1154 : (Jvm.Cond.instanceMethod ({ cls := "Bloomclock", name := "ofBuyer", desc := "(II)I" } : Jvm.MethodName)) ∈ lw_all := lw_g (lw_at lw_m5 139 rfl) rfl
theorem q1155 : (Jvm.Cond.selects "Bloomclock" ({ cls := "Bloomclock", name := "ofBuyer", desc := "(II)I" } : Jvm.MethodName) ({ cls := "Bloomclock", name := "ofBuyer", desc := "(II)I" } : Jvm.MethodName)) ∈ lw_all := lw_g (lw_at lw_m5 140 rfl) rfl
theorem q1156 : (Jvm.Cond.code ({ cls := "Bloomclock", name := "ofBuyer", desc := "(II)I" } : Jvm.MethodName) prog_1_method_43_code (4 : Nat) (Option.some Jvm.ClassFile.FieldType.int)) ∈ lw_all := lw_g (lw_at lw_m5 141 rfl) rfl
theorem q1161 : (Jvm.Cond.instanceMethod ({ cls := "Bloomclock", name := "wants", desc := "(I)I" } : Jvm.MethodName)) ∈ lw_all := lw_g (lw_at lw_m5 146 rfl) rfl
theorem q1162 : (Jvm.Cond.selects "Bloomclock" ({ cls := "Bloomclock", name := "wants", desc := "(I)I" } : Jvm.MethodName) ({ cls := "Bloomclock", name := "wants", desc := "(I)I" } : Jvm.MethodName)) ∈ lw_all := lw_g (lw_at lw_m5 147 rfl) rfl
theorem q1163 : (Jvm.Cond.code ({ cls := "Bloomclock", name := "wants", desc := "(I)I" } : Jvm.MethodName) prog_1_method_44_code (2 : Nat) (Option.some Jvm.ClassFile.FieldType.int)) ∈ lw_all := lw_g (lw_at lw_m5 148 rfl) rfl
theorem q1168 : (Jvm.Cond.instanceMethod ({ cls := "Bloomclock", name := "sale", desc := "(II)I" } : Jvm.MethodName)) ∈ lw_all := lw_g (lw_at lw_m5 153 rfl) rfl
theorem q1169 : (Jvm.Cond.selects "Bloomclock" ({ cls := "Bloomclock", name := "sale", desc := "(II)I" } : Jvm.MethodName) ({ cls := "Bloomclock", name := "sale", desc := "(II)I" } : Jvm.MethodName)) ∈ lw_all := lw_g (lw_at lw_m5 154 rfl) rfl
theorem q1170 : (Jvm.Cond.code ({ cls := "Bloomclock", name := "sale", desc := "(II)I" } : Jvm.MethodName) prog_1_method_45_code (3 : Nat) (Option.some Jvm.ClassFile.FieldType.int)) ∈ lw_all := lw_g (lw_at lw_m5 155 rfl) rfl
theorem q1175 : (Jvm.Cond.instanceMethod ({ cls := "Bloomclock", name := "row", desc := "(I)I" } : Jvm.MethodName)) ∈ lw_all := lw_g (lw_at lw_m5 160 rfl) rfl
theorem q1176 : (Jvm.Cond.selects "Bloomclock" ({ cls := "Bloomclock", name := "row", desc := "(I)I" } : Jvm.MethodName) ({ cls := "Bloomclock", name := "row", desc := "(I)I" } : Jvm.MethodName)) ∈ lw_all := lw_g (lw_at lw_m5 161 rfl) rfl
theorem q1177 : (Jvm.Cond.code ({ cls := "Bloomclock", name := "row", desc := "(I)I" } : Jvm.MethodName) prog_1_method_47_code (2 : Nat) (Option.some Jvm.ClassFile.FieldType.int)) ∈ lw_all := lw_g (lw_at lw_m5 162 rfl) rfl
theorem q1182 : (Jvm.Cond.instanceMethod ({ cls := "Bloomclock", name := "many", desc := "(I)I" } : Jvm.MethodName)) ∈ lw_all := lw_g (lw_at lw_m5 167 rfl) rfl
theorem q1183 : (Jvm.Cond.selects "Bloomclock" ({ cls := "Bloomclock", name := "many", desc := "(I)I" } : Jvm.MethodName) ({ cls := "Bloomclock", name := "many", desc := "(I)I" } : Jvm.MethodName)) ∈ lw_all := lw_g (lw_at lw_m5 168 rfl) rfl
theorem q1184 : (Jvm.Cond.code ({ cls := "Bloomclock", name := "many", desc := "(I)I" } : Jvm.MethodName) prog_1_method_50_code (2 : Nat) (Option.some Jvm.ClassFile.FieldType.int)) ∈ lw_all := lw_g (lw_at lw_m5 169 rfl) rfl
theorem q1189 : (Jvm.Cond.instanceMethod ({ cls := "Bloomclock", name := "wouldFetch", desc := "(I)I" } : Jvm.MethodName)) ∈ lw_all := lw_g (lw_at lw_m5 174 rfl) rfl
theorem q1190 : (Jvm.Cond.selects "Bloomclock" ({ cls := "Bloomclock", name := "wouldFetch", desc := "(I)I" } : Jvm.MethodName) ({ cls := "Bloomclock", name := "wouldFetch", desc := "(I)I" } : Jvm.MethodName)) ∈ lw_all := lw_g (lw_at lw_m5 175 rfl) rfl
theorem q1191 : (Jvm.Cond.code ({ cls := "Bloomclock", name := "wouldFetch", desc := "(I)I" } : Jvm.MethodName) prog_1_method_54_code (2 : Nat) (Option.some Jvm.ClassFile.FieldType.int)) ∈ lw_all := lw_g (lw_at lw_m5 176 rfl) rfl
theorem q1196 : (Jvm.Cond.instanceMethod ({ cls := "Bloomclock", name := "bestMinimum", desc := "(I)I" } : Jvm.MethodName)) ∈ lw_all := lw_g (lw_at lw_m5 181 rfl) rfl
theorem q1197 : (Jvm.Cond.selects "Bloomclock" ({ cls := "Bloomclock", name := "bestMinimum", desc := "(I)I" } : Jvm.MethodName) ({ cls := "Bloomclock", name := "bestMinimum", desc := "(I)I" } : Jvm.MethodName)) ∈ lw_all := lw_g (lw_at lw_m5 182 rfl) rfl
theorem q1198 : (Jvm.Cond.code ({ cls := "Bloomclock", name := "bestMinimum", desc := "(I)I" } : Jvm.MethodName) prog_1_method_56_code (2 : Nat) (Option.some Jvm.ClassFile.FieldType.int)) ∈ lw_all := lw_g (lw_at lw_m5 183 rfl) rfl
theorem q1203 : (Jvm.Cond.instanceMethod ({ cls := "Bloomclock", name := "readyIn", desc := "(I)I" } : Jvm.MethodName)) ∈ lw_all := lw_g (lw_at lw_m5 188 rfl) rfl
theorem q1204 : (Jvm.Cond.selects "Bloomclock" ({ cls := "Bloomclock", name := "readyIn", desc := "(I)I" } : Jvm.MethodName) ({ cls := "Bloomclock", name := "readyIn", desc := "(I)I" } : Jvm.MethodName)) ∈ lw_all := lw_g (lw_at lw_m5 189 rfl) rfl
theorem q1205 : (Jvm.Cond.code ({ cls := "Bloomclock", name := "readyIn", desc := "(I)I" } : Jvm.MethodName) prog_1_method_58_code (2 : Nat) (Option.some Jvm.ClassFile.FieldType.int)) ∈ lw_all := lw_g (lw_at lw_m5 190 rfl) rfl
theorem q1210 : (Jvm.Cond.instanceMethod ({ cls := "Bloomclock", name := "lampsFor", desc := "(II)I" } : Jvm.MethodName)) ∈ lw_all := lw_g (lw_at lw_m5 195 rfl) rfl
theorem q1211 : (Jvm.Cond.selects "Bloomclock" ({ cls := "Bloomclock", name := "lampsFor", desc := "(II)I" } : Jvm.MethodName) ({ cls := "Bloomclock", name := "lampsFor", desc := "(II)I" } : Jvm.MethodName)) ∈ lw_all := lw_g (lw_at lw_m5 196 rfl) rfl
theorem q1212 : (Jvm.Cond.code ({ cls := "Bloomclock", name := "lampsFor", desc := "(II)I" } : Jvm.MethodName) prog_1_method_60_code (3 : Nat) (Option.some Jvm.ClassFile.FieldType.int)) ∈ lw_all := lw_g (lw_at lw_m5 197 rfl) rfl
theorem q1863 : (Jvm.Cond.selects "Bloomclock" ({ cls := "java/lang/Object", name := "equals", desc := "(Ljava/lang/Object;)Z" } : Jvm.MethodName) ({ cls := "java/lang/Object", name := "equals", desc := "(Ljava/lang/Object;)Z" } : Jvm.MethodName)) ∈ lw_all := lw_g (lw_at lw_m8 128 rfl) rfl
theorem q2048 : (Jvm.Cond.castable "Bloomclock" "java/lang/Object") ∈ lw_tbl := lw_at lw_m9 73 rfl
theorem q2088 : (Jvm.Cond.fieldLinkNest "Bloomclock" (385 : Nat) "Bloomclock$Cultivar" "light" "I" "Bloomclock") ∈ lw_tbl := lw_at lw_m9 113 rfl
theorem in_X1 : ∀ w ∈ wsX10, w ∈ lw_all := lw_in wsX10 [153, 155, 157, 159, 161, 163, 165, 167, 169, 171, 173, 175, 177, 179, 181, 183, 185, 187] (by decide +kernel) (by decide +kernel)
/-! Bloomclock$Buyer -/
set_option maxRecDepth 100000
def RX10 : String := "Bloomclock$Buyer"
def TX10 : u_T := fun k => match k with
  | 0 => ("Bloomclock$Buyer", "latency", "I", true)
  | 1 => ("Bloomclock$Buyer", "coins", "I", false)
  | 2 => ("Bloomclock$Buyer", "evened", "I", false)
  | 3 => ("Bloomclock$Buyer", "leaves", "I", false)
  | 4 => ("Bloomclock$Buyer", "stock", "[I", true)
  | 5 => ("Bloomclock$Buyer", "buckets", "I", false)
  | _ => ("Bloomclock$Buyer", "bound", "I", false)
def tyX10 : Nat → FieldType := fun k => match k with
  | 0 => .int
  | 1 => .int
  | 2 => .int
  | 3 => .int
  | 4 => .array .int
  | 5 => .int
  | _ => .int
abbrev wsX100 : List Cond := u_ws RX10 TX10 7
theorem nmX10 : ∀ a, a < 7 → ∀ b, b < 7 → a ≠ b → (TX10 a).2.1 ≠ (TX10 b).2.1 := by decide +kernel
theorem tyX10_ok : ∀ k, k < 7 → parseFieldDescriptor (TX10 k).2.2.1 = some (tyX10 k) := by decide +kernel
abbrev cX10_late : ByteArray := prog_3_method_2_code
def yX10_late : MethodName := ⟨RX10, "late", "()I"⟩
def dkwX10_late_0 : List UInt8 := [3, 42, 180, 0, 22, 42, 180, 0, 25, 100, 184, 0, 28, 172]
abbrev dktX10_late_0 : List UInt8 := dkwX10_late_0 ++ []
theorem dksX10_late_0 : cX10_late.data.toList.drop 0 = dktX10_late_0 := by decide +kernel
theorem dX10_late_0 : decode cX10_late 0 = .ok (.iconst 0, 1) := dk_3 (dk_at dksX10_late_0 0 rfl rfl)
theorem dX10_late_1 : decode cX10_late 1 = .ok (.aload_n 0, 1) := dk_42 (dk_at dksX10_late_0 1 rfl rfl)
theorem dX10_late_2 : decode cX10_late 2 = .ok (.getfield 22, 3) := dk_180 0 22 (dk_at dksX10_late_0 2 rfl rfl)
theorem dX10_late_5 : decode cX10_late 5 = .ok (.aload_n 0, 1) := dk_42 (dk_at dksX10_late_0 5 rfl rfl)
theorem dX10_late_6 : decode cX10_late 6 = .ok (.getfield 25, 3) := dk_180 0 25 (dk_at dksX10_late_0 6 rfl rfl)
theorem dX10_late_9 : decode cX10_late 9 = .ok (.isub, 1) := dk_100 (dk_at dksX10_late_0 9 rfl rfl)
theorem dX10_late_10 : decode cX10_late 10 = .ok (.invokestatic 28, 3) := dk_184 0 28 (dk_at dksX10_late_0 10 rfl rfl)
theorem dX10_late_13 : decode cX10_late 13 = .ok (.ireturn, 1) := dk_172 (dk_at dksX10_late_0 13 rfl rfl)
abbrev cX10_told : ByteArray := prog_3_method_5_code
def yX10_told : MethodName := ⟨RX10, "told", "(I)I"⟩
def dkwX10_told_3 : List UInt8 := [172, 42, 180, 0, 37, 172, 42, 180, 0, 18, 27, 7, 100, 46, 172]
abbrev dktX10_told_3 : List UInt8 := dkwX10_told_3 ++ []
def dkwX10_told_2 : List UInt8 := [42, 180, 0, 9, 172, 42, 180, 0, 22, 172, 42, 180, 0, 25, 172, 42, 180, 0, 15, 172, 42, 180, 0, 40]
abbrev dktX10_told_2 : List UInt8 := dkwX10_told_2 ++ dktX10_told_3
def dkwX10_told_1 : List UInt8 := [170, 0, 0, 0, 0, 0, 81, 0, 0, 0, 0, 0, 0, 0, 8, 0, 0, 0, 51, 0, 0, 0, 56, 0, 0, 0, 61, 0, 0, 0, 66, 0, 0, 0, 81, 0, 0, 0, 81, 0, 0, 0, 81, 0, 0, 0, 71, 0, 0, 0, 76]
abbrev dktX10_told_1 : List UInt8 := dkwX10_told_1 ++ dktX10_told_2
def dkwX10_told_0 : List UInt8 := [27]
abbrev dktX10_told_0 : List UInt8 := dkwX10_told_0 ++ dktX10_told_1
theorem dksX10_told_0 : cX10_told.data.toList.drop 0 = dktX10_told_0 := by decide +kernel
theorem dksX10_told_1 : cX10_told.data.toList.drop 1 = dktX10_told_1 := dk_seg dksX10_told_0 1 rfl rfl
theorem dksX10_told_2 : cX10_told.data.toList.drop 52 = dktX10_told_2 := dk_seg dksX10_told_1 51 rfl rfl
theorem dksX10_told_3 : cX10_told.data.toList.drop 76 = dktX10_told_3 := dk_seg dksX10_told_2 24 rfl rfl
theorem dX10_told_0 : decode cX10_told 0 = .ok (.iload_n 1, 1) := dk_27 (dk_at dksX10_told_0 0 rfl rfl)
theorem dX10_told_1 : decode cX10_told 1 = .ok (.tableswitch 81 0 8 #[51, 56, 61, 66, 81, 81, 81, 71, 76], 51) := by decide +kernel
theorem dX10_told_52 : decode cX10_told 52 = .ok (.aload_n 0, 1) := dk_42 (dk_at dksX10_told_2 0 rfl rfl)
theorem dX10_told_53 : decode cX10_told 53 = .ok (.getfield 9, 3) := dk_180 0 9 (dk_at dksX10_told_2 1 rfl rfl)
theorem dX10_told_56 : decode cX10_told 56 = .ok (.ireturn, 1) := dk_172 (dk_at dksX10_told_2 4 rfl rfl)
theorem dX10_told_57 : decode cX10_told 57 = .ok (.aload_n 0, 1) := dk_42 (dk_at dksX10_told_2 5 rfl rfl)
theorem dX10_told_58 : decode cX10_told 58 = .ok (.getfield 22, 3) := dk_180 0 22 (dk_at dksX10_told_2 6 rfl rfl)
theorem dX10_told_61 : decode cX10_told 61 = .ok (.ireturn, 1) := dk_172 (dk_at dksX10_told_2 9 rfl rfl)
theorem dX10_told_62 : decode cX10_told 62 = .ok (.aload_n 0, 1) := dk_42 (dk_at dksX10_told_2 10 rfl rfl)
theorem dX10_told_63 : decode cX10_told 63 = .ok (.getfield 25, 3) := dk_180 0 25 (dk_at dksX10_told_2 11 rfl rfl)
theorem dX10_told_66 : decode cX10_told 66 = .ok (.ireturn, 1) := dk_172 (dk_at dksX10_told_2 14 rfl rfl)
theorem dX10_told_67 : decode cX10_told 67 = .ok (.aload_n 0, 1) := dk_42 (dk_at dksX10_told_2 15 rfl rfl)
theorem dX10_told_68 : decode cX10_told 68 = .ok (.getfield 15, 3) := dk_180 0 15 (dk_at dksX10_told_2 16 rfl rfl)
theorem dX10_told_71 : decode cX10_told 71 = .ok (.ireturn, 1) := dk_172 (dk_at dksX10_told_2 19 rfl rfl)
theorem dX10_told_72 : decode cX10_told 72 = .ok (.aload_n 0, 1) := dk_42 (dk_at dksX10_told_2 20 rfl rfl)
theorem dX10_told_73 : decode cX10_told 73 = .ok (.getfield 40, 3) := dk_180 0 40 (dk_at dksX10_told_2 21 rfl rfl)
theorem dX10_told_76 : decode cX10_told 76 = .ok (.ireturn, 1) := dk_172 (dk_at dksX10_told_3 0 rfl rfl)
theorem dX10_told_77 : decode cX10_told 77 = .ok (.aload_n 0, 1) := dk_42 (dk_at dksX10_told_3 1 rfl rfl)
theorem dX10_told_78 : decode cX10_told 78 = .ok (.getfield 37, 3) := dk_180 0 37 (dk_at dksX10_told_3 2 rfl rfl)
theorem dX10_told_81 : decode cX10_told 81 = .ok (.ireturn, 1) := dk_172 (dk_at dksX10_told_3 5 rfl rfl)
theorem dX10_told_82 : decode cX10_told 82 = .ok (.aload_n 0, 1) := dk_42 (dk_at dksX10_told_3 6 rfl rfl)
theorem dX10_told_83 : decode cX10_told 83 = .ok (.getfield 18, 3) := dk_180 0 18 (dk_at dksX10_told_3 7 rfl rfl)
theorem dX10_told_86 : decode cX10_told 86 = .ok (.iload_n 1, 1) := dk_27 (dk_at dksX10_told_3 10 rfl rfl)
theorem dX10_told_87 : decode cX10_told 87 = .ok (.iconst 4, 1) := dk_7 (dk_at dksX10_told_3 11 rfl rfl)
theorem dX10_told_88 : decode cX10_told 88 = .ok (.isub, 1) := dk_100 (dk_at dksX10_told_3 12 rfl rfl)
theorem dX10_told_89 : decode cX10_told 89 = .ok (.iaload, 1) := dk_46 (dk_at dksX10_told_3 13 rfl rfl)
theorem dX10_told_90 : decode cX10_told 90 = .ok (.ireturn, 1) := dk_172 (dk_at dksX10_told_3 14 rfl rfl)
abbrev cX10_rank : ByteArray := prog_3_method_3_code
def yX10_rank : MethodName := ⟨RX10, "rank", "()I"⟩
def dkwX10_rank_0 : List UInt8 := [42, 180, 0, 15, 2, 160, 0, 9, 17, 39, 16, 167, 0, 7, 42, 180, 0, 15, 172]
abbrev dktX10_rank_0 : List UInt8 := dkwX10_rank_0 ++ []
theorem dksX10_rank_0 : cX10_rank.data.toList.drop 0 = dktX10_rank_0 := by decide +kernel
theorem dX10_rank_0 : decode cX10_rank 0 = .ok (.aload_n 0, 1) := dk_42 (dk_at dksX10_rank_0 0 rfl rfl)
theorem dX10_rank_1 : decode cX10_rank 1 = .ok (.getfield 15, 3) := dk_180 0 15 (dk_at dksX10_rank_0 1 rfl rfl)
theorem dX10_rank_4 : decode cX10_rank 4 = .ok (.iconst (-1), 1) := dk_2 (dk_at dksX10_rank_0 4 rfl rfl)
theorem dX10_rank_5 : decode cX10_rank 5 = .ok (.if_icmp .ne 9, 3) := dk_160 0 9 (dk_at dksX10_rank_0 5 rfl rfl)
theorem dX10_rank_8 : decode cX10_rank 8 = .ok (.sipush 10000, 3) := dk_17 39 16 (dk_at dksX10_rank_0 8 rfl rfl)
theorem dX10_rank_11 : decode cX10_rank 11 = .ok (.goto 7, 3) := dk_167 0 7 (dk_at dksX10_rank_0 11 rfl rfl)
theorem dX10_rank_14 : decode cX10_rank 14 = .ok (.aload_n 0, 1) := dk_42 (dk_at dksX10_rank_0 14 rfl rfl)
theorem dX10_rank_15 : decode cX10_rank 15 = .ok (.getfield 15, 3) := dk_180 0 15 (dk_at dksX10_rank_0 15 rfl rfl)
theorem dX10_rank_18 : decode cX10_rank 18 = .ok (.ireturn, 1) := dk_172 (dk_at dksX10_rank_0 18 rfl rfl)
abbrev cX10_init : ByteArray := prog_3_method_1_code
def yX10_init : MethodName := ⟨RX10, "<init>", "(I)V"⟩
def dkwX10_init_1 : List UInt8 := [27, 181, 0, 22, 177]
abbrev dktX10_init_1 : List UInt8 := dkwX10_init_1 ++ []
def dkwX10_init_0 : List UInt8 := [42, 183, 0, 3, 42, 17, 7, 208, 181, 0, 9, 42, 2, 181, 0, 15, 42, 6, 188, 10, 181, 0, 18, 42]
abbrev dktX10_init_0 : List UInt8 := dkwX10_init_0 ++ dktX10_init_1
theorem dksX10_init_0 : cX10_init.data.toList.drop 0 = dktX10_init_0 := by decide +kernel
theorem dksX10_init_1 : cX10_init.data.toList.drop 24 = dktX10_init_1 := dk_seg dksX10_init_0 24 rfl rfl
theorem dX10_init_0 : decode cX10_init 0 = .ok (.aload_n 0, 1) := dk_42 (dk_at dksX10_init_0 0 rfl rfl)
theorem dX10_init_1 : decode cX10_init 1 = .ok (.invokespecial 3, 3) := dk_183 0 3 (dk_at dksX10_init_0 1 rfl rfl)
theorem dX10_init_4 : decode cX10_init 4 = .ok (.aload_n 0, 1) := dk_42 (dk_at dksX10_init_0 4 rfl rfl)
theorem dX10_init_5 : decode cX10_init 5 = .ok (.sipush 2000, 3) := dk_17 7 208 (dk_at dksX10_init_0 5 rfl rfl)
theorem dX10_init_8 : decode cX10_init 8 = .ok (.putfield 9, 3) := dk_181 0 9 (dk_at dksX10_init_0 8 rfl rfl)
theorem dX10_init_11 : decode cX10_init 11 = .ok (.aload_n 0, 1) := dk_42 (dk_at dksX10_init_0 11 rfl rfl)
theorem dX10_init_12 : decode cX10_init 12 = .ok (.iconst (-1), 1) := dk_2 (dk_at dksX10_init_0 12 rfl rfl)
theorem dX10_init_13 : decode cX10_init 13 = .ok (.putfield 15, 3) := dk_181 0 15 (dk_at dksX10_init_0 13 rfl rfl)
theorem dX10_init_16 : decode cX10_init 16 = .ok (.aload_n 0, 1) := dk_42 (dk_at dksX10_init_0 16 rfl rfl)
theorem dX10_init_17 : decode cX10_init 17 = .ok (.iconst 3, 1) := dk_6 (dk_at dksX10_init_0 17 rfl rfl)
theorem dX10_init_18 : decode cX10_init 18 = .ok (.newarray .int, 2) := dk_188_10 (dk_at dksX10_init_0 18 rfl rfl)
theorem dX10_init_20 : decode cX10_init 20 = .ok (.putfield 18, 3) := dk_181 0 18 (dk_at dksX10_init_0 20 rfl rfl)
theorem dX10_init_23 : decode cX10_init 23 = .ok (.aload_n 0, 1) := dk_42 (dk_at dksX10_init_0 23 rfl rfl)
theorem dX10_init_24 : decode cX10_init 24 = .ok (.iload_n 1, 1) := dk_27 (dk_at dksX10_init_1 0 rfl rfl)
theorem dX10_init_25 : decode cX10_init 25 = .ok (.putfield 22, 3) := dk_181 0 22 (dk_at dksX10_init_1 1 rfl rfl)
theorem dX10_init_28 : decode cX10_init 28 = .ok (.return_, 1) := dk_177 (dk_at dksX10_init_1 4 rfl rfl)
abbrev cX10_bind : ByteArray := prog_3_method_4_code
def yX10_bind : MethodName := ⟨RX10, "bind", "()Z"⟩
def dkwX10_bind_4 : List UInt8 := [180, 0, 37, 4, 96, 181, 0, 37, 4, 172]
abbrev dktX10_bind_4 : List UInt8 := dkwX10_bind_4 ++ []
def dkwX10_bind_3 : List UInt8 := [79, 42, 180, 0, 18, 5, 92, 46, 4, 42, 180, 0, 18, 5, 46, 184, 0, 34, 100, 79, 42, 89]
abbrev dktX10_bind_3 : List UInt8 := dkwX10_bind_3 ++ dktX10_bind_4
def dkwX10_bind_2 : List UInt8 := [3, 92, 46, 28, 100, 79, 42, 180, 0, 18, 4, 92, 46, 5, 42, 180, 0, 18, 4, 46, 184, 0, 34, 100]
abbrev dktX10_bind_2 : List UInt8 := dkwX10_bind_2 ++ dktX10_bind_3
def dkwX10_bind_1 : List UInt8 := [96, 60, 6, 5, 27, 104, 96, 61, 42, 180, 0, 18, 3, 46, 28, 162, 0, 5, 3, 172, 42, 180, 0, 18]
abbrev dktX10_bind_1 : List UInt8 := dkwX10_bind_1 ++ dktX10_bind_2
def dkwX10_bind_0 : List UInt8 := [3, 5, 42, 180, 0, 18, 4, 46, 100, 184, 0, 28, 3, 4, 42, 180, 0, 18, 5, 46, 100, 184, 0, 28]
abbrev dktX10_bind_0 : List UInt8 := dkwX10_bind_0 ++ dktX10_bind_1
theorem dksX10_bind_0 : cX10_bind.data.toList.drop 0 = dktX10_bind_0 := by decide +kernel
theorem dksX10_bind_1 : cX10_bind.data.toList.drop 24 = dktX10_bind_1 := dk_seg dksX10_bind_0 24 rfl rfl
theorem dksX10_bind_2 : cX10_bind.data.toList.drop 48 = dktX10_bind_2 := dk_seg dksX10_bind_1 24 rfl rfl
theorem dksX10_bind_3 : cX10_bind.data.toList.drop 72 = dktX10_bind_3 := dk_seg dksX10_bind_2 24 rfl rfl
theorem dksX10_bind_4 : cX10_bind.data.toList.drop 94 = dktX10_bind_4 := dk_seg dksX10_bind_3 22 rfl rfl
theorem dX10_bind_0 : decode cX10_bind 0 = .ok (.iconst 0, 1) := dk_3 (dk_at dksX10_bind_0 0 rfl rfl)
theorem dX10_bind_1 : decode cX10_bind 1 = .ok (.iconst 2, 1) := dk_5 (dk_at dksX10_bind_0 1 rfl rfl)
theorem dX10_bind_2 : decode cX10_bind 2 = .ok (.aload_n 0, 1) := dk_42 (dk_at dksX10_bind_0 2 rfl rfl)
theorem dX10_bind_3 : decode cX10_bind 3 = .ok (.getfield 18, 3) := dk_180 0 18 (dk_at dksX10_bind_0 3 rfl rfl)
theorem dX10_bind_6 : decode cX10_bind 6 = .ok (.iconst 1, 1) := dk_4 (dk_at dksX10_bind_0 6 rfl rfl)
theorem dX10_bind_7 : decode cX10_bind 7 = .ok (.iaload, 1) := dk_46 (dk_at dksX10_bind_0 7 rfl rfl)
theorem dX10_bind_8 : decode cX10_bind 8 = .ok (.isub, 1) := dk_100 (dk_at dksX10_bind_0 8 rfl rfl)
theorem dX10_bind_9 : decode cX10_bind 9 = .ok (.invokestatic 28, 3) := dk_184 0 28 (dk_at dksX10_bind_0 9 rfl rfl)
theorem dX10_bind_12 : decode cX10_bind 12 = .ok (.iconst 0, 1) := dk_3 (dk_at dksX10_bind_0 12 rfl rfl)
theorem dX10_bind_13 : decode cX10_bind 13 = .ok (.iconst 1, 1) := dk_4 (dk_at dksX10_bind_0 13 rfl rfl)
theorem dX10_bind_14 : decode cX10_bind 14 = .ok (.aload_n 0, 1) := dk_42 (dk_at dksX10_bind_0 14 rfl rfl)
theorem dX10_bind_15 : decode cX10_bind 15 = .ok (.getfield 18, 3) := dk_180 0 18 (dk_at dksX10_bind_0 15 rfl rfl)
theorem dX10_bind_18 : decode cX10_bind 18 = .ok (.iconst 2, 1) := dk_5 (dk_at dksX10_bind_0 18 rfl rfl)
theorem dX10_bind_19 : decode cX10_bind 19 = .ok (.iaload, 1) := dk_46 (dk_at dksX10_bind_0 19 rfl rfl)
theorem dX10_bind_20 : decode cX10_bind 20 = .ok (.isub, 1) := dk_100 (dk_at dksX10_bind_0 20 rfl rfl)
theorem dX10_bind_21 : decode cX10_bind 21 = .ok (.invokestatic 28, 3) := dk_184 0 28 (dk_at dksX10_bind_0 21 rfl rfl)
theorem dX10_bind_24 : decode cX10_bind 24 = .ok (.iadd, 1) := dk_96 (dk_at dksX10_bind_1 0 rfl rfl)
theorem dX10_bind_25 : decode cX10_bind 25 = .ok (.istore_n 1, 1) := dk_60 (dk_at dksX10_bind_1 1 rfl rfl)
theorem dX10_bind_26 : decode cX10_bind 26 = .ok (.iconst 3, 1) := dk_6 (dk_at dksX10_bind_1 2 rfl rfl)
theorem dX10_bind_27 : decode cX10_bind 27 = .ok (.iconst 2, 1) := dk_5 (dk_at dksX10_bind_1 3 rfl rfl)
theorem dX10_bind_28 : decode cX10_bind 28 = .ok (.iload_n 1, 1) := dk_27 (dk_at dksX10_bind_1 4 rfl rfl)
theorem dX10_bind_29 : decode cX10_bind 29 = .ok (.imul, 1) := dk_104 (dk_at dksX10_bind_1 5 rfl rfl)
theorem dX10_bind_30 : decode cX10_bind 30 = .ok (.iadd, 1) := dk_96 (dk_at dksX10_bind_1 6 rfl rfl)
theorem dX10_bind_31 : decode cX10_bind 31 = .ok (.istore_n 2, 1) := dk_61 (dk_at dksX10_bind_1 7 rfl rfl)
theorem dX10_bind_32 : decode cX10_bind 32 = .ok (.aload_n 0, 1) := dk_42 (dk_at dksX10_bind_1 8 rfl rfl)
theorem dX10_bind_33 : decode cX10_bind 33 = .ok (.getfield 18, 3) := dk_180 0 18 (dk_at dksX10_bind_1 9 rfl rfl)
theorem dX10_bind_36 : decode cX10_bind 36 = .ok (.iconst 0, 1) := dk_3 (dk_at dksX10_bind_1 12 rfl rfl)
theorem dX10_bind_37 : decode cX10_bind 37 = .ok (.iaload, 1) := dk_46 (dk_at dksX10_bind_1 13 rfl rfl)
theorem dX10_bind_38 : decode cX10_bind 38 = .ok (.iload_n 2, 1) := dk_28 (dk_at dksX10_bind_1 14 rfl rfl)
theorem dX10_bind_39 : decode cX10_bind 39 = .ok (.if_icmp .ge 5, 3) := dk_162 0 5 (dk_at dksX10_bind_1 15 rfl rfl)
theorem dX10_bind_42 : decode cX10_bind 42 = .ok (.iconst 0, 1) := dk_3 (dk_at dksX10_bind_1 18 rfl rfl)
theorem dX10_bind_43 : decode cX10_bind 43 = .ok (.ireturn, 1) := dk_172 (dk_at dksX10_bind_1 19 rfl rfl)
theorem dX10_bind_44 : decode cX10_bind 44 = .ok (.aload_n 0, 1) := dk_42 (dk_at dksX10_bind_1 20 rfl rfl)
theorem dX10_bind_45 : decode cX10_bind 45 = .ok (.getfield 18, 3) := dk_180 0 18 (dk_at dksX10_bind_1 21 rfl rfl)
theorem dX10_bind_48 : decode cX10_bind 48 = .ok (.iconst 0, 1) := dk_3 (dk_at dksX10_bind_2 0 rfl rfl)
theorem dX10_bind_49 : decode cX10_bind 49 = .ok (.dup2, 1) := dk_92 (dk_at dksX10_bind_2 1 rfl rfl)
theorem dX10_bind_50 : decode cX10_bind 50 = .ok (.iaload, 1) := dk_46 (dk_at dksX10_bind_2 2 rfl rfl)
theorem dX10_bind_51 : decode cX10_bind 51 = .ok (.iload_n 2, 1) := dk_28 (dk_at dksX10_bind_2 3 rfl rfl)
theorem dX10_bind_52 : decode cX10_bind 52 = .ok (.isub, 1) := dk_100 (dk_at dksX10_bind_2 4 rfl rfl)
theorem dX10_bind_53 : decode cX10_bind 53 = .ok (.iastore, 1) := dk_79 (dk_at dksX10_bind_2 5 rfl rfl)
theorem dX10_bind_54 : decode cX10_bind 54 = .ok (.aload_n 0, 1) := dk_42 (dk_at dksX10_bind_2 6 rfl rfl)
theorem dX10_bind_55 : decode cX10_bind 55 = .ok (.getfield 18, 3) := dk_180 0 18 (dk_at dksX10_bind_2 7 rfl rfl)
theorem dX10_bind_58 : decode cX10_bind 58 = .ok (.iconst 1, 1) := dk_4 (dk_at dksX10_bind_2 10 rfl rfl)
theorem dX10_bind_59 : decode cX10_bind 59 = .ok (.dup2, 1) := dk_92 (dk_at dksX10_bind_2 11 rfl rfl)
theorem dX10_bind_60 : decode cX10_bind 60 = .ok (.iaload, 1) := dk_46 (dk_at dksX10_bind_2 12 rfl rfl)
theorem dX10_bind_61 : decode cX10_bind 61 = .ok (.iconst 2, 1) := dk_5 (dk_at dksX10_bind_2 13 rfl rfl)
theorem dX10_bind_62 : decode cX10_bind 62 = .ok (.aload_n 0, 1) := dk_42 (dk_at dksX10_bind_2 14 rfl rfl)
theorem dX10_bind_63 : decode cX10_bind 63 = .ok (.getfield 18, 3) := dk_180 0 18 (dk_at dksX10_bind_2 15 rfl rfl)
theorem dX10_bind_66 : decode cX10_bind 66 = .ok (.iconst 1, 1) := dk_4 (dk_at dksX10_bind_2 18 rfl rfl)
theorem dX10_bind_67 : decode cX10_bind 67 = .ok (.iaload, 1) := dk_46 (dk_at dksX10_bind_2 19 rfl rfl)
theorem dX10_bind_68 : decode cX10_bind 68 = .ok (.invokestatic 34, 3) := dk_184 0 34 (dk_at dksX10_bind_2 20 rfl rfl)
theorem dX10_bind_71 : decode cX10_bind 71 = .ok (.isub, 1) := dk_100 (dk_at dksX10_bind_2 23 rfl rfl)
theorem dX10_bind_72 : decode cX10_bind 72 = .ok (.iastore, 1) := dk_79 (dk_at dksX10_bind_3 0 rfl rfl)
theorem dX10_bind_73 : decode cX10_bind 73 = .ok (.aload_n 0, 1) := dk_42 (dk_at dksX10_bind_3 1 rfl rfl)
theorem dX10_bind_74 : decode cX10_bind 74 = .ok (.getfield 18, 3) := dk_180 0 18 (dk_at dksX10_bind_3 2 rfl rfl)
theorem dX10_bind_77 : decode cX10_bind 77 = .ok (.iconst 2, 1) := dk_5 (dk_at dksX10_bind_3 5 rfl rfl)
theorem dX10_bind_78 : decode cX10_bind 78 = .ok (.dup2, 1) := dk_92 (dk_at dksX10_bind_3 6 rfl rfl)
theorem dX10_bind_79 : decode cX10_bind 79 = .ok (.iaload, 1) := dk_46 (dk_at dksX10_bind_3 7 rfl rfl)
theorem dX10_bind_80 : decode cX10_bind 80 = .ok (.iconst 1, 1) := dk_4 (dk_at dksX10_bind_3 8 rfl rfl)
theorem dX10_bind_81 : decode cX10_bind 81 = .ok (.aload_n 0, 1) := dk_42 (dk_at dksX10_bind_3 9 rfl rfl)
theorem dX10_bind_82 : decode cX10_bind 82 = .ok (.getfield 18, 3) := dk_180 0 18 (dk_at dksX10_bind_3 10 rfl rfl)
theorem dX10_bind_85 : decode cX10_bind 85 = .ok (.iconst 2, 1) := dk_5 (dk_at dksX10_bind_3 13 rfl rfl)
theorem dX10_bind_86 : decode cX10_bind 86 = .ok (.iaload, 1) := dk_46 (dk_at dksX10_bind_3 14 rfl rfl)
theorem dX10_bind_87 : decode cX10_bind 87 = .ok (.invokestatic 34, 3) := dk_184 0 34 (dk_at dksX10_bind_3 15 rfl rfl)
theorem dX10_bind_90 : decode cX10_bind 90 = .ok (.isub, 1) := dk_100 (dk_at dksX10_bind_3 18 rfl rfl)
theorem dX10_bind_91 : decode cX10_bind 91 = .ok (.iastore, 1) := dk_79 (dk_at dksX10_bind_3 19 rfl rfl)
theorem dX10_bind_92 : decode cX10_bind 92 = .ok (.aload_n 0, 1) := dk_42 (dk_at dksX10_bind_3 20 rfl rfl)
theorem dX10_bind_93 : decode cX10_bind 93 = .ok (.dup, 1) := dk_89 (dk_at dksX10_bind_3 21 rfl rfl)
theorem dX10_bind_94 : decode cX10_bind 94 = .ok (.getfield 37, 3) := dk_180 0 37 (dk_at dksX10_bind_4 0 rfl rfl)
theorem dX10_bind_97 : decode cX10_bind 97 = .ok (.iconst 1, 1) := dk_4 (dk_at dksX10_bind_4 3 rfl rfl)
theorem dX10_bind_98 : decode cX10_bind 98 = .ok (.iadd, 1) := dk_96 (dk_at dksX10_bind_4 4 rfl rfl)
theorem dX10_bind_99 : decode cX10_bind 99 = .ok (.putfield 37, 3) := dk_181 0 37 (dk_at dksX10_bind_4 5 rfl rfl)
theorem dX10_bind_102 : decode cX10_bind 102 = .ok (.iconst 1, 1) := dk_4 (dk_at dksX10_bind_4 8 rfl rfl)
theorem dX10_bind_103 : decode cX10_bind 103 = .ok (.ireturn, 1) := dk_172 (dk_at dksX10_bind_4 9 rfl rfl)
theorem q88 : (Jvm.Cond.initialized "Bloomclock$Buyer") ∈ lw_all := lw_g (lw_at lw_m1 33 rfl) rfl
theorem q386 : (Jvm.Cond.instanceMethod ({ cls := "Bloomclock$Buyer", name := "late", desc := "()I" } : Jvm.MethodName)) ∈ lw_all := lw_g (lw_at lw_m2 91 rfl) rfl
theorem q387 : (Jvm.Cond.selects "Bloomclock$Buyer" ({ cls := "Bloomclock$Buyer", name := "late", desc := "()I" } : Jvm.MethodName) ({ cls := "Bloomclock$Buyer", name := "late", desc := "()I" } : Jvm.MethodName)) ∈ lw_all := lw_g (lw_at lw_m2 92 rfl) rfl
theorem q388 : (Jvm.Cond.code ({ cls := "Bloomclock$Buyer", name := "late", desc := "()I" } : Jvm.MethodName) prog_3_method_2_code (1 : Nat) (Option.some Jvm.ClassFile.FieldType.int)) ∈ lw_all := lw_g (lw_at lw_m2 93 rfl) rfl
theorem q389 : (Jvm.Cond.methodLink "Bloomclock$Buyer" (28 : Nat) ({ cls := "java/lang/Math", name := "max", desc := "(II)I" } : Jvm.MethodName)) ∈ lw_all := lw_g (lw_at lw_m2 94 rfl) rfl
theorem q407 : (Jvm.Cond.instanceMethod ({ cls := "Bloomclock$Buyer", name := "told", desc := "(I)I" } : Jvm.MethodName)) ∈ lw_all := lw_g (lw_at lw_m2 112 rfl) rfl
theorem q408 : (Jvm.Cond.selects "Bloomclock$Buyer" ({ cls := "Bloomclock$Buyer", name := "told", desc := "(I)I" } : Jvm.MethodName) ({ cls := "Bloomclock$Buyer", name := "told", desc := "(I)I" } : Jvm.MethodName)) ∈ lw_all := lw_g (lw_at lw_m2 113 rfl) rfl
theorem q409 : (Jvm.Cond.code ({ cls := "Bloomclock$Buyer", name := "told", desc := "(I)I" } : Jvm.MethodName) prog_3_method_5_code (2 : Nat) (Option.some Jvm.ClassFile.FieldType.int)) ∈ lw_all := lw_g (lw_at lw_m2 114 rfl) rfl
theorem q563 : (Jvm.Cond.selects "Bloomclock$Buyer" ({ cls := "java/lang/Object", name := "getClass", desc := "()Ljava/lang/Class;" } : Jvm.MethodName) ({ cls := "java/lang/Object", name := "getClass", desc := "()Ljava/lang/Class;" } : Jvm.MethodName)) ∈ lw_all := lw_g (lw_at lw_m3 28 rfl) rfl
theorem q849 : (Jvm.Cond.instanceMethod ({ cls := "Bloomclock$Buyer", name := "rank", desc := "()I" } : Jvm.MethodName)) ∈ lw_all := lw_g (lw_at lw_m4 74 rfl) rfl
theorem q850 : (Jvm.Cond.selects "Bloomclock$Buyer" ({ cls := "Bloomclock$Buyer", name := "rank", desc := "()I" } : Jvm.MethodName) ({ cls := "Bloomclock$Buyer", name := "rank", desc := "()I" } : Jvm.MethodName)) ∈ lw_all := lw_g (lw_at lw_m4 75 rfl) rfl
theorem q851 : (Jvm.Cond.code ({ cls := "Bloomclock$Buyer", name := "rank", desc := "()I" } : Jvm.MethodName) prog_3_method_3_code (1 : Nat) (Option.some Jvm.ClassFile.FieldType.int)) ∈ lw_all := lw_g (lw_at lw_m4 76 rfl) rfl
theorem q902 : (Jvm.Cond.instantiable "Bloomclock$Buyer" (7 : Nat)) ∈ lw_all := lw_g (lw_at lw_m4 127 rfl) rfl
theorem q904 : (Jvm.Cond.instanceMethod ({ cls := "Bloomclock$Buyer", name := "<init>", desc := "(I)V" } : Jvm.MethodName)) ∈ lw_all := lw_g (lw_at lw_m4 129 rfl) rfl
theorem q905 : (Jvm.Cond.code ({ cls := "Bloomclock$Buyer", name := "<init>", desc := "(I)V" } : Jvm.MethodName) prog_3_method_1_code (2 : Nat) (Option.none : Option Jvm.ClassFile.FieldType)) ∈ lw_all := lw_g (lw_at lw_m4 130 rfl) rfl
theorem q906 : (Jvm.Cond.methodLink "Bloomclock$Buyer" (3 : Nat) ({ cls := "java/lang/Object", name := "<init>", desc := "()V" } : Jvm.MethodName)) ∈ lw_all := lw_g (lw_at lw_m4 131 rfl) rfl
theorem q907 : (Jvm.Cond.fieldLink "Bloomclock$Buyer" (22 : Nat) "Bloomclock$Buyer" "latency" "I") ∈ lw_all := lw_g (lw_at lw_m4 132 rfl) rfl
theorem q908 : (Jvm.Cond.fieldLink "Bloomclock$Buyer" (9 : Nat) "Bloomclock$Buyer" "coins" "I") ∈ lw_all := lw_g (lw_at lw_m4 133 rfl) rfl
theorem q911 : (Jvm.Cond.fieldLink "Bloomclock$Buyer" (25 : Nat) "Bloomclock$Buyer" "evened" "I") ∈ lw_all := lw_g (lw_at lw_m4 136 rfl) rfl
theorem q913 : (Jvm.Cond.fieldLink "Bloomclock$Buyer" (15 : Nat) "Bloomclock$Buyer" "leaves" "I") ∈ lw_all := lw_g (lw_at lw_m4 138 rfl) rfl
theorem q915 : (Jvm.Cond.fieldLink "Bloomclock$Buyer" (18 : Nat) "Bloomclock$Buyer" "stock" "[I") ∈ lw_all := lw_g (lw_at lw_m4 140 rfl) rfl
theorem q917 : (Jvm.Cond.fieldLink "Bloomclock$Buyer" (40 : Nat) "Bloomclock$Buyer" "buckets" "I") ∈ lw_all := lw_g (lw_at lw_m4 142 rfl) rfl
theorem q919 : (Jvm.Cond.fieldLink "Bloomclock$Buyer" (37 : Nat) "Bloomclock$Buyer" "bound" "I") ∈ lw_all := lw_g (lw_at lw_m4 144 rfl) rfl
theorem q920 : (Jvm.Cond.laysFinal "Bloomclock$Buyer" "Bloomclock$Buyer" "latency" "I") ∈ lw_all := lw_g (lw_at lw_m4 145 rfl) rfl
theorem q921 : (Jvm.Cond.soleField "Bloomclock$Buyer" "latency") ∈ lw_all := lw_g (lw_at lw_m4 146 rfl) rfl
theorem q922 : (Jvm.Cond.lays "Bloomclock$Buyer" "Bloomclock$Buyer" "coins" "I") ∈ lw_all := lw_g (lw_at lw_m4 147 rfl) rfl
theorem q923 : (Jvm.Cond.soleField "Bloomclock$Buyer" "coins") ∈ lw_all := lw_g (lw_at lw_m4 148 rfl) rfl
theorem q924 : (Jvm.Cond.lays "Bloomclock$Buyer" "Bloomclock$Buyer" "evened" "I") ∈ lw_all := lw_g (lw_at lw_m4 149 rfl) rfl
theorem q925 : (Jvm.Cond.soleField "Bloomclock$Buyer" "evened") ∈ lw_all := lw_g (lw_at lw_m4 150 rfl) rfl
theorem q926 : (Jvm.Cond.lays "Bloomclock$Buyer" "Bloomclock$Buyer" "leaves" "I") ∈ lw_all := lw_g (lw_at lw_m4 151 rfl) rfl
theorem q927 : (Jvm.Cond.soleField "Bloomclock$Buyer" "leaves") ∈ lw_all := lw_g (lw_at lw_m4 152 rfl) rfl
theorem q928 : (Jvm.Cond.laysFinal "Bloomclock$Buyer" "Bloomclock$Buyer" "stock" "[I") ∈ lw_all := lw_g (lw_at lw_m4 153 rfl) rfl
theorem q929 : (Jvm.Cond.soleField "Bloomclock$Buyer" "stock") ∈ lw_all := lw_g (lw_at lw_m4 154 rfl) rfl
theorem q930 : (Jvm.Cond.lays "Bloomclock$Buyer" "Bloomclock$Buyer" "buckets" "I") ∈ lw_all := lw_g (lw_at lw_m4 155 rfl) rfl
theorem q931 : (Jvm.Cond.soleField "Bloomclock$Buyer" "buckets") ∈ lw_all := lw_g (lw_at lw_m4 156 rfl) rfl
theorem q932 : (Jvm.Cond.lays "Bloomclock$Buyer" "Bloomclock$Buyer" "bound" "I") ∈ lw_all := lw_g (lw_at lw_m4 157 rfl) rfl
theorem q933 : (Jvm.Cond.soleField "Bloomclock$Buyer" "bound") ∈ lw_all := lw_g (lw_at lw_m4 158 rfl) rfl
theorem q934 : (Jvm.Cond.superclass "Bloomclock$Buyer" "java/lang/Object") ∈ lw_all := lw_g (lw_at lw_m4 159 rfl) rfl
theorem q1104 : (Jvm.Cond.instanceMethod ({ cls := "Bloomclock$Buyer", name := "bind", desc := "()Z" } : Jvm.MethodName)) ∈ lw_all := lw_g (lw_at lw_m5 89 rfl) rfl
theorem q1105 : (Jvm.Cond.selects "Bloomclock$Buyer" ({ cls := "Bloomclock$Buyer", name := "bind", desc := "()Z" } : Jvm.MethodName) ({ cls := "Bloomclock$Buyer", name := "bind", desc := "()Z" } : Jvm.MethodName)) ∈ lw_all := lw_g (lw_at lw_m5 90 rfl) rfl
theorem q1106 : (Jvm.Cond.code ({ cls := "Bloomclock$Buyer", name := "bind", desc := "()Z" } : Jvm.MethodName) prog_3_method_4_code (3 : Nat) (Option.some Jvm.ClassFile.FieldType.boolean)) ∈ lw_all := lw_g (lw_at lw_m5 91 rfl) rfl
theorem q1107 : (Jvm.Cond.methodLink "Bloomclock$Buyer" (34 : Nat) ({ cls := "java/lang/Math", name := "min", desc := "(II)I" } : Jvm.MethodName)) ∈ lw_all := lw_g (lw_at lw_m5 92 rfl) rfl
theorem q1865 : (Jvm.Cond.selects "Bloomclock$Buyer" ({ cls := "java/lang/Object", name := "equals", desc := "(Ljava/lang/Object;)Z" } : Jvm.MethodName) ({ cls := "java/lang/Object", name := "equals", desc := "(Ljava/lang/Object;)Z" } : Jvm.MethodName)) ∈ lw_all := lw_g (lw_at lw_m8 130 rfl) rfl
theorem q2065 : (Jvm.Cond.castable "Bloomclock$Buyer" "java/lang/Object") ∈ lw_tbl := lw_at lw_m9 90 rfl
theorem in_X10 : ∀ w ∈ wsX100, w ∈ lw_all := lw_in wsX100 [920, 922, 924, 926, 928, 930, 932] (by decide +kernel) (by decide +kernel)
/-! Bloomclock$Order -/
set_option maxRecDepth 100000
def RX12 : String := "Bloomclock$Order"
def TX12 : u_T := fun k => match k with
  | 0 => ("Bloomclock$Order", "buyer", "I", true)
  | 1 => ("Bloomclock$Order", "cultivar", "I", true)
  | 2 => ("Bloomclock$Order", "grade", "I", true)
  | 3 => ("Bloomclock$Order", "shown", "I", true)
  | 4 => ("Bloomclock$Order", "mark", "I", true)
  | 5 => ("Bloomclock$Order", "limit", "I", true)
  | _ => ("Bloomclock$Order", "wants", "I", false)
def tyX12 : Nat → FieldType := fun k => match k with
  | 0 => .int
  | 1 => .int
  | 2 => .int
  | 3 => .int
  | 4 => .int
  | 5 => .int
  | _ => .int
abbrev wsX120 : List Cond := u_ws RX12 TX12 7
theorem nmX12 : ∀ a, a < 7 → ∀ b, b < 7 → a ≠ b → (TX12 a).2.1 ≠ (TX12 b).2.1 := by decide +kernel
theorem tyX12_ok : ∀ k, k < 7 → parseFieldDescriptor (TX12 k).2.2.1 = some (tyX12 k) := by decide +kernel
abbrev cX12_fits : ByteArray := prog_8_method_2_code
def yX12_fits : MethodName := ⟨RX12, "fits", "(LBloomclock$Lot;II)Z"⟩
def dkwX12_fits_1 : List UInt8 := [180, 0, 19, 161, 0, 15, 29, 42, 180, 0, 22, 161, 0, 7, 4, 167, 0, 4, 3, 172]
abbrev dktX12_fits_1 : List UInt8 := dkwX12_fits_1 ++ []
def dkwX12_fits_0 : List UInt8 := [43, 180, 0, 28, 42, 180, 0, 13, 160, 0, 34, 43, 180, 0, 31, 42, 180, 0, 16, 163, 0, 23, 28, 42]
abbrev dktX12_fits_0 : List UInt8 := dkwX12_fits_0 ++ dktX12_fits_1
theorem dksX12_fits_0 : cX12_fits.data.toList.drop 0 = dktX12_fits_0 := by decide +kernel
theorem dksX12_fits_1 : cX12_fits.data.toList.drop 24 = dktX12_fits_1 := dk_seg dksX12_fits_0 24 rfl rfl
theorem dX12_fits_0 : decode cX12_fits 0 = .ok (.aload_n 1, 1) := dk_43 (dk_at dksX12_fits_0 0 rfl rfl)
theorem dX12_fits_1 : decode cX12_fits 1 = .ok (.getfield 28, 3) := dk_180 0 28 (dk_at dksX12_fits_0 1 rfl rfl)
theorem dX12_fits_4 : decode cX12_fits 4 = .ok (.aload_n 0, 1) := dk_42 (dk_at dksX12_fits_0 4 rfl rfl)
theorem dX12_fits_5 : decode cX12_fits 5 = .ok (.getfield 13, 3) := dk_180 0 13 (dk_at dksX12_fits_0 5 rfl rfl)
theorem dX12_fits_8 : decode cX12_fits 8 = .ok (.if_icmp .ne 34, 3) := dk_160 0 34 (dk_at dksX12_fits_0 8 rfl rfl)
theorem dX12_fits_11 : decode cX12_fits 11 = .ok (.aload_n 1, 1) := dk_43 (dk_at dksX12_fits_0 11 rfl rfl)
theorem dX12_fits_12 : decode cX12_fits 12 = .ok (.getfield 31, 3) := dk_180 0 31 (dk_at dksX12_fits_0 12 rfl rfl)
theorem dX12_fits_15 : decode cX12_fits 15 = .ok (.aload_n 0, 1) := dk_42 (dk_at dksX12_fits_0 15 rfl rfl)
theorem dX12_fits_16 : decode cX12_fits 16 = .ok (.getfield 16, 3) := dk_180 0 16 (dk_at dksX12_fits_0 16 rfl rfl)
theorem dX12_fits_19 : decode cX12_fits 19 = .ok (.if_icmp .gt 23, 3) := dk_163 0 23 (dk_at dksX12_fits_0 19 rfl rfl)
theorem dX12_fits_22 : decode cX12_fits 22 = .ok (.iload_n 2, 1) := dk_28 (dk_at dksX12_fits_0 22 rfl rfl)
theorem dX12_fits_23 : decode cX12_fits 23 = .ok (.aload_n 0, 1) := dk_42 (dk_at dksX12_fits_0 23 rfl rfl)
theorem dX12_fits_24 : decode cX12_fits 24 = .ok (.getfield 19, 3) := dk_180 0 19 (dk_at dksX12_fits_1 0 rfl rfl)
theorem dX12_fits_27 : decode cX12_fits 27 = .ok (.if_icmp .lt 15, 3) := dk_161 0 15 (dk_at dksX12_fits_1 3 rfl rfl)
theorem dX12_fits_30 : decode cX12_fits 30 = .ok (.iload_n 3, 1) := dk_29 (dk_at dksX12_fits_1 6 rfl rfl)
theorem dX12_fits_31 : decode cX12_fits 31 = .ok (.aload_n 0, 1) := dk_42 (dk_at dksX12_fits_1 7 rfl rfl)
theorem dX12_fits_32 : decode cX12_fits 32 = .ok (.getfield 22, 3) := dk_180 0 22 (dk_at dksX12_fits_1 8 rfl rfl)
theorem dX12_fits_35 : decode cX12_fits 35 = .ok (.if_icmp .lt 7, 3) := dk_161 0 7 (dk_at dksX12_fits_1 11 rfl rfl)
theorem dX12_fits_38 : decode cX12_fits 38 = .ok (.iconst 1, 1) := dk_4 (dk_at dksX12_fits_1 14 rfl rfl)
theorem dX12_fits_39 : decode cX12_fits 39 = .ok (.goto 4, 3) := dk_167 0 4 (dk_at dksX12_fits_1 15 rfl rfl)
theorem dX12_fits_42 : decode cX12_fits 42 = .ok (.iconst 0, 1) := dk_3 (dk_at dksX12_fits_1 18 rfl rfl)
theorem dX12_fits_43 : decode cX12_fits 43 = .ok (.ireturn, 1) := dk_172 (dk_at dksX12_fits_1 19 rfl rfl)
abbrev cX12_init : ByteArray := prog_8_method_1_code
def yX12_init : MethodName := ⟨RX12, "<init>", "(IIIIII)V"⟩
def dkwX12_init_1 : List UInt8 := [181, 0, 19, 42, 21, 5, 181, 0, 22, 42, 21, 6, 181, 0, 25, 177]
abbrev dktX12_init_1 : List UInt8 := dkwX12_init_1 ++ []
def dkwX12_init_0 : List UInt8 := [42, 183, 0, 1, 42, 27, 181, 0, 7, 42, 28, 181, 0, 13, 42, 29, 181, 0, 16, 42, 21, 4]
abbrev dktX12_init_0 : List UInt8 := dkwX12_init_0 ++ dktX12_init_1
theorem dksX12_init_0 : cX12_init.data.toList.drop 0 = dktX12_init_0 := by decide +kernel
theorem dksX12_init_1 : cX12_init.data.toList.drop 22 = dktX12_init_1 := dk_seg dksX12_init_0 22 rfl rfl
theorem dX12_init_0 : decode cX12_init 0 = .ok (.aload_n 0, 1) := dk_42 (dk_at dksX12_init_0 0 rfl rfl)
theorem dX12_init_1 : decode cX12_init 1 = .ok (.invokespecial 1, 3) := dk_183 0 1 (dk_at dksX12_init_0 1 rfl rfl)
theorem dX12_init_4 : decode cX12_init 4 = .ok (.aload_n 0, 1) := dk_42 (dk_at dksX12_init_0 4 rfl rfl)
theorem dX12_init_5 : decode cX12_init 5 = .ok (.iload_n 1, 1) := dk_27 (dk_at dksX12_init_0 5 rfl rfl)
theorem dX12_init_6 : decode cX12_init 6 = .ok (.putfield 7, 3) := dk_181 0 7 (dk_at dksX12_init_0 6 rfl rfl)
theorem dX12_init_9 : decode cX12_init 9 = .ok (.aload_n 0, 1) := dk_42 (dk_at dksX12_init_0 9 rfl rfl)
theorem dX12_init_10 : decode cX12_init 10 = .ok (.iload_n 2, 1) := dk_28 (dk_at dksX12_init_0 10 rfl rfl)
theorem dX12_init_11 : decode cX12_init 11 = .ok (.putfield 13, 3) := dk_181 0 13 (dk_at dksX12_init_0 11 rfl rfl)
theorem dX12_init_14 : decode cX12_init 14 = .ok (.aload_n 0, 1) := dk_42 (dk_at dksX12_init_0 14 rfl rfl)
theorem dX12_init_15 : decode cX12_init 15 = .ok (.iload_n 3, 1) := dk_29 (dk_at dksX12_init_0 15 rfl rfl)
theorem dX12_init_16 : decode cX12_init 16 = .ok (.putfield 16, 3) := dk_181 0 16 (dk_at dksX12_init_0 16 rfl rfl)
theorem dX12_init_19 : decode cX12_init 19 = .ok (.aload_n 0, 1) := dk_42 (dk_at dksX12_init_0 19 rfl rfl)
theorem dX12_init_20 : decode cX12_init 20 = .ok (.iload 4, 2) := dk_21 4 (dk_at dksX12_init_0 20 rfl rfl)
theorem dX12_init_22 : decode cX12_init 22 = .ok (.putfield 19, 3) := dk_181 0 19 (dk_at dksX12_init_1 0 rfl rfl)
theorem dX12_init_25 : decode cX12_init 25 = .ok (.aload_n 0, 1) := dk_42 (dk_at dksX12_init_1 3 rfl rfl)
theorem dX12_init_26 : decode cX12_init 26 = .ok (.iload 5, 2) := dk_21 5 (dk_at dksX12_init_1 4 rfl rfl)
theorem dX12_init_28 : decode cX12_init 28 = .ok (.putfield 22, 3) := dk_181 0 22 (dk_at dksX12_init_1 6 rfl rfl)
theorem dX12_init_31 : decode cX12_init 31 = .ok (.aload_n 0, 1) := dk_42 (dk_at dksX12_init_1 9 rfl rfl)
theorem dX12_init_32 : decode cX12_init 32 = .ok (.iload 6, 2) := dk_21 6 (dk_at dksX12_init_1 10 rfl rfl)
theorem dX12_init_34 : decode cX12_init 34 = .ok (.putfield 25, 3) := dk_181 0 25 (dk_at dksX12_init_1 12 rfl rfl)
theorem dX12_init_37 : decode cX12_init 37 = .ok (.return_, 1) := dk_177 (dk_at dksX12_init_1 15 rfl rfl)
theorem q90 : (Jvm.Cond.initialized "Bloomclock$Order") ∈ lw_all := lw_g (lw_at lw_m1 35 rfl) rfl
theorem q378 : (Jvm.Cond.instanceMethod ({ cls := "Bloomclock$Order", name := "fits", desc := "(LBloomclock$Lot;II)Z" } : Jvm.MethodName)) ∈ lw_all := lw_g (lw_at lw_m2 83 rfl) rfl
theorem q379 : (Jvm.Cond.selects "Bloomclock$Order" ({ cls := "Bloomclock$Order", name := "fits", desc := "(LBloomclock$Lot;II)Z" } : Jvm.MethodName) ({ cls := "Bloomclock$Order", name := "fits", desc := "(LBloomclock$Lot;II)Z" } : Jvm.MethodName)) ∈ lw_all := lw_g (lw_at lw_m2 84 rfl) rfl
theorem q380 : (Jvm.Cond.code ({ cls := "Bloomclock$Order", name := "fits", desc := "(LBloomclock$Lot;II)Z" } : Jvm.MethodName) prog_8_method_2_code (4 : Nat) (Option.some Jvm.ClassFile.FieldType.boolean)) ∈ lw_all := lw_g (lw_at lw_m2 85 rfl) rfl
theorem q568 : (Jvm.Cond.selects "Bloomclock$Order" ({ cls := "java/lang/Object", name := "getClass", desc := "()Ljava/lang/Class;" } : Jvm.MethodName) ({ cls := "java/lang/Object", name := "getClass", desc := "()Ljava/lang/Class;" } : Jvm.MethodName)) ∈ lw_all := lw_g (lw_at lw_m3 33 rfl) rfl
theorem q750 : (Jvm.Cond.fieldLinkNest "Bloomclock$Order" (28 : Nat) "Bloomclock$Lot" "cultivar" "I" "Bloomclock") ∈ lw_tbl := lw_at lw_m3 215 rfl
theorem q753 : (Jvm.Cond.fieldLinkNest "Bloomclock$Order" (31 : Nat) "Bloomclock$Lot" "grade" "I" "Bloomclock") ∈ lw_tbl := lw_at lw_m3 218 rfl
theorem q960 : (Jvm.Cond.instantiable "Bloomclock$Order" (7 : Nat)) ∈ lw_all := lw_g (lw_at lw_m4 185 rfl) rfl
theorem q962 : (Jvm.Cond.instanceMethod ({ cls := "Bloomclock$Order", name := "<init>", desc := "(IIIIII)V" } : Jvm.MethodName)) ∈ lw_all := lw_g (lw_at lw_m4 187 rfl) rfl
theorem q963 : (Jvm.Cond.code ({ cls := "Bloomclock$Order", name := "<init>", desc := "(IIIIII)V" } : Jvm.MethodName) prog_8_method_1_code (7 : Nat) (Option.none : Option Jvm.ClassFile.FieldType)) ∈ lw_all := lw_g (lw_at lw_m4 188 rfl) rfl
theorem q964 : (Jvm.Cond.methodLink "Bloomclock$Order" (1 : Nat) ({ cls := "java/lang/Object", name := "<init>", desc := "()V" } : Jvm.MethodName)) ∈ lw_all := lw_g (lw_at lw_m4 189 rfl) rfl
theorem q965 : (Jvm.Cond.fieldLink "Bloomclock$Order" (7 : Nat) "Bloomclock$Order" "buyer" "I") ∈ lw_all := lw_g (lw_at lw_m4 190 rfl) rfl
theorem q968 : (Jvm.Cond.fieldLink "Bloomclock$Order" (13 : Nat) "Bloomclock$Order" "cultivar" "I") ∈ lw_all := lw_g (lw_at lw_m4 193 rfl) rfl
theorem q969 : (Jvm.Cond.fieldLink "Bloomclock$Order" (16 : Nat) "Bloomclock$Order" "grade" "I") ∈ lw_all := lw_g (lw_at lw_m4 194 rfl) rfl
theorem q970 : (Jvm.Cond.fieldLink "Bloomclock$Order" (19 : Nat) "Bloomclock$Order" "shown" "I") ∈ lw_all := lw_g (lw_at lw_m4 195 rfl) rfl
theorem q971 : (Jvm.Cond.fieldLink "Bloomclock$Order" (22 : Nat) "Bloomclock$Order" "mark" "I") ∈ lw_all := lw_g (lw_at lw_m4 196 rfl) rfl
theorem q972 : (Jvm.Cond.fieldLink "Bloomclock$Order" (25 : Nat) "Bloomclock$Order" "limit" "I") ∈ lw_all := lw_g (lw_at lw_m4 197 rfl) rfl
theorem q976 : (Jvm.Cond.laysFinal "Bloomclock$Order" "Bloomclock$Order" "buyer" "I") ∈ lw_all := lw_g (lw_at lw_m4 201 rfl) rfl
theorem q977 : (Jvm.Cond.soleField "Bloomclock$Order" "buyer") ∈ lw_all := lw_g (lw_at lw_m4 202 rfl) rfl
theorem q978 : (Jvm.Cond.laysFinal "Bloomclock$Order" "Bloomclock$Order" "cultivar" "I") ∈ lw_all := lw_g (lw_at lw_m4 203 rfl) rfl
theorem q979 : (Jvm.Cond.soleField "Bloomclock$Order" "cultivar") ∈ lw_all := lw_g (lw_at lw_m4 204 rfl) rfl
theorem q980 : (Jvm.Cond.laysFinal "Bloomclock$Order" "Bloomclock$Order" "grade" "I") ∈ lw_all := lw_g (lw_at lw_m4 205 rfl) rfl
theorem q981 : (Jvm.Cond.soleField "Bloomclock$Order" "grade") ∈ lw_all := lw_g (lw_at lw_m4 206 rfl) rfl
theorem q982 : (Jvm.Cond.laysFinal "Bloomclock$Order" "Bloomclock$Order" "shown" "I") ∈ lw_all := lw_g (lw_at lw_m4 207 rfl) rfl
theorem q983 : (Jvm.Cond.soleField "Bloomclock$Order" "shown") ∈ lw_all := lw_g (lw_at lw_m4 208 rfl) rfl
theorem q984 : (Jvm.Cond.laysFinal "Bloomclock$Order" "Bloomclock$Order" "mark" "I") ∈ lw_all := lw_g (lw_at lw_m4 209 rfl) rfl
theorem q985 : (Jvm.Cond.soleField "Bloomclock$Order" "mark") ∈ lw_all := lw_g (lw_at lw_m4 210 rfl) rfl
theorem q986 : (Jvm.Cond.laysFinal "Bloomclock$Order" "Bloomclock$Order" "limit" "I") ∈ lw_all := lw_g (lw_at lw_m4 211 rfl) rfl
theorem q987 : (Jvm.Cond.soleField "Bloomclock$Order" "limit") ∈ lw_all := lw_g (lw_at lw_m4 212 rfl) rfl
theorem q988 : (Jvm.Cond.lays "Bloomclock$Order" "Bloomclock$Order" "wants" "I") ∈ lw_all := lw_g (lw_at lw_m4 213 rfl) rfl
theorem q989 : (Jvm.Cond.soleField "Bloomclock$Order" "wants") ∈ lw_all := lw_g (lw_at lw_m4 214 rfl) rfl
theorem q990 : (Jvm.Cond.superclass "Bloomclock$Order" "java/lang/Object") ∈ lw_all := lw_g (lw_at lw_m4 215 rfl) rfl
theorem q1872 : (Jvm.Cond.selects "Bloomclock$Order" ({ cls := "java/lang/Object", name := "equals", desc := "(Ljava/lang/Object;)Z" } : Jvm.MethodName) ({ cls := "java/lang/Object", name := "equals", desc := "(Ljava/lang/Object;)Z" } : Jvm.MethodName)) ∈ lw_all := lw_g (lw_at lw_m8 137 rfl) rfl
theorem q2067 : (Jvm.Cond.castable "Bloomclock$Order" "java/lang/Object") ∈ lw_tbl := lw_at lw_m9 92 rfl
theorem in_X12 : ∀ w ∈ wsX120, w ∈ lw_all := lw_in wsX120 [976, 978, 980, 982, 984, 986, 988] (by decide +kernel) (by decide +kernel)
/-! Bloomclock$Auction -/
set_option maxRecDepth 100000
def RX14 : String := "Bloomclock$Auction"
def TX14 : u_T := fun k => match k with
  | 0 => ("Bloomclock$Auction", "lot", "LBloomclock$Lot;", true)
  | 1 => ("Bloomclock$Auction", "shown", "I", true)
  | 2 => ("Bloomclock$Auction", "mark", "I", true)
  | 3 => ("Bloomclock$Auction", "minimum", "I", true)
  | 4 => ("Bloomclock$Auction", "orders", "Ljava/util/List;", true)
  | 5 => ("Bloomclock$Auction", "buyers", "Ljava/util/List;", true)
  | 6 => ("Bloomclock$Auction", "coins", "[I", true)
  | 7 => ("Bloomclock$Auction", "wants", "[I", true)
  | 8 => ("Bloomclock$Auction", "isOut", "[Z", true)
  | 9 => ("Bloomclock$Auction", "stems", "I", false)
  | 10 => ("Bloomclock$Auction", "buckets", "I", false)
  | 11 => ("Bloomclock$Auction", "start", "I", false)
  | 12 => ("Bloomclock$Auction", "order", "I", false)
  | 13 => ("Bloomclock$Auction", "price", "I", false)
  | 14 => ("Bloomclock$Auction", "taken", "I", false)
  | _ => ("Bloomclock$Auction", "packed", "I", false)
def tyX14 : Nat → FieldType := fun k => match k with
  | 0 => .object "Bloomclock$Lot"
  | 1 => .int
  | 2 => .int
  | 3 => .int
  | 4 => .object "java/util/List"
  | 5 => .object "java/util/List"
  | 6 => .array .int
  | 7 => .array .int
  | 8 => .array .boolean
  | 9 => .int
  | 10 => .int
  | 11 => .int
  | 12 => .int
  | 13 => .int
  | 14 => .int
  | _ => .int
abbrev wsX140 : List Cond := u_ws RX14 TX14 16
set_option maxRecDepth 100000 in
theorem nmX14 : ∀ a, a < 16 → ∀ b, b < 16 → a ≠ b → (TX14 a).2.1 ≠ (TX14 b).2.1 := by decide +kernel
set_option maxRecDepth 100000 in
theorem tyX14_ok : ∀ k, k < 16 → parseFieldDescriptor (TX14 k).2.2.1 = some (tyX14 k) := by decide +kernel
abbrev cX14_init : ByteArray := prog_2_method_1_code
def yX14_init : MethodName := ⟨RX14, "<init>", "(LBloomclock$Lot;IIILjava/util/List;Ljava/util/List;)V"⟩
def dkwX14_init_7 : List UInt8 := [167, 255, 219, 177]
abbrev dktX14_init_7 : List UInt8 := dkwX14_init_7 ++ []
def dkwX14_init_6 : List UInt8 := [180, 0, 15, 21, 7, 25, 5, 21, 7, 185, 0, 62, 2, 0, 192, 0, 70, 180, 0, 72, 79, 132, 7, 1]
abbrev dktX14_init_6 : List UInt8 := dkwX14_init_6 ++ dktX14_init_7
def dkwX14_init_5 : List UInt8 := [79, 132, 7, 1, 167, 255, 219, 3, 54, 7, 21, 7, 25, 5, 185, 0, 56, 1, 0, 162, 0, 31, 42]
abbrev dktX14_init_5 : List UInt8 := dkwX14_init_5 ++ dktX14_init_6
def dkwX14_init_4 : List UInt8 := [162, 0, 31, 42, 180, 0, 9, 21, 7, 25, 6, 21, 7, 185, 0, 62, 2, 0, 192, 0, 66, 180, 0, 68]
abbrev dktX14_init_4 : List UInt8 := dkwX14_init_4 ++ dktX14_init_5
def dkwX14_init_3 : List UInt8 := [181, 0, 51, 42, 43, 180, 0, 52, 181, 0, 55, 3, 54, 7, 21, 7, 25, 6, 185, 0, 56, 1, 0]
abbrev dktX14_init_3 : List UInt8 := dkwX14_init_3 ++ dktX14_init_4
def dkwX14_init_2 : List UInt8 := [42, 21, 4, 181, 0, 36, 42, 25, 5, 181, 0, 39, 42, 25, 6, 181, 0, 43, 42, 43, 180, 0, 46]
abbrev dktX14_init_2 : List UInt8 := dkwX14_init_2 ++ dktX14_init_3
def dkwX14_init_1 : List UInt8 := [181, 0, 18, 42, 16, 99, 181, 0, 22, 42, 43, 181, 0, 26, 42, 28, 181, 0, 30, 42, 29, 181, 0, 33]
abbrev dktX14_init_1 : List UInt8 := dkwX14_init_1 ++ dktX14_init_2
def dkwX14_init_0 : List UInt8 := [42, 183, 0, 3, 42, 7, 188, 10, 181, 0, 9, 42, 16, 12, 188, 10, 181, 0, 15, 42, 7, 188, 4]
abbrev dktX14_init_0 : List UInt8 := dkwX14_init_0 ++ dktX14_init_1
theorem dksX14_init_0 : cX14_init.data.toList.drop 0 = dktX14_init_0 := by decide +kernel
theorem dksX14_init_1 : cX14_init.data.toList.drop 23 = dktX14_init_1 := dk_seg dksX14_init_0 23 rfl rfl
theorem dksX14_init_2 : cX14_init.data.toList.drop 47 = dktX14_init_2 := dk_seg dksX14_init_1 24 rfl rfl
theorem dksX14_init_3 : cX14_init.data.toList.drop 70 = dktX14_init_3 := dk_seg dksX14_init_2 23 rfl rfl
theorem dksX14_init_4 : cX14_init.data.toList.drop 93 = dktX14_init_4 := dk_seg dksX14_init_3 23 rfl rfl
theorem dksX14_init_5 : cX14_init.data.toList.drop 117 = dktX14_init_5 := dk_seg dksX14_init_4 24 rfl rfl
theorem dksX14_init_6 : cX14_init.data.toList.drop 140 = dktX14_init_6 := dk_seg dksX14_init_5 23 rfl rfl
theorem dksX14_init_7 : cX14_init.data.toList.drop 164 = dktX14_init_7 := dk_seg dksX14_init_6 24 rfl rfl
theorem dX14_init_0 : decode cX14_init 0 = .ok (.aload_n 0, 1) := dk_42 (dk_at dksX14_init_0 0 rfl rfl)
theorem dX14_init_1 : decode cX14_init 1 = .ok (.invokespecial 3, 3) := dk_183 0 3 (dk_at dksX14_init_0 1 rfl rfl)
theorem dX14_init_4 : decode cX14_init 4 = .ok (.aload_n 0, 1) := dk_42 (dk_at dksX14_init_0 4 rfl rfl)
theorem dX14_init_5 : decode cX14_init 5 = .ok (.iconst 4, 1) := dk_7 (dk_at dksX14_init_0 5 rfl rfl)
theorem dX14_init_6 : decode cX14_init 6 = .ok (.newarray .int, 2) := dk_188_10 (dk_at dksX14_init_0 6 rfl rfl)
theorem dX14_init_8 : decode cX14_init 8 = .ok (.putfield 9, 3) := dk_181 0 9 (dk_at dksX14_init_0 8 rfl rfl)
theorem dX14_init_11 : decode cX14_init 11 = .ok (.aload_n 0, 1) := dk_42 (dk_at dksX14_init_0 11 rfl rfl)
theorem dX14_init_12 : decode cX14_init 12 = .ok (.bipush 12, 2) := dk_16 12 (dk_at dksX14_init_0 12 rfl rfl)
theorem dX14_init_14 : decode cX14_init 14 = .ok (.newarray .int, 2) := dk_188_10 (dk_at dksX14_init_0 14 rfl rfl)
theorem dX14_init_16 : decode cX14_init 16 = .ok (.putfield 15, 3) := dk_181 0 15 (dk_at dksX14_init_0 16 rfl rfl)
theorem dX14_init_19 : decode cX14_init 19 = .ok (.aload_n 0, 1) := dk_42 (dk_at dksX14_init_0 19 rfl rfl)
theorem dX14_init_20 : decode cX14_init 20 = .ok (.iconst 4, 1) := dk_7 (dk_at dksX14_init_0 20 rfl rfl)
theorem dX14_init_21 : decode cX14_init 21 = .ok (.newarray .boolean, 2) := dk_188_4 (dk_at dksX14_init_0 21 rfl rfl)
theorem dX14_init_23 : decode cX14_init 23 = .ok (.putfield 18, 3) := dk_181 0 18 (dk_at dksX14_init_1 0 rfl rfl)
theorem dX14_init_26 : decode cX14_init 26 = .ok (.aload_n 0, 1) := dk_42 (dk_at dksX14_init_1 3 rfl rfl)
theorem dX14_init_27 : decode cX14_init 27 = .ok (.bipush 99, 2) := dk_16 99 (dk_at dksX14_init_1 4 rfl rfl)
theorem dX14_init_29 : decode cX14_init 29 = .ok (.putfield 22, 3) := dk_181 0 22 (dk_at dksX14_init_1 6 rfl rfl)
theorem dX14_init_32 : decode cX14_init 32 = .ok (.aload_n 0, 1) := dk_42 (dk_at dksX14_init_1 9 rfl rfl)
theorem dX14_init_33 : decode cX14_init 33 = .ok (.aload_n 1, 1) := dk_43 (dk_at dksX14_init_1 10 rfl rfl)
theorem dX14_init_34 : decode cX14_init 34 = .ok (.putfield 26, 3) := dk_181 0 26 (dk_at dksX14_init_1 11 rfl rfl)
theorem dX14_init_37 : decode cX14_init 37 = .ok (.aload_n 0, 1) := dk_42 (dk_at dksX14_init_1 14 rfl rfl)
theorem dX14_init_38 : decode cX14_init 38 = .ok (.iload_n 2, 1) := dk_28 (dk_at dksX14_init_1 15 rfl rfl)
theorem dX14_init_39 : decode cX14_init 39 = .ok (.putfield 30, 3) := dk_181 0 30 (dk_at dksX14_init_1 16 rfl rfl)
theorem dX14_init_42 : decode cX14_init 42 = .ok (.aload_n 0, 1) := dk_42 (dk_at dksX14_init_1 19 rfl rfl)
theorem dX14_init_43 : decode cX14_init 43 = .ok (.iload_n 3, 1) := dk_29 (dk_at dksX14_init_1 20 rfl rfl)
theorem dX14_init_44 : decode cX14_init 44 = .ok (.putfield 33, 3) := dk_181 0 33 (dk_at dksX14_init_1 21 rfl rfl)
theorem dX14_init_47 : decode cX14_init 47 = .ok (.aload_n 0, 1) := dk_42 (dk_at dksX14_init_2 0 rfl rfl)
theorem dX14_init_48 : decode cX14_init 48 = .ok (.iload 4, 2) := dk_21 4 (dk_at dksX14_init_2 1 rfl rfl)
theorem dX14_init_50 : decode cX14_init 50 = .ok (.putfield 36, 3) := dk_181 0 36 (dk_at dksX14_init_2 3 rfl rfl)
theorem dX14_init_53 : decode cX14_init 53 = .ok (.aload_n 0, 1) := dk_42 (dk_at dksX14_init_2 6 rfl rfl)
theorem dX14_init_54 : decode cX14_init 54 = .ok (.aload 5, 2) := dk_25 5 (dk_at dksX14_init_2 7 rfl rfl)
theorem dX14_init_56 : decode cX14_init 56 = .ok (.putfield 39, 3) := dk_181 0 39 (dk_at dksX14_init_2 9 rfl rfl)
theorem dX14_init_59 : decode cX14_init 59 = .ok (.aload_n 0, 1) := dk_42 (dk_at dksX14_init_2 12 rfl rfl)
theorem dX14_init_60 : decode cX14_init 60 = .ok (.aload 6, 2) := dk_25 6 (dk_at dksX14_init_2 13 rfl rfl)
theorem dX14_init_62 : decode cX14_init 62 = .ok (.putfield 43, 3) := dk_181 0 43 (dk_at dksX14_init_2 15 rfl rfl)
theorem dX14_init_65 : decode cX14_init 65 = .ok (.aload_n 0, 1) := dk_42 (dk_at dksX14_init_2 18 rfl rfl)
theorem dX14_init_66 : decode cX14_init 66 = .ok (.aload_n 1, 1) := dk_43 (dk_at dksX14_init_2 19 rfl rfl)
theorem dX14_init_67 : decode cX14_init 67 = .ok (.getfield 46, 3) := dk_180 0 46 (dk_at dksX14_init_2 20 rfl rfl)
theorem dX14_init_70 : decode cX14_init 70 = .ok (.putfield 51, 3) := dk_181 0 51 (dk_at dksX14_init_3 0 rfl rfl)
theorem dX14_init_73 : decode cX14_init 73 = .ok (.aload_n 0, 1) := dk_42 (dk_at dksX14_init_3 3 rfl rfl)
theorem dX14_init_74 : decode cX14_init 74 = .ok (.aload_n 1, 1) := dk_43 (dk_at dksX14_init_3 4 rfl rfl)
theorem dX14_init_75 : decode cX14_init 75 = .ok (.getfield 52, 3) := dk_180 0 52 (dk_at dksX14_init_3 5 rfl rfl)
theorem dX14_init_78 : decode cX14_init 78 = .ok (.putfield 55, 3) := dk_181 0 55 (dk_at dksX14_init_3 8 rfl rfl)
theorem dX14_init_81 : decode cX14_init 81 = .ok (.iconst 0, 1) := dk_3 (dk_at dksX14_init_3 11 rfl rfl)
theorem dX14_init_82 : decode cX14_init 82 = .ok (.istore 7, 2) := dk_54 7 (dk_at dksX14_init_3 12 rfl rfl)
theorem dX14_init_84 : decode cX14_init 84 = .ok (.iload 7, 2) := dk_21 7 (dk_at dksX14_init_3 14 rfl rfl)
theorem dX14_init_86 : decode cX14_init 86 = .ok (.aload 6, 2) := dk_25 6 (dk_at dksX14_init_3 16 rfl rfl)
theorem dX14_init_88 : decode cX14_init 88 = .ok (.invokeinterface 56 1, 5) := by decide +kernel
theorem dX14_init_93 : decode cX14_init 93 = .ok (.if_icmp .ge 31, 3) := dk_162 0 31 (dk_at dksX14_init_4 0 rfl rfl)
theorem dX14_init_96 : decode cX14_init 96 = .ok (.aload_n 0, 1) := dk_42 (dk_at dksX14_init_4 3 rfl rfl)
theorem dX14_init_97 : decode cX14_init 97 = .ok (.getfield 9, 3) := dk_180 0 9 (dk_at dksX14_init_4 4 rfl rfl)
theorem dX14_init_100 : decode cX14_init 100 = .ok (.iload 7, 2) := dk_21 7 (dk_at dksX14_init_4 7 rfl rfl)
theorem dX14_init_102 : decode cX14_init 102 = .ok (.aload 6, 2) := dk_25 6 (dk_at dksX14_init_4 9 rfl rfl)
theorem dX14_init_104 : decode cX14_init 104 = .ok (.iload 7, 2) := dk_21 7 (dk_at dksX14_init_4 11 rfl rfl)
theorem dX14_init_106 : decode cX14_init 106 = .ok (.invokeinterface 62 2, 5) := by decide +kernel
theorem dX14_init_111 : decode cX14_init 111 = .ok (.checkcast 66, 3) := dk_192 0 66 (dk_at dksX14_init_4 18 rfl rfl)
theorem dX14_init_114 : decode cX14_init 114 = .ok (.getfield 68, 3) := dk_180 0 68 (dk_at dksX14_init_4 21 rfl rfl)
theorem dX14_init_117 : decode cX14_init 117 = .ok (.iastore, 1) := dk_79 (dk_at dksX14_init_5 0 rfl rfl)
theorem dX14_init_118 : decode cX14_init 118 = .ok (.iinc 7 1, 3) := dk_132 7 1 (dk_at dksX14_init_5 1 rfl rfl)
theorem dX14_init_121 : decode cX14_init 121 = .ok (.goto (-37), 3) := dk_167 255 219 (dk_at dksX14_init_5 4 rfl rfl)
theorem dX14_init_124 : decode cX14_init 124 = .ok (.iconst 0, 1) := dk_3 (dk_at dksX14_init_5 7 rfl rfl)
theorem dX14_init_125 : decode cX14_init 125 = .ok (.istore 7, 2) := dk_54 7 (dk_at dksX14_init_5 8 rfl rfl)
theorem dX14_init_127 : decode cX14_init 127 = .ok (.iload 7, 2) := dk_21 7 (dk_at dksX14_init_5 10 rfl rfl)
theorem dX14_init_129 : decode cX14_init 129 = .ok (.aload 5, 2) := dk_25 5 (dk_at dksX14_init_5 12 rfl rfl)
theorem dX14_init_131 : decode cX14_init 131 = .ok (.invokeinterface 56 1, 5) := by decide +kernel
theorem dX14_init_136 : decode cX14_init 136 = .ok (.if_icmp .ge 31, 3) := dk_162 0 31 (dk_at dksX14_init_5 19 rfl rfl)
theorem dX14_init_139 : decode cX14_init 139 = .ok (.aload_n 0, 1) := dk_42 (dk_at dksX14_init_5 22 rfl rfl)
theorem dX14_init_140 : decode cX14_init 140 = .ok (.getfield 15, 3) := dk_180 0 15 (dk_at dksX14_init_6 0 rfl rfl)
theorem dX14_init_143 : decode cX14_init 143 = .ok (.iload 7, 2) := dk_21 7 (dk_at dksX14_init_6 3 rfl rfl)
theorem dX14_init_145 : decode cX14_init 145 = .ok (.aload 5, 2) := dk_25 5 (dk_at dksX14_init_6 5 rfl rfl)
theorem dX14_init_147 : decode cX14_init 147 = .ok (.iload 7, 2) := dk_21 7 (dk_at dksX14_init_6 7 rfl rfl)
theorem dX14_init_149 : decode cX14_init 149 = .ok (.invokeinterface 62 2, 5) := by decide +kernel
theorem dX14_init_154 : decode cX14_init 154 = .ok (.checkcast 70, 3) := dk_192 0 70 (dk_at dksX14_init_6 14 rfl rfl)
theorem dX14_init_157 : decode cX14_init 157 = .ok (.getfield 72, 3) := dk_180 0 72 (dk_at dksX14_init_6 17 rfl rfl)
theorem dX14_init_160 : decode cX14_init 160 = .ok (.iastore, 1) := dk_79 (dk_at dksX14_init_6 20 rfl rfl)
theorem dX14_init_161 : decode cX14_init 161 = .ok (.iinc 7 1, 3) := dk_132 7 1 (dk_at dksX14_init_6 21 rfl rfl)
theorem dX14_init_164 : decode cX14_init 164 = .ok (.goto (-37), 3) := dk_167 255 219 (dk_at dksX14_init_7 0 rfl rfl)
theorem dX14_init_167 : decode cX14_init 167 = .ok (.return_, 1) := dk_177 (dk_at dksX14_init_7 3 rfl rfl)
abbrev cX14_goesOn : ByteArray := prog_2_method_4_code
def yX14_goesOn : MethodName := ⟨RX14, "goesOn", "()Z"⟩
def dkwX14_goesOn_6 : List UInt8 := [42, 180, 0, 18, 27, 4, 84, 167, 255, 110, 3, 172]
abbrev dktX14_goesOn_6 : List UInt8 := dkwX14_goesOn_6 ++ []
def dkwX14_goesOn_5 : List UInt8 := [180, 0, 97, 108, 184, 0, 100, 181, 0, 109, 42, 180, 0, 109, 158, 0, 10, 42, 27, 182, 0, 112, 4, 172]
abbrev dktX14_goesOn_5 : List UInt8 := dkwX14_goesOn_5 ++ dktX14_goesOn_6
def dkwX14_goesOn_4 : List UInt8 := [180, 0, 94, 46, 42, 180, 0, 51, 184, 0, 100, 3, 42, 180, 0, 9, 27, 46, 184, 0, 106, 42]
abbrev dktX14_goesOn_4 : List UInt8 := dkwX14_goesOn_4 ++ dktX14_goesOn_5
def dkwX14_goesOn_3 : List UInt8 := [181, 0, 97, 42, 180, 0, 97, 42, 180, 0, 36, 162, 0, 5, 3, 172, 42, 42, 180, 0, 15, 42]
abbrev dktX14_goesOn_3 : List UInt8 := dkwX14_goesOn_3 ++ dktX14_goesOn_4
def dkwX14_goesOn_2 : List UInt8 := [180, 0, 22, 42, 42, 180, 0, 39, 42, 180, 0, 94, 185, 0, 62, 2, 0, 192, 0, 70, 182, 0, 87, 100]
abbrev dktX14_goesOn_2 : List UInt8 := dkwX14_goesOn_2 ++ dktX14_goesOn_3
def dkwX14_goesOn_1 : List UInt8 := [172, 42, 180, 0, 39, 42, 180, 0, 94, 185, 0, 62, 2, 0, 192, 0, 70, 180, 0, 77, 60, 42, 42]
abbrev dktX14_goesOn_1 : List UInt8 := dkwX14_goesOn_1 ++ dktX14_goesOn_2
def dkwX14_goesOn_0 : List UInt8 := [42, 180, 0, 51, 158, 0, 145, 42, 42, 182, 0, 91, 181, 0, 94, 42, 180, 0, 94, 2, 160, 0, 5, 3]
abbrev dktX14_goesOn_0 : List UInt8 := dkwX14_goesOn_0 ++ dktX14_goesOn_1
theorem dksX14_goesOn_0 : cX14_goesOn.data.toList.drop 0 = dktX14_goesOn_0 := by decide +kernel
theorem dksX14_goesOn_1 : cX14_goesOn.data.toList.drop 24 = dktX14_goesOn_1 := dk_seg dksX14_goesOn_0 24 rfl rfl
theorem dksX14_goesOn_2 : cX14_goesOn.data.toList.drop 47 = dktX14_goesOn_2 := dk_seg dksX14_goesOn_1 23 rfl rfl
theorem dksX14_goesOn_3 : cX14_goesOn.data.toList.drop 71 = dktX14_goesOn_3 := dk_seg dksX14_goesOn_2 24 rfl rfl
theorem dksX14_goesOn_4 : cX14_goesOn.data.toList.drop 93 = dktX14_goesOn_4 := dk_seg dksX14_goesOn_3 22 rfl rfl
theorem dksX14_goesOn_5 : cX14_goesOn.data.toList.drop 115 = dktX14_goesOn_5 := dk_seg dksX14_goesOn_4 22 rfl rfl
theorem dksX14_goesOn_6 : cX14_goesOn.data.toList.drop 139 = dktX14_goesOn_6 := dk_seg dksX14_goesOn_5 24 rfl rfl
theorem dX14_goesOn_0 : decode cX14_goesOn 0 = .ok (.aload_n 0, 1) := dk_42 (dk_at dksX14_goesOn_0 0 rfl rfl)
theorem dX14_goesOn_1 : decode cX14_goesOn 1 = .ok (.getfield 51, 3) := dk_180 0 51 (dk_at dksX14_goesOn_0 1 rfl rfl)
theorem dX14_goesOn_4 : decode cX14_goesOn 4 = .ok (.ifCond .le 145, 3) := dk_158 0 145 (dk_at dksX14_goesOn_0 4 rfl rfl)
theorem dX14_goesOn_7 : decode cX14_goesOn 7 = .ok (.aload_n 0, 1) := dk_42 (dk_at dksX14_goesOn_0 7 rfl rfl)
theorem dX14_goesOn_8 : decode cX14_goesOn 8 = .ok (.aload_n 0, 1) := dk_42 (dk_at dksX14_goesOn_0 8 rfl rfl)
theorem dX14_goesOn_9 : decode cX14_goesOn 9 = .ok (.invokevirtual 91, 3) := dk_182 0 91 (dk_at dksX14_goesOn_0 9 rfl rfl)
theorem dX14_goesOn_12 : decode cX14_goesOn 12 = .ok (.putfield 94, 3) := dk_181 0 94 (dk_at dksX14_goesOn_0 12 rfl rfl)
theorem dX14_goesOn_15 : decode cX14_goesOn 15 = .ok (.aload_n 0, 1) := dk_42 (dk_at dksX14_goesOn_0 15 rfl rfl)
theorem dX14_goesOn_16 : decode cX14_goesOn 16 = .ok (.getfield 94, 3) := dk_180 0 94 (dk_at dksX14_goesOn_0 16 rfl rfl)
theorem dX14_goesOn_19 : decode cX14_goesOn 19 = .ok (.iconst (-1), 1) := dk_2 (dk_at dksX14_goesOn_0 19 rfl rfl)
theorem dX14_goesOn_20 : decode cX14_goesOn 20 = .ok (.if_icmp .ne 5, 3) := dk_160 0 5 (dk_at dksX14_goesOn_0 20 rfl rfl)
theorem dX14_goesOn_23 : decode cX14_goesOn 23 = .ok (.iconst 0, 1) := dk_3 (dk_at dksX14_goesOn_0 23 rfl rfl)
theorem dX14_goesOn_24 : decode cX14_goesOn 24 = .ok (.ireturn, 1) := dk_172 (dk_at dksX14_goesOn_1 0 rfl rfl)
theorem dX14_goesOn_25 : decode cX14_goesOn 25 = .ok (.aload_n 0, 1) := dk_42 (dk_at dksX14_goesOn_1 1 rfl rfl)
theorem dX14_goesOn_26 : decode cX14_goesOn 26 = .ok (.getfield 39, 3) := dk_180 0 39 (dk_at dksX14_goesOn_1 2 rfl rfl)
theorem dX14_goesOn_29 : decode cX14_goesOn 29 = .ok (.aload_n 0, 1) := dk_42 (dk_at dksX14_goesOn_1 5 rfl rfl)
theorem dX14_goesOn_30 : decode cX14_goesOn 30 = .ok (.getfield 94, 3) := dk_180 0 94 (dk_at dksX14_goesOn_1 6 rfl rfl)
theorem dX14_goesOn_33 : decode cX14_goesOn 33 = .ok (.invokeinterface 62 2, 5) := by decide +kernel
theorem dX14_goesOn_38 : decode cX14_goesOn 38 = .ok (.checkcast 70, 3) := dk_192 0 70 (dk_at dksX14_goesOn_1 14 rfl rfl)
theorem dX14_goesOn_41 : decode cX14_goesOn 41 = .ok (.getfield 77, 3) := dk_180 0 77 (dk_at dksX14_goesOn_1 17 rfl rfl)
theorem dX14_goesOn_44 : decode cX14_goesOn 44 = .ok (.istore_n 1, 1) := dk_60 (dk_at dksX14_goesOn_1 20 rfl rfl)
theorem dX14_goesOn_45 : decode cX14_goesOn 45 = .ok (.aload_n 0, 1) := dk_42 (dk_at dksX14_goesOn_1 21 rfl rfl)
theorem dX14_goesOn_46 : decode cX14_goesOn 46 = .ok (.aload_n 0, 1) := dk_42 (dk_at dksX14_goesOn_1 22 rfl rfl)
theorem dX14_goesOn_47 : decode cX14_goesOn 47 = .ok (.getfield 22, 3) := dk_180 0 22 (dk_at dksX14_goesOn_2 0 rfl rfl)
theorem dX14_goesOn_50 : decode cX14_goesOn 50 = .ok (.aload_n 0, 1) := dk_42 (dk_at dksX14_goesOn_2 3 rfl rfl)
theorem dX14_goesOn_51 : decode cX14_goesOn 51 = .ok (.aload_n 0, 1) := dk_42 (dk_at dksX14_goesOn_2 4 rfl rfl)
theorem dX14_goesOn_52 : decode cX14_goesOn 52 = .ok (.getfield 39, 3) := dk_180 0 39 (dk_at dksX14_goesOn_2 5 rfl rfl)
theorem dX14_goesOn_55 : decode cX14_goesOn 55 = .ok (.aload_n 0, 1) := dk_42 (dk_at dksX14_goesOn_2 8 rfl rfl)
theorem dX14_goesOn_56 : decode cX14_goesOn 56 = .ok (.getfield 94, 3) := dk_180 0 94 (dk_at dksX14_goesOn_2 9 rfl rfl)
theorem dX14_goesOn_59 : decode cX14_goesOn 59 = .ok (.invokeinterface 62 2, 5) := by decide +kernel
theorem dX14_goesOn_64 : decode cX14_goesOn 64 = .ok (.checkcast 70, 3) := dk_192 0 70 (dk_at dksX14_goesOn_2 17 rfl rfl)
theorem dX14_goesOn_67 : decode cX14_goesOn 67 = .ok (.invokevirtual 87, 3) := dk_182 0 87 (dk_at dksX14_goesOn_2 20 rfl rfl)
theorem dX14_goesOn_70 : decode cX14_goesOn 70 = .ok (.isub, 1) := dk_100 (dk_at dksX14_goesOn_2 23 rfl rfl)
theorem dX14_goesOn_71 : decode cX14_goesOn 71 = .ok (.putfield 97, 3) := dk_181 0 97 (dk_at dksX14_goesOn_3 0 rfl rfl)
theorem dX14_goesOn_74 : decode cX14_goesOn 74 = .ok (.aload_n 0, 1) := dk_42 (dk_at dksX14_goesOn_3 3 rfl rfl)
theorem dX14_goesOn_75 : decode cX14_goesOn 75 = .ok (.getfield 97, 3) := dk_180 0 97 (dk_at dksX14_goesOn_3 4 rfl rfl)
theorem dX14_goesOn_78 : decode cX14_goesOn 78 = .ok (.aload_n 0, 1) := dk_42 (dk_at dksX14_goesOn_3 7 rfl rfl)
theorem dX14_goesOn_79 : decode cX14_goesOn 79 = .ok (.getfield 36, 3) := dk_180 0 36 (dk_at dksX14_goesOn_3 8 rfl rfl)
theorem dX14_goesOn_82 : decode cX14_goesOn 82 = .ok (.if_icmp .ge 5, 3) := dk_162 0 5 (dk_at dksX14_goesOn_3 11 rfl rfl)
theorem dX14_goesOn_85 : decode cX14_goesOn 85 = .ok (.iconst 0, 1) := dk_3 (dk_at dksX14_goesOn_3 14 rfl rfl)
theorem dX14_goesOn_86 : decode cX14_goesOn 86 = .ok (.ireturn, 1) := dk_172 (dk_at dksX14_goesOn_3 15 rfl rfl)
theorem dX14_goesOn_87 : decode cX14_goesOn 87 = .ok (.aload_n 0, 1) := dk_42 (dk_at dksX14_goesOn_3 16 rfl rfl)
theorem dX14_goesOn_88 : decode cX14_goesOn 88 = .ok (.aload_n 0, 1) := dk_42 (dk_at dksX14_goesOn_3 17 rfl rfl)
theorem dX14_goesOn_89 : decode cX14_goesOn 89 = .ok (.getfield 15, 3) := dk_180 0 15 (dk_at dksX14_goesOn_3 18 rfl rfl)
theorem dX14_goesOn_92 : decode cX14_goesOn 92 = .ok (.aload_n 0, 1) := dk_42 (dk_at dksX14_goesOn_3 21 rfl rfl)
theorem dX14_goesOn_93 : decode cX14_goesOn 93 = .ok (.getfield 94, 3) := dk_180 0 94 (dk_at dksX14_goesOn_4 0 rfl rfl)
theorem dX14_goesOn_96 : decode cX14_goesOn 96 = .ok (.iaload, 1) := dk_46 (dk_at dksX14_goesOn_4 3 rfl rfl)
theorem dX14_goesOn_97 : decode cX14_goesOn 97 = .ok (.aload_n 0, 1) := dk_42 (dk_at dksX14_goesOn_4 4 rfl rfl)
theorem dX14_goesOn_98 : decode cX14_goesOn 98 = .ok (.getfield 51, 3) := dk_180 0 51 (dk_at dksX14_goesOn_4 5 rfl rfl)
theorem dX14_goesOn_101 : decode cX14_goesOn 101 = .ok (.invokestatic 100, 3) := dk_184 0 100 (dk_at dksX14_goesOn_4 8 rfl rfl)
theorem dX14_goesOn_104 : decode cX14_goesOn 104 = .ok (.iconst 0, 1) := dk_3 (dk_at dksX14_goesOn_4 11 rfl rfl)
theorem dX14_goesOn_105 : decode cX14_goesOn 105 = .ok (.aload_n 0, 1) := dk_42 (dk_at dksX14_goesOn_4 12 rfl rfl)
theorem dX14_goesOn_106 : decode cX14_goesOn 106 = .ok (.getfield 9, 3) := dk_180 0 9 (dk_at dksX14_goesOn_4 13 rfl rfl)
theorem dX14_goesOn_109 : decode cX14_goesOn 109 = .ok (.iload_n 1, 1) := dk_27 (dk_at dksX14_goesOn_4 16 rfl rfl)
theorem dX14_goesOn_110 : decode cX14_goesOn 110 = .ok (.iaload, 1) := dk_46 (dk_at dksX14_goesOn_4 17 rfl rfl)
theorem dX14_goesOn_111 : decode cX14_goesOn 111 = .ok (.invokestatic 106, 3) := dk_184 0 106 (dk_at dksX14_goesOn_4 18 rfl rfl)
theorem dX14_goesOn_114 : decode cX14_goesOn 114 = .ok (.aload_n 0, 1) := dk_42 (dk_at dksX14_goesOn_4 21 rfl rfl)
theorem dX14_goesOn_115 : decode cX14_goesOn 115 = .ok (.getfield 97, 3) := dk_180 0 97 (dk_at dksX14_goesOn_5 0 rfl rfl)
theorem dX14_goesOn_118 : decode cX14_goesOn 118 = .ok (.idiv, 1) := dk_108 (dk_at dksX14_goesOn_5 3 rfl rfl)
theorem dX14_goesOn_119 : decode cX14_goesOn 119 = .ok (.invokestatic 100, 3) := dk_184 0 100 (dk_at dksX14_goesOn_5 4 rfl rfl)
theorem dX14_goesOn_122 : decode cX14_goesOn 122 = .ok (.putfield 109, 3) := dk_181 0 109 (dk_at dksX14_goesOn_5 7 rfl rfl)
theorem dX14_goesOn_125 : decode cX14_goesOn 125 = .ok (.aload_n 0, 1) := dk_42 (dk_at dksX14_goesOn_5 10 rfl rfl)
theorem dX14_goesOn_126 : decode cX14_goesOn 126 = .ok (.getfield 109, 3) := dk_180 0 109 (dk_at dksX14_goesOn_5 11 rfl rfl)
theorem dX14_goesOn_129 : decode cX14_goesOn 129 = .ok (.ifCond .le 10, 3) := dk_158 0 10 (dk_at dksX14_goesOn_5 14 rfl rfl)
theorem dX14_goesOn_132 : decode cX14_goesOn 132 = .ok (.aload_n 0, 1) := dk_42 (dk_at dksX14_goesOn_5 17 rfl rfl)
theorem dX14_goesOn_133 : decode cX14_goesOn 133 = .ok (.iload_n 1, 1) := dk_27 (dk_at dksX14_goesOn_5 18 rfl rfl)
theorem dX14_goesOn_134 : decode cX14_goesOn 134 = .ok (.invokevirtual 112, 3) := dk_182 0 112 (dk_at dksX14_goesOn_5 19 rfl rfl)
theorem dX14_goesOn_137 : decode cX14_goesOn 137 = .ok (.iconst 1, 1) := dk_4 (dk_at dksX14_goesOn_5 22 rfl rfl)
theorem dX14_goesOn_138 : decode cX14_goesOn 138 = .ok (.ireturn, 1) := dk_172 (dk_at dksX14_goesOn_5 23 rfl rfl)
theorem dX14_goesOn_139 : decode cX14_goesOn 139 = .ok (.aload_n 0, 1) := dk_42 (dk_at dksX14_goesOn_6 0 rfl rfl)
theorem dX14_goesOn_140 : decode cX14_goesOn 140 = .ok (.getfield 18, 3) := dk_180 0 18 (dk_at dksX14_goesOn_6 1 rfl rfl)
theorem dX14_goesOn_143 : decode cX14_goesOn 143 = .ok (.iload_n 1, 1) := dk_27 (dk_at dksX14_goesOn_6 4 rfl rfl)
theorem dX14_goesOn_144 : decode cX14_goesOn 144 = .ok (.iconst 1, 1) := dk_4 (dk_at dksX14_goesOn_6 5 rfl rfl)
theorem dX14_goesOn_145 : decode cX14_goesOn 145 = .ok (.bastore, 1) := dk_84 (dk_at dksX14_goesOn_6 6 rfl rfl)
theorem dX14_goesOn_146 : decode cX14_goesOn 146 = .ok (.goto (-146), 3) := dk_167 255 110 (dk_at dksX14_goesOn_6 7 rfl rfl)
theorem dX14_goesOn_149 : decode cX14_goesOn 149 = .ok (.iconst 0, 1) := dk_3 (dk_at dksX14_goesOn_6 10 rfl rfl)
theorem dX14_goesOn_150 : decode cX14_goesOn 150 = .ok (.ireturn, 1) := dk_172 (dk_at dksX14_goesOn_6 11 rfl rfl)
abbrev cX14_first : ByteArray := prog_2_method_3_code
def yX14_first : MethodName := ⟨RX14, "first", "()I"⟩
def dkwX14_first_6 : List UInt8 := [180, 0, 77, 162, 0, 7, 28, 167, 0, 4, 27, 60, 132, 2, 1, 167, 255, 110, 27, 172]
abbrev dktX14_first_6 : List UInt8 := dkwX14_first_6 ++ []
def dkwX14_first_5 : List UInt8 := [21, 4, 154, 0, 30, 45, 180, 0, 77, 42, 180, 0, 39, 27, 185, 0, 62, 2, 0, 192, 0, 70]
abbrev dktX14_first_5 : List UInt8 := dkwX14_first_5 ++ dktX14_first_6
def dkwX14_first_4 : List UInt8 := [185, 0, 62, 2, 0, 192, 0, 70, 182, 0, 87, 42, 45, 182, 0, 87, 100, 54, 4, 21, 4, 157, 0, 31]
abbrev dktX14_first_4 : List UInt8 := dkwX14_first_4 ++ dktX14_first_5
def dkwX14_first_3 : List UInt8 := [154, 0, 6, 167, 0, 76, 27, 2, 160, 0, 7, 4, 167, 0, 26, 42, 42, 180, 0, 39, 27]
abbrev dktX14_first_3 : List UInt8 := dkwX14_first_3 ++ dktX14_first_4
def dkwX14_first_2 : List UInt8 := [180, 0, 77, 51, 154, 0, 98, 45, 42, 180, 0, 26, 42, 180, 0, 30, 42, 180, 0, 33, 182, 0, 83]
abbrev dktX14_first_2 : List UInt8 := dkwX14_first_2 ++ dktX14_first_3
def dkwX14_first_1 : List UInt8 := [185, 0, 62, 2, 0, 192, 0, 70, 78, 42, 180, 0, 15, 28, 46, 153, 0, 110, 42, 180, 0, 18, 45]
abbrev dktX14_first_1 : List UInt8 := dkwX14_first_1 ++ dktX14_first_2
def dkwX14_first_0 : List UInt8 := [2, 60, 3, 61, 28, 42, 180, 0, 39, 185, 0, 56, 1, 0, 162, 0, 139, 42, 180, 0, 39, 28]
abbrev dktX14_first_0 : List UInt8 := dkwX14_first_0 ++ dktX14_first_1
theorem dksX14_first_0 : cX14_first.data.toList.drop 0 = dktX14_first_0 := by decide +kernel
theorem dksX14_first_1 : cX14_first.data.toList.drop 22 = dktX14_first_1 := dk_seg dksX14_first_0 22 rfl rfl
theorem dksX14_first_2 : cX14_first.data.toList.drop 45 = dktX14_first_2 := dk_seg dksX14_first_1 23 rfl rfl
theorem dksX14_first_3 : cX14_first.data.toList.drop 68 = dktX14_first_3 := dk_seg dksX14_first_2 23 rfl rfl
theorem dksX14_first_4 : cX14_first.data.toList.drop 89 = dktX14_first_4 := dk_seg dksX14_first_3 21 rfl rfl
theorem dksX14_first_5 : cX14_first.data.toList.drop 113 = dktX14_first_5 := dk_seg dksX14_first_4 24 rfl rfl
theorem dksX14_first_6 : cX14_first.data.toList.drop 135 = dktX14_first_6 := dk_seg dksX14_first_5 22 rfl rfl
theorem dX14_first_0 : decode cX14_first 0 = .ok (.iconst (-1), 1) := dk_2 (dk_at dksX14_first_0 0 rfl rfl)
theorem dX14_first_1 : decode cX14_first 1 = .ok (.istore_n 1, 1) := dk_60 (dk_at dksX14_first_0 1 rfl rfl)
theorem dX14_first_2 : decode cX14_first 2 = .ok (.iconst 0, 1) := dk_3 (dk_at dksX14_first_0 2 rfl rfl)
theorem dX14_first_3 : decode cX14_first 3 = .ok (.istore_n 2, 1) := dk_61 (dk_at dksX14_first_0 3 rfl rfl)
theorem dX14_first_4 : decode cX14_first 4 = .ok (.iload_n 2, 1) := dk_28 (dk_at dksX14_first_0 4 rfl rfl)
theorem dX14_first_5 : decode cX14_first 5 = .ok (.aload_n 0, 1) := dk_42 (dk_at dksX14_first_0 5 rfl rfl)
theorem dX14_first_6 : decode cX14_first 6 = .ok (.getfield 39, 3) := dk_180 0 39 (dk_at dksX14_first_0 6 rfl rfl)
theorem dX14_first_9 : decode cX14_first 9 = .ok (.invokeinterface 56 1, 5) := by decide +kernel
theorem dX14_first_14 : decode cX14_first 14 = .ok (.if_icmp .ge 139, 3) := dk_162 0 139 (dk_at dksX14_first_0 14 rfl rfl)
theorem dX14_first_17 : decode cX14_first 17 = .ok (.aload_n 0, 1) := dk_42 (dk_at dksX14_first_0 17 rfl rfl)
theorem dX14_first_18 : decode cX14_first 18 = .ok (.getfield 39, 3) := dk_180 0 39 (dk_at dksX14_first_0 18 rfl rfl)
theorem dX14_first_21 : decode cX14_first 21 = .ok (.iload_n 2, 1) := dk_28 (dk_at dksX14_first_0 21 rfl rfl)
theorem dX14_first_22 : decode cX14_first 22 = .ok (.invokeinterface 62 2, 5) := by decide +kernel
theorem dX14_first_27 : decode cX14_first 27 = .ok (.checkcast 70, 3) := dk_192 0 70 (dk_at dksX14_first_1 5 rfl rfl)
theorem dX14_first_30 : decode cX14_first 30 = .ok (.astore_n 3, 1) := dk_78 (dk_at dksX14_first_1 8 rfl rfl)
theorem dX14_first_31 : decode cX14_first 31 = .ok (.aload_n 0, 1) := dk_42 (dk_at dksX14_first_1 9 rfl rfl)
theorem dX14_first_32 : decode cX14_first 32 = .ok (.getfield 15, 3) := dk_180 0 15 (dk_at dksX14_first_1 10 rfl rfl)
theorem dX14_first_35 : decode cX14_first 35 = .ok (.iload_n 2, 1) := dk_28 (dk_at dksX14_first_1 13 rfl rfl)
theorem dX14_first_36 : decode cX14_first 36 = .ok (.iaload, 1) := dk_46 (dk_at dksX14_first_1 14 rfl rfl)
theorem dX14_first_37 : decode cX14_first 37 = .ok (.ifCond .eq 110, 3) := dk_153 0 110 (dk_at dksX14_first_1 15 rfl rfl)
theorem dX14_first_40 : decode cX14_first 40 = .ok (.aload_n 0, 1) := dk_42 (dk_at dksX14_first_1 18 rfl rfl)
theorem dX14_first_41 : decode cX14_first 41 = .ok (.getfield 18, 3) := dk_180 0 18 (dk_at dksX14_first_1 19 rfl rfl)
theorem dX14_first_44 : decode cX14_first 44 = .ok (.aload_n 3, 1) := dk_45 (dk_at dksX14_first_1 22 rfl rfl)
theorem dX14_first_45 : decode cX14_first 45 = .ok (.getfield 77, 3) := dk_180 0 77 (dk_at dksX14_first_2 0 rfl rfl)
theorem dX14_first_48 : decode cX14_first 48 = .ok (.baload, 1) := dk_51 (dk_at dksX14_first_2 3 rfl rfl)
theorem dX14_first_49 : decode cX14_first 49 = .ok (.ifCond .ne 98, 3) := dk_154 0 98 (dk_at dksX14_first_2 4 rfl rfl)
theorem dX14_first_52 : decode cX14_first 52 = .ok (.aload_n 3, 1) := dk_45 (dk_at dksX14_first_2 7 rfl rfl)
theorem dX14_first_53 : decode cX14_first 53 = .ok (.aload_n 0, 1) := dk_42 (dk_at dksX14_first_2 8 rfl rfl)
theorem dX14_first_54 : decode cX14_first 54 = .ok (.getfield 26, 3) := dk_180 0 26 (dk_at dksX14_first_2 9 rfl rfl)
theorem dX14_first_57 : decode cX14_first 57 = .ok (.aload_n 0, 1) := dk_42 (dk_at dksX14_first_2 12 rfl rfl)
theorem dX14_first_58 : decode cX14_first 58 = .ok (.getfield 30, 3) := dk_180 0 30 (dk_at dksX14_first_2 13 rfl rfl)
theorem dX14_first_61 : decode cX14_first 61 = .ok (.aload_n 0, 1) := dk_42 (dk_at dksX14_first_2 16 rfl rfl)
theorem dX14_first_62 : decode cX14_first 62 = .ok (.getfield 33, 3) := dk_180 0 33 (dk_at dksX14_first_2 17 rfl rfl)
theorem dX14_first_65 : decode cX14_first 65 = .ok (.invokevirtual 83, 3) := dk_182 0 83 (dk_at dksX14_first_2 20 rfl rfl)
theorem dX14_first_68 : decode cX14_first 68 = .ok (.ifCond .ne 6, 3) := dk_154 0 6 (dk_at dksX14_first_3 0 rfl rfl)
theorem dX14_first_71 : decode cX14_first 71 = .ok (.goto 76, 3) := dk_167 0 76 (dk_at dksX14_first_3 3 rfl rfl)
theorem dX14_first_74 : decode cX14_first 74 = .ok (.iload_n 1, 1) := dk_27 (dk_at dksX14_first_3 6 rfl rfl)
theorem dX14_first_75 : decode cX14_first 75 = .ok (.iconst (-1), 1) := dk_2 (dk_at dksX14_first_3 7 rfl rfl)
theorem dX14_first_76 : decode cX14_first 76 = .ok (.if_icmp .ne 7, 3) := dk_160 0 7 (dk_at dksX14_first_3 8 rfl rfl)
theorem dX14_first_79 : decode cX14_first 79 = .ok (.iconst 1, 1) := dk_4 (dk_at dksX14_first_3 11 rfl rfl)
theorem dX14_first_80 : decode cX14_first 80 = .ok (.goto 26, 3) := dk_167 0 26 (dk_at dksX14_first_3 12 rfl rfl)
theorem dX14_first_83 : decode cX14_first 83 = .ok (.aload_n 0, 1) := dk_42 (dk_at dksX14_first_3 15 rfl rfl)
theorem dX14_first_84 : decode cX14_first 84 = .ok (.aload_n 0, 1) := dk_42 (dk_at dksX14_first_3 16 rfl rfl)
theorem dX14_first_85 : decode cX14_first 85 = .ok (.getfield 39, 3) := dk_180 0 39 (dk_at dksX14_first_3 17 rfl rfl)
theorem dX14_first_88 : decode cX14_first 88 = .ok (.iload_n 1, 1) := dk_27 (dk_at dksX14_first_3 20 rfl rfl)
theorem dX14_first_89 : decode cX14_first 89 = .ok (.invokeinterface 62 2, 5) := by decide +kernel
theorem dX14_first_94 : decode cX14_first 94 = .ok (.checkcast 70, 3) := dk_192 0 70 (dk_at dksX14_first_4 5 rfl rfl)
theorem dX14_first_97 : decode cX14_first 97 = .ok (.invokevirtual 87, 3) := dk_182 0 87 (dk_at dksX14_first_4 8 rfl rfl)
theorem dX14_first_100 : decode cX14_first 100 = .ok (.aload_n 0, 1) := dk_42 (dk_at dksX14_first_4 11 rfl rfl)
theorem dX14_first_101 : decode cX14_first 101 = .ok (.aload_n 3, 1) := dk_45 (dk_at dksX14_first_4 12 rfl rfl)
theorem dX14_first_102 : decode cX14_first 102 = .ok (.invokevirtual 87, 3) := dk_182 0 87 (dk_at dksX14_first_4 13 rfl rfl)
theorem dX14_first_105 : decode cX14_first 105 = .ok (.isub, 1) := dk_100 (dk_at dksX14_first_4 16 rfl rfl)
theorem dX14_first_106 : decode cX14_first 106 = .ok (.istore 4, 2) := dk_54 4 (dk_at dksX14_first_4 17 rfl rfl)
theorem dX14_first_108 : decode cX14_first 108 = .ok (.iload 4, 2) := dk_21 4 (dk_at dksX14_first_4 19 rfl rfl)
theorem dX14_first_110 : decode cX14_first 110 = .ok (.ifCond .gt 31, 3) := dk_157 0 31 (dk_at dksX14_first_4 21 rfl rfl)
theorem dX14_first_113 : decode cX14_first 113 = .ok (.iload 4, 2) := dk_21 4 (dk_at dksX14_first_5 0 rfl rfl)
theorem dX14_first_115 : decode cX14_first 115 = .ok (.ifCond .ne 30, 3) := dk_154 0 30 (dk_at dksX14_first_5 2 rfl rfl)
theorem dX14_first_118 : decode cX14_first 118 = .ok (.aload_n 3, 1) := dk_45 (dk_at dksX14_first_5 5 rfl rfl)
theorem dX14_first_119 : decode cX14_first 119 = .ok (.getfield 77, 3) := dk_180 0 77 (dk_at dksX14_first_5 6 rfl rfl)
theorem dX14_first_122 : decode cX14_first 122 = .ok (.aload_n 0, 1) := dk_42 (dk_at dksX14_first_5 9 rfl rfl)
theorem dX14_first_123 : decode cX14_first 123 = .ok (.getfield 39, 3) := dk_180 0 39 (dk_at dksX14_first_5 10 rfl rfl)
theorem dX14_first_126 : decode cX14_first 126 = .ok (.iload_n 1, 1) := dk_27 (dk_at dksX14_first_5 13 rfl rfl)
theorem dX14_first_127 : decode cX14_first 127 = .ok (.invokeinterface 62 2, 5) := by decide +kernel
theorem dX14_first_132 : decode cX14_first 132 = .ok (.checkcast 70, 3) := dk_192 0 70 (dk_at dksX14_first_5 19 rfl rfl)
theorem dX14_first_135 : decode cX14_first 135 = .ok (.getfield 77, 3) := dk_180 0 77 (dk_at dksX14_first_6 0 rfl rfl)
theorem dX14_first_138 : decode cX14_first 138 = .ok (.if_icmp .ge 7, 3) := dk_162 0 7 (dk_at dksX14_first_6 3 rfl rfl)
theorem dX14_first_141 : decode cX14_first 141 = .ok (.iload_n 2, 1) := dk_28 (dk_at dksX14_first_6 6 rfl rfl)
theorem dX14_first_142 : decode cX14_first 142 = .ok (.goto 4, 3) := dk_167 0 4 (dk_at dksX14_first_6 7 rfl rfl)
theorem dX14_first_145 : decode cX14_first 145 = .ok (.iload_n 1, 1) := dk_27 (dk_at dksX14_first_6 10 rfl rfl)
theorem dX14_first_146 : decode cX14_first 146 = .ok (.istore_n 1, 1) := dk_60 (dk_at dksX14_first_6 11 rfl rfl)
theorem dX14_first_147 : decode cX14_first 147 = .ok (.iinc 2 1, 3) := dk_132 2 1 (dk_at dksX14_first_6 12 rfl rfl)
theorem dX14_first_150 : decode cX14_first 150 = .ok (.goto (-146), 3) := dk_167 255 110 (dk_at dksX14_first_6 15 rfl rfl)
theorem dX14_first_153 : decode cX14_first 153 = .ok (.iload_n 1, 1) := dk_27 (dk_at dksX14_first_6 18 rfl rfl)
theorem dX14_first_154 : decode cX14_first 154 = .ok (.ireturn, 1) := dk_172 (dk_at dksX14_first_6 19 rfl rfl)
abbrev cX14_stamp : ByteArray := prog_2_method_2_code
def yX14_stamp : MethodName := ⟨RX14, "stamp", "(LBloomclock$Order;)I"⟩
def dkwX14_stamp_1 : List UInt8 := [192, 0, 66, 182, 0, 80, 96, 172]
abbrev dktX14_stamp_1 : List UInt8 := dkwX14_stamp_1 ++ []
def dkwX14_stamp_0 : List UInt8 := [42, 180, 0, 22, 43, 180, 0, 74, 100, 42, 180, 0, 43, 43, 180, 0, 77, 185, 0, 62, 2, 0]
abbrev dktX14_stamp_0 : List UInt8 := dkwX14_stamp_0 ++ dktX14_stamp_1
theorem dksX14_stamp_0 : cX14_stamp.data.toList.drop 0 = dktX14_stamp_0 := by decide +kernel
theorem dksX14_stamp_1 : cX14_stamp.data.toList.drop 22 = dktX14_stamp_1 := dk_seg dksX14_stamp_0 22 rfl rfl
theorem dX14_stamp_0 : decode cX14_stamp 0 = .ok (.aload_n 0, 1) := dk_42 (dk_at dksX14_stamp_0 0 rfl rfl)
theorem dX14_stamp_1 : decode cX14_stamp 1 = .ok (.getfield 22, 3) := dk_180 0 22 (dk_at dksX14_stamp_0 1 rfl rfl)
theorem dX14_stamp_4 : decode cX14_stamp 4 = .ok (.aload_n 1, 1) := dk_43 (dk_at dksX14_stamp_0 4 rfl rfl)
theorem dX14_stamp_5 : decode cX14_stamp 5 = .ok (.getfield 74, 3) := dk_180 0 74 (dk_at dksX14_stamp_0 5 rfl rfl)
theorem dX14_stamp_8 : decode cX14_stamp 8 = .ok (.isub, 1) := dk_100 (dk_at dksX14_stamp_0 8 rfl rfl)
theorem dX14_stamp_9 : decode cX14_stamp 9 = .ok (.aload_n 0, 1) := dk_42 (dk_at dksX14_stamp_0 9 rfl rfl)
theorem dX14_stamp_10 : decode cX14_stamp 10 = .ok (.getfield 43, 3) := dk_180 0 43 (dk_at dksX14_stamp_0 10 rfl rfl)
theorem dX14_stamp_13 : decode cX14_stamp 13 = .ok (.aload_n 1, 1) := dk_43 (dk_at dksX14_stamp_0 13 rfl rfl)
theorem dX14_stamp_14 : decode cX14_stamp 14 = .ok (.getfield 77, 3) := dk_180 0 77 (dk_at dksX14_stamp_0 14 rfl rfl)
theorem dX14_stamp_17 : decode cX14_stamp 17 = .ok (.invokeinterface 62 2, 5) := by decide +kernel
theorem dX14_stamp_22 : decode cX14_stamp 22 = .ok (.checkcast 66, 3) := dk_192 0 66 (dk_at dksX14_stamp_1 0 rfl rfl)
theorem dX14_stamp_25 : decode cX14_stamp 25 = .ok (.invokevirtual 80, 3) := dk_182 0 80 (dk_at dksX14_stamp_1 3 rfl rfl)
theorem dX14_stamp_28 : decode cX14_stamp 28 = .ok (.iadd, 1) := dk_96 (dk_at dksX14_stamp_1 6 rfl rfl)
theorem dX14_stamp_29 : decode cX14_stamp 29 = .ok (.ireturn, 1) := dk_172 (dk_at dksX14_stamp_1 7 rfl rfl)
abbrev cX14_take : ByteArray := prog_2_method_5_code
def yX14_take : MethodName := ⟨RX14, "take", "(I)V"⟩
def dkwX14_take_4 : List UInt8 := [16, 10, 96, 184, 0, 100, 181, 0, 22, 177]
abbrev dktX14_take_4 : List UInt8 := dkwX14_take_4 ++ []
def dkwX14_take_3 : List UInt8 := [180, 0, 109, 42, 180, 0, 97, 104, 5, 42, 180, 0, 119, 104, 96, 100, 79, 42, 16, 99, 42, 180, 0, 97]
abbrev dktX14_take_3 : List UInt8 := dkwX14_take_3 ++ dktX14_take_4
def dkwX14_take_2 : List UInt8 := [180, 0, 15, 42, 180, 0, 94, 92, 46, 42, 180, 0, 109, 100, 79, 42, 180, 0, 9, 27, 92, 46, 42]
abbrev dktX14_take_2 : List UInt8 := dkwX14_take_2 ++ dktX14_take_3
def dkwX14_take_1 : List UInt8 := [184, 0, 116, 184, 0, 100, 181, 0, 119, 42, 89, 180, 0, 55, 42, 180, 0, 119, 100, 181, 0, 55, 42]
abbrev dktX14_take_1 : List UInt8 := dkwX14_take_1 ++ dktX14_take_2
def dkwX14_take_0 : List UInt8 := [42, 89, 180, 0, 51, 42, 180, 0, 109, 100, 181, 0, 51, 42, 42, 180, 0, 55, 42, 180, 0, 109]
abbrev dktX14_take_0 : List UInt8 := dkwX14_take_0 ++ dktX14_take_1
theorem dksX14_take_0 : cX14_take.data.toList.drop 0 = dktX14_take_0 := by decide +kernel
theorem dksX14_take_1 : cX14_take.data.toList.drop 22 = dktX14_take_1 := dk_seg dksX14_take_0 22 rfl rfl
theorem dksX14_take_2 : cX14_take.data.toList.drop 45 = dktX14_take_2 := dk_seg dksX14_take_1 23 rfl rfl
theorem dksX14_take_3 : cX14_take.data.toList.drop 68 = dktX14_take_3 := dk_seg dksX14_take_2 23 rfl rfl
theorem dksX14_take_4 : cX14_take.data.toList.drop 92 = dktX14_take_4 := dk_seg dksX14_take_3 24 rfl rfl
theorem dX14_take_0 : decode cX14_take 0 = .ok (.aload_n 0, 1) := dk_42 (dk_at dksX14_take_0 0 rfl rfl)
theorem dX14_take_1 : decode cX14_take 1 = .ok (.dup, 1) := dk_89 (dk_at dksX14_take_0 1 rfl rfl)
theorem dX14_take_2 : decode cX14_take 2 = .ok (.getfield 51, 3) := dk_180 0 51 (dk_at dksX14_take_0 2 rfl rfl)
theorem dX14_take_5 : decode cX14_take 5 = .ok (.aload_n 0, 1) := dk_42 (dk_at dksX14_take_0 5 rfl rfl)
theorem dX14_take_6 : decode cX14_take 6 = .ok (.getfield 109, 3) := dk_180 0 109 (dk_at dksX14_take_0 6 rfl rfl)
theorem dX14_take_9 : decode cX14_take 9 = .ok (.isub, 1) := dk_100 (dk_at dksX14_take_0 9 rfl rfl)
theorem dX14_take_10 : decode cX14_take 10 = .ok (.putfield 51, 3) := dk_181 0 51 (dk_at dksX14_take_0 10 rfl rfl)
theorem dX14_take_13 : decode cX14_take 13 = .ok (.aload_n 0, 1) := dk_42 (dk_at dksX14_take_0 13 rfl rfl)
theorem dX14_take_14 : decode cX14_take 14 = .ok (.aload_n 0, 1) := dk_42 (dk_at dksX14_take_0 14 rfl rfl)
theorem dX14_take_15 : decode cX14_take 15 = .ok (.getfield 55, 3) := dk_180 0 55 (dk_at dksX14_take_0 15 rfl rfl)
theorem dX14_take_18 : decode cX14_take 18 = .ok (.aload_n 0, 1) := dk_42 (dk_at dksX14_take_0 18 rfl rfl)
theorem dX14_take_19 : decode cX14_take 19 = .ok (.getfield 109, 3) := dk_180 0 109 (dk_at dksX14_take_0 19 rfl rfl)
theorem dX14_take_22 : decode cX14_take 22 = .ok (.invokestatic 116, 3) := dk_184 0 116 (dk_at dksX14_take_1 0 rfl rfl)
theorem dX14_take_25 : decode cX14_take 25 = .ok (.invokestatic 100, 3) := dk_184 0 100 (dk_at dksX14_take_1 3 rfl rfl)
theorem dX14_take_28 : decode cX14_take 28 = .ok (.putfield 119, 3) := dk_181 0 119 (dk_at dksX14_take_1 6 rfl rfl)
theorem dX14_take_31 : decode cX14_take 31 = .ok (.aload_n 0, 1) := dk_42 (dk_at dksX14_take_1 9 rfl rfl)
theorem dX14_take_32 : decode cX14_take 32 = .ok (.dup, 1) := dk_89 (dk_at dksX14_take_1 10 rfl rfl)
theorem dX14_take_33 : decode cX14_take 33 = .ok (.getfield 55, 3) := dk_180 0 55 (dk_at dksX14_take_1 11 rfl rfl)
theorem dX14_take_36 : decode cX14_take 36 = .ok (.aload_n 0, 1) := dk_42 (dk_at dksX14_take_1 14 rfl rfl)
theorem dX14_take_37 : decode cX14_take 37 = .ok (.getfield 119, 3) := dk_180 0 119 (dk_at dksX14_take_1 15 rfl rfl)
theorem dX14_take_40 : decode cX14_take 40 = .ok (.isub, 1) := dk_100 (dk_at dksX14_take_1 18 rfl rfl)
theorem dX14_take_41 : decode cX14_take 41 = .ok (.putfield 55, 3) := dk_181 0 55 (dk_at dksX14_take_1 19 rfl rfl)
theorem dX14_take_44 : decode cX14_take 44 = .ok (.aload_n 0, 1) := dk_42 (dk_at dksX14_take_1 22 rfl rfl)
theorem dX14_take_45 : decode cX14_take 45 = .ok (.getfield 15, 3) := dk_180 0 15 (dk_at dksX14_take_2 0 rfl rfl)
theorem dX14_take_48 : decode cX14_take 48 = .ok (.aload_n 0, 1) := dk_42 (dk_at dksX14_take_2 3 rfl rfl)
theorem dX14_take_49 : decode cX14_take 49 = .ok (.getfield 94, 3) := dk_180 0 94 (dk_at dksX14_take_2 4 rfl rfl)
theorem dX14_take_52 : decode cX14_take 52 = .ok (.dup2, 1) := dk_92 (dk_at dksX14_take_2 7 rfl rfl)
theorem dX14_take_53 : decode cX14_take 53 = .ok (.iaload, 1) := dk_46 (dk_at dksX14_take_2 8 rfl rfl)
theorem dX14_take_54 : decode cX14_take 54 = .ok (.aload_n 0, 1) := dk_42 (dk_at dksX14_take_2 9 rfl rfl)
theorem dX14_take_55 : decode cX14_take 55 = .ok (.getfield 109, 3) := dk_180 0 109 (dk_at dksX14_take_2 10 rfl rfl)
theorem dX14_take_58 : decode cX14_take 58 = .ok (.isub, 1) := dk_100 (dk_at dksX14_take_2 13 rfl rfl)
theorem dX14_take_59 : decode cX14_take 59 = .ok (.iastore, 1) := dk_79 (dk_at dksX14_take_2 14 rfl rfl)
theorem dX14_take_60 : decode cX14_take 60 = .ok (.aload_n 0, 1) := dk_42 (dk_at dksX14_take_2 15 rfl rfl)
theorem dX14_take_61 : decode cX14_take 61 = .ok (.getfield 9, 3) := dk_180 0 9 (dk_at dksX14_take_2 16 rfl rfl)
theorem dX14_take_64 : decode cX14_take 64 = .ok (.iload_n 1, 1) := dk_27 (dk_at dksX14_take_2 19 rfl rfl)
theorem dX14_take_65 : decode cX14_take 65 = .ok (.dup2, 1) := dk_92 (dk_at dksX14_take_2 20 rfl rfl)
theorem dX14_take_66 : decode cX14_take 66 = .ok (.iaload, 1) := dk_46 (dk_at dksX14_take_2 21 rfl rfl)
theorem dX14_take_67 : decode cX14_take 67 = .ok (.aload_n 0, 1) := dk_42 (dk_at dksX14_take_2 22 rfl rfl)
theorem dX14_take_68 : decode cX14_take 68 = .ok (.getfield 109, 3) := dk_180 0 109 (dk_at dksX14_take_3 0 rfl rfl)
theorem dX14_take_71 : decode cX14_take 71 = .ok (.aload_n 0, 1) := dk_42 (dk_at dksX14_take_3 3 rfl rfl)
theorem dX14_take_72 : decode cX14_take 72 = .ok (.getfield 97, 3) := dk_180 0 97 (dk_at dksX14_take_3 4 rfl rfl)
theorem dX14_take_75 : decode cX14_take 75 = .ok (.imul, 1) := dk_104 (dk_at dksX14_take_3 7 rfl rfl)
theorem dX14_take_76 : decode cX14_take 76 = .ok (.iconst 2, 1) := dk_5 (dk_at dksX14_take_3 8 rfl rfl)
theorem dX14_take_77 : decode cX14_take 77 = .ok (.aload_n 0, 1) := dk_42 (dk_at dksX14_take_3 9 rfl rfl)
theorem dX14_take_78 : decode cX14_take 78 = .ok (.getfield 119, 3) := dk_180 0 119 (dk_at dksX14_take_3 10 rfl rfl)
theorem dX14_take_81 : decode cX14_take 81 = .ok (.imul, 1) := dk_104 (dk_at dksX14_take_3 13 rfl rfl)
theorem dX14_take_82 : decode cX14_take 82 = .ok (.iadd, 1) := dk_96 (dk_at dksX14_take_3 14 rfl rfl)
theorem dX14_take_83 : decode cX14_take 83 = .ok (.isub, 1) := dk_100 (dk_at dksX14_take_3 15 rfl rfl)
theorem dX14_take_84 : decode cX14_take 84 = .ok (.iastore, 1) := dk_79 (dk_at dksX14_take_3 16 rfl rfl)
theorem dX14_take_85 : decode cX14_take 85 = .ok (.aload_n 0, 1) := dk_42 (dk_at dksX14_take_3 17 rfl rfl)
theorem dX14_take_86 : decode cX14_take 86 = .ok (.bipush 99, 2) := dk_16 99 (dk_at dksX14_take_3 18 rfl rfl)
theorem dX14_take_88 : decode cX14_take 88 = .ok (.aload_n 0, 1) := dk_42 (dk_at dksX14_take_3 20 rfl rfl)
theorem dX14_take_89 : decode cX14_take 89 = .ok (.getfield 97, 3) := dk_180 0 97 (dk_at dksX14_take_3 21 rfl rfl)
theorem dX14_take_92 : decode cX14_take 92 = .ok (.bipush 10, 2) := dk_16 10 (dk_at dksX14_take_4 0 rfl rfl)
theorem dX14_take_94 : decode cX14_take 94 = .ok (.iadd, 1) := dk_96 (dk_at dksX14_take_4 2 rfl rfl)
theorem dX14_take_95 : decode cX14_take 95 = .ok (.invokestatic 100, 3) := dk_184 0 100 (dk_at dksX14_take_4 3 rfl rfl)
theorem dX14_take_98 : decode cX14_take 98 = .ok (.putfield 22, 3) := dk_181 0 22 (dk_at dksX14_take_4 6 rfl rfl)
theorem dX14_take_101 : decode cX14_take 101 = .ok (.return_, 1) := dk_177 (dk_at dksX14_take_4 9 rfl rfl)
theorem q92 : (Jvm.Cond.initialized "Bloomclock$Auction") ∈ lw_all := lw_g (lw_at lw_m1 37 rfl) rfl
theorem q304 : (Jvm.Cond.instantiable "Bloomclock$Auction" (16 : Nat)) ∈ lw_all := lw_g (lw_at lw_m2 9 rfl) rfl
theorem q306 : (Jvm.Cond.instanceMethod ({ cls := "Bloomclock$Auction", name := "<init>", desc := "(LBloomclock$Lot;IIILjava/util/List;Ljava/util/List;)V" } : Jvm.MethodName)) ∈ lw_all := lw_g (lw_at lw_m2 11 rfl) rfl
theorem q307 : (Jvm.Cond.code ({ cls := "Bloomclock$Auction", name := "<init>", desc := "(LBloomclock$Lot;IIILjava/util/List;Ljava/util/List;)V" } : Jvm.MethodName) prog_2_method_1_code (8 : Nat) (Option.none : Option Jvm.ClassFile.FieldType)) ∈ lw_all := lw_g (lw_at lw_m2 12 rfl) rfl
theorem q308 : (Jvm.Cond.methodLink "Bloomclock$Auction" (3 : Nat) ({ cls := "java/lang/Object", name := "<init>", desc := "()V" } : Jvm.MethodName)) ∈ lw_all := lw_g (lw_at lw_m2 13 rfl) rfl
theorem q309 : (Jvm.Cond.interfaceEntry "Bloomclock$Auction" (56 : Nat)) ∈ lw_tbl := lw_at lw_m2 14 rfl
theorem q310 : (Jvm.Cond.methodLink "Bloomclock$Auction" (56 : Nat) ({ cls := "java/util/List", name := "size", desc := "()I" } : Jvm.MethodName)) ∈ lw_all := lw_g (lw_at lw_m2 15 rfl) rfl
theorem q311 : (Jvm.Cond.interfaceEntry "Bloomclock$Auction" (62 : Nat)) ∈ lw_tbl := lw_at lw_m2 16 rfl
theorem q312 : (Jvm.Cond.methodLink "Bloomclock$Auction" (62 : Nat) ({ cls := "java/util/List", name := "get", desc := "(I)Ljava/lang/Object;" } : Jvm.MethodName)) ∈ lw_all := lw_g (lw_at lw_m2 17 rfl) rfl
theorem q313 : (Jvm.Cond.classLink "Bloomclock$Auction" (66 : Nat) "Bloomclock$Buyer") ∈ lw_all := lw_g (lw_at lw_m2 18 rfl) rfl
theorem q314 : (Jvm.Cond.classLink "Bloomclock$Auction" (70 : Nat) "Bloomclock$Order") ∈ lw_all := lw_g (lw_at lw_m2 19 rfl) rfl
theorem q315 : (Jvm.Cond.fieldLink "Bloomclock$Auction" (26 : Nat) "Bloomclock$Auction" "lot" "LBloomclock$Lot;") ∈ lw_all := lw_g (lw_at lw_m2 20 rfl) rfl
theorem q316 : (Jvm.Cond.fieldLink "Bloomclock$Auction" (30 : Nat) "Bloomclock$Auction" "shown" "I") ∈ lw_all := lw_g (lw_at lw_m2 21 rfl) rfl
theorem q317 : (Jvm.Cond.fieldLink "Bloomclock$Auction" (33 : Nat) "Bloomclock$Auction" "mark" "I") ∈ lw_all := lw_g (lw_at lw_m2 22 rfl) rfl
theorem q318 : (Jvm.Cond.fieldLink "Bloomclock$Auction" (36 : Nat) "Bloomclock$Auction" "minimum" "I") ∈ lw_all := lw_g (lw_at lw_m2 23 rfl) rfl
theorem q319 : (Jvm.Cond.fieldLink "Bloomclock$Auction" (39 : Nat) "Bloomclock$Auction" "orders" "Ljava/util/List;") ∈ lw_all := lw_g (lw_at lw_m2 24 rfl) rfl
theorem q320 : (Jvm.Cond.fieldLink "Bloomclock$Auction" (43 : Nat) "Bloomclock$Auction" "buyers" "Ljava/util/List;") ∈ lw_all := lw_g (lw_at lw_m2 25 rfl) rfl
theorem q321 : (Jvm.Cond.fieldLink "Bloomclock$Auction" (9 : Nat) "Bloomclock$Auction" "coins" "[I") ∈ lw_all := lw_g (lw_at lw_m2 26 rfl) rfl
theorem q322 : (Jvm.Cond.fieldLink "Bloomclock$Auction" (15 : Nat) "Bloomclock$Auction" "wants" "[I") ∈ lw_all := lw_g (lw_at lw_m2 27 rfl) rfl
theorem q323 : (Jvm.Cond.fieldLink "Bloomclock$Auction" (18 : Nat) "Bloomclock$Auction" "isOut" "[Z") ∈ lw_all := lw_g (lw_at lw_m2 28 rfl) rfl
theorem q324 : (Jvm.Cond.fieldLink "Bloomclock$Auction" (51 : Nat) "Bloomclock$Auction" "stems" "I") ∈ lw_all := lw_g (lw_at lw_m2 29 rfl) rfl
theorem q325 : (Jvm.Cond.fieldLink "Bloomclock$Auction" (55 : Nat) "Bloomclock$Auction" "buckets" "I") ∈ lw_all := lw_g (lw_at lw_m2 30 rfl) rfl
theorem q326 : (Jvm.Cond.fieldLink "Bloomclock$Auction" (22 : Nat) "Bloomclock$Auction" "start" "I") ∈ lw_all := lw_g (lw_at lw_m2 31 rfl) rfl
theorem q327 : (Jvm.Cond.fieldLink "Bloomclock$Auction" (94 : Nat) "Bloomclock$Auction" "order" "I") ∈ lw_all := lw_g (lw_at lw_m2 32 rfl) rfl
theorem q329 : (Jvm.Cond.fieldLink "Bloomclock$Auction" (97 : Nat) "Bloomclock$Auction" "price" "I") ∈ lw_all := lw_g (lw_at lw_m2 34 rfl) rfl
theorem q331 : (Jvm.Cond.fieldLink "Bloomclock$Auction" (109 : Nat) "Bloomclock$Auction" "taken" "I") ∈ lw_all := lw_g (lw_at lw_m2 36 rfl) rfl
theorem q333 : (Jvm.Cond.fieldLink "Bloomclock$Auction" (119 : Nat) "Bloomclock$Auction" "packed" "I") ∈ lw_all := lw_g (lw_at lw_m2 38 rfl) rfl
theorem q335 : (Jvm.Cond.laysFinal "Bloomclock$Auction" "Bloomclock$Auction" "lot" "LBloomclock$Lot;") ∈ lw_all := lw_g (lw_at lw_m2 40 rfl) rfl
theorem q336 : (Jvm.Cond.soleField "Bloomclock$Auction" "lot") ∈ lw_all := lw_g (lw_at lw_m2 41 rfl) rfl
theorem q337 : (Jvm.Cond.laysFinal "Bloomclock$Auction" "Bloomclock$Auction" "shown" "I") ∈ lw_all := lw_g (lw_at lw_m2 42 rfl) rfl
theorem q338 : (Jvm.Cond.soleField "Bloomclock$Auction" "shown") ∈ lw_all := lw_g (lw_at lw_m2 43 rfl) rfl
theorem q339 : (Jvm.Cond.laysFinal "Bloomclock$Auction" "Bloomclock$Auction" "mark" "I") ∈ lw_all := lw_g (lw_at lw_m2 44 rfl) rfl
theorem q340 : (Jvm.Cond.soleField "Bloomclock$Auction" "mark") ∈ lw_all := lw_g (lw_at lw_m2 45 rfl) rfl
theorem q341 : (Jvm.Cond.laysFinal "Bloomclock$Auction" "Bloomclock$Auction" "minimum" "I") ∈ lw_all := lw_g (lw_at lw_m2 46 rfl) rfl
theorem q342 : (Jvm.Cond.soleField "Bloomclock$Auction" "minimum") ∈ lw_all := lw_g (lw_at lw_m2 47 rfl) rfl
theorem q343 : (Jvm.Cond.laysFinal "Bloomclock$Auction" "Bloomclock$Auction" "orders" "Ljava/util/List;") ∈ lw_all := lw_g (lw_at lw_m2 48 rfl) rfl
theorem q344 : (Jvm.Cond.soleField "Bloomclock$Auction" "orders") ∈ lw_all := lw_g (lw_at lw_m2 49 rfl) rfl
theorem q345 : (Jvm.Cond.laysFinal "Bloomclock$Auction" "Bloomclock$Auction" "buyers" "Ljava/util/List;") ∈ lw_all := lw_g (lw_at lw_m2 50 rfl) rfl
theorem q346 : (Jvm.Cond.soleField "Bloomclock$Auction" "buyers") ∈ lw_all := lw_g (lw_at lw_m2 51 rfl) rfl
theorem q347 : (Jvm.Cond.laysFinal "Bloomclock$Auction" "Bloomclock$Auction" "coins" "[I") ∈ lw_all := lw_g (lw_at lw_m2 52 rfl) rfl
theorem q348 : (Jvm.Cond.soleField "Bloomclock$Auction" "coins") ∈ lw_all := lw_g (lw_at lw_m2 53 rfl) rfl
theorem q349 : (Jvm.Cond.laysFinal "Bloomclock$Auction" "Bloomclock$Auction" "wants" "[I") ∈ lw_all := lw_g (lw_at lw_m2 54 rfl) rfl
theorem q350 : (Jvm.Cond.soleField "Bloomclock$Auction" "wants") ∈ lw_all := lw_g (lw_at lw_m2 55 rfl) rfl
theorem q351 : (Jvm.Cond.laysFinal "Bloomclock$Auction" "Bloomclock$Auction" "isOut" "[Z") ∈ lw_all := lw_g (lw_at lw_m2 56 rfl) rfl
theorem q352 : (Jvm.Cond.soleField "Bloomclock$Auction" "isOut") ∈ lw_all := lw_g (lw_at lw_m2 57 rfl) rfl
theorem q353 : (Jvm.Cond.lays "Bloomclock$Auction" "Bloomclock$Auction" "stems" "I") ∈ lw_all := lw_g (lw_at lw_m2 58 rfl) rfl
theorem q354 : (Jvm.Cond.soleField "Bloomclock$Auction" "stems") ∈ lw_all := lw_g (lw_at lw_m2 59 rfl) rfl
theorem q355 : (Jvm.Cond.lays "Bloomclock$Auction" "Bloomclock$Auction" "buckets" "I") ∈ lw_all := lw_g (lw_at lw_m2 60 rfl) rfl
theorem q356 : (Jvm.Cond.soleField "Bloomclock$Auction" "buckets") ∈ lw_all := lw_g (lw_at lw_m2 61 rfl) rfl
theorem q357 : (Jvm.Cond.lays "Bloomclock$Auction" "Bloomclock$Auction" "start" "I") ∈ lw_all := lw_g (lw_at lw_m2 62 rfl) rfl
theorem q358 : (Jvm.Cond.soleField "Bloomclock$Auction" "start") ∈ lw_all := lw_g (lw_at lw_m2 63 rfl) rfl
theorem q359 : (Jvm.Cond.lays "Bloomclock$Auction" "Bloomclock$Auction" "order" "I") ∈ lw_all := lw_g (lw_at lw_m2 64 rfl) rfl
theorem q360 : (Jvm.Cond.soleField "Bloomclock$Auction" "order") ∈ lw_all := lw_g (lw_at lw_m2 65 rfl) rfl
theorem q361 : (Jvm.Cond.lays "Bloomclock$Auction" "Bloomclock$Auction" "price" "I") ∈ lw_all := lw_g (lw_at lw_m2 66 rfl) rfl
theorem q362 : (Jvm.Cond.soleField "Bloomclock$Auction" "price") ∈ lw_all := lw_g (lw_at lw_m2 67 rfl) rfl
theorem q363 : (Jvm.Cond.lays "Bloomclock$Auction" "Bloomclock$Auction" "taken" "I") ∈ lw_all := lw_g (lw_at lw_m2 68 rfl) rfl
theorem q364 : (Jvm.Cond.soleField "Bloomclock$Auction" "taken") ∈ lw_all := lw_g (lw_at lw_m2 69 rfl) rfl
theorem q365 : (Jvm.Cond.lays "Bloomclock$Auction" "Bloomclock$Auction" "packed" "I") ∈ lw_all := lw_g (lw_at lw_m2 70 rfl) rfl
theorem q366 : (Jvm.Cond.soleField "Bloomclock$Auction" "packed") ∈ lw_all := lw_g (lw_at lw_m2 71 rfl) rfl
theorem q367 : (Jvm.Cond.superclass "Bloomclock$Auction" "java/lang/Object") ∈ lw_all := lw_g (lw_at lw_m2 72 rfl) rfl
theorem q370 : (Jvm.Cond.instanceMethod ({ cls := "Bloomclock$Auction", name := "goesOn", desc := "()Z" } : Jvm.MethodName)) ∈ lw_all := lw_g (lw_at lw_m2 75 rfl) rfl
theorem q371 : (Jvm.Cond.selects "Bloomclock$Auction" ({ cls := "Bloomclock$Auction", name := "goesOn", desc := "()Z" } : Jvm.MethodName) ({ cls := "Bloomclock$Auction", name := "goesOn", desc := "()Z" } : Jvm.MethodName)) ∈ lw_all := lw_g (lw_at lw_m2 76 rfl) rfl
theorem q372 : (Jvm.Cond.code ({ cls := "Bloomclock$Auction", name := "goesOn", desc := "()Z" } : Jvm.MethodName) prog_2_method_4_code (2 : Nat) (Option.some Jvm.ClassFile.FieldType.boolean)) ∈ lw_all := lw_g (lw_at lw_m2 77 rfl) rfl
theorem q373 : (Jvm.Cond.methodLink "Bloomclock$Auction" (91 : Nat) ({ cls := "Bloomclock$Auction", name := "first", desc := "()I" } : Jvm.MethodName)) ∈ lw_all := lw_g (lw_at lw_m2 78 rfl) rfl
theorem q374 : (Jvm.Cond.privateMethod ({ cls := "Bloomclock$Auction", name := "first", desc := "()I" } : Jvm.MethodName)) ∈ lw_tbl := lw_at lw_m2 79 rfl
theorem q375 : (Jvm.Cond.instanceMethod ({ cls := "Bloomclock$Auction", name := "first", desc := "()I" } : Jvm.MethodName)) ∈ lw_all := lw_g (lw_at lw_m2 80 rfl) rfl
theorem q376 : (Jvm.Cond.code ({ cls := "Bloomclock$Auction", name := "first", desc := "()I" } : Jvm.MethodName) prog_2_method_3_code (5 : Nat) (Option.some Jvm.ClassFile.FieldType.int)) ∈ lw_all := lw_g (lw_at lw_m2 81 rfl) rfl
theorem q377 : (Jvm.Cond.methodLink "Bloomclock$Auction" (83 : Nat) ({ cls := "Bloomclock$Order", name := "fits", desc := "(LBloomclock$Lot;II)Z" } : Jvm.MethodName)) ∈ lw_all := lw_g (lw_at lw_m2 82 rfl) rfl
theorem q381 : (Jvm.Cond.methodLink "Bloomclock$Auction" (87 : Nat) ({ cls := "Bloomclock$Auction", name := "stamp", desc := "(LBloomclock$Order;)I" } : Jvm.MethodName)) ∈ lw_all := lw_g (lw_at lw_m2 86 rfl) rfl
theorem q382 : (Jvm.Cond.privateMethod ({ cls := "Bloomclock$Auction", name := "stamp", desc := "(LBloomclock$Order;)I" } : Jvm.MethodName)) ∈ lw_tbl := lw_at lw_m2 87 rfl
theorem q383 : (Jvm.Cond.instanceMethod ({ cls := "Bloomclock$Auction", name := "stamp", desc := "(LBloomclock$Order;)I" } : Jvm.MethodName)) ∈ lw_all := lw_g (lw_at lw_m2 88 rfl) rfl
theorem q384 : (Jvm.Cond.code ({ cls := "Bloomclock$Auction", name := "stamp", desc := "(LBloomclock$Order;)I" } : Jvm.MethodName) prog_2_method_2_code (2 : Nat) (Option.some Jvm.ClassFile.FieldType.int)) ∈ lw_all := lw_g (lw_at lw_m2 89 rfl) rfl
theorem q385 : (Jvm.Cond.methodLink "Bloomclock$Auction" (80 : Nat) ({ cls := "Bloomclock$Buyer", name := "late", desc := "()I" } : Jvm.MethodName)) ∈ lw_all := lw_g (lw_at lw_m2 90 rfl) rfl
theorem q392 : (Jvm.Cond.methodLink "Bloomclock$Auction" (100 : Nat) ({ cls := "java/lang/Math", name := "min", desc := "(II)I" } : Jvm.MethodName)) ∈ lw_all := lw_g (lw_at lw_m2 97 rfl) rfl
theorem q393 : (Jvm.Cond.methodLink "Bloomclock$Auction" (106 : Nat) ({ cls := "java/lang/Math", name := "max", desc := "(II)I" } : Jvm.MethodName)) ∈ lw_all := lw_g (lw_at lw_m2 98 rfl) rfl
theorem q394 : (Jvm.Cond.methodLink "Bloomclock$Auction" (112 : Nat) ({ cls := "Bloomclock$Auction", name := "take", desc := "(I)V" } : Jvm.MethodName)) ∈ lw_all := lw_g (lw_at lw_m2 99 rfl) rfl
theorem q395 : (Jvm.Cond.privateMethod ({ cls := "Bloomclock$Auction", name := "take", desc := "(I)V" } : Jvm.MethodName)) ∈ lw_tbl := lw_at lw_m2 100 rfl
theorem q396 : (Jvm.Cond.instanceMethod ({ cls := "Bloomclock$Auction", name := "take", desc := "(I)V" } : Jvm.MethodName)) ∈ lw_all := lw_g (lw_at lw_m2 101 rfl) rfl
theorem q397 : (Jvm.Cond.code ({ cls := "Bloomclock$Auction", name := "take", desc := "(I)V" } : Jvm.MethodName) prog_2_method_5_code (2 : Nat) (Option.none : Option Jvm.ClassFile.FieldType)) ∈ lw_all := lw_g (lw_at lw_m2 102 rfl) rfl
theorem q398 : (Jvm.Cond.methodLinkNest "Bloomclock$Auction" (116 : Nat) ({ cls := "Bloomclock", name := "buckets", desc := "(I)I" } : Jvm.MethodName) "Bloomclock") ∈ lw_tbl := lw_at lw_m2 103 rfl
theorem q562 : (Jvm.Cond.selects "Bloomclock$Auction" ({ cls := "java/lang/Object", name := "getClass", desc := "()Ljava/lang/Class;" } : Jvm.MethodName) ({ cls := "java/lang/Object", name := "getClass", desc := "()Ljava/lang/Class;" } : Jvm.MethodName)) ∈ lw_all := lw_g (lw_at lw_m3 27 rfl) rfl
theorem q754 : (Jvm.Cond.fieldLinkNest "Bloomclock$Auction" (46 : Nat) "Bloomclock$Lot" "stems" "I" "Bloomclock") ∈ lw_tbl := lw_at lw_m3 219 rfl
theorem q760 : (Jvm.Cond.fieldLinkNest "Bloomclock$Auction" (52 : Nat) "Bloomclock$Lot" "buckets" "I" "Bloomclock") ∈ lw_tbl := lw_at lw_m3 225 rfl
theorem q909 : (Jvm.Cond.fieldLinkNest "Bloomclock$Auction" (68 : Nat) "Bloomclock$Buyer" "coins" "I" "Bloomclock") ∈ lw_tbl := lw_at lw_m4 134 rfl
theorem q966 : (Jvm.Cond.fieldLinkNest "Bloomclock$Auction" (77 : Nat) "Bloomclock$Order" "buyer" "I" "Bloomclock") ∈ lw_tbl := lw_at lw_m4 191 rfl
theorem q973 : (Jvm.Cond.fieldLinkNest "Bloomclock$Auction" (74 : Nat) "Bloomclock$Order" "limit" "I" "Bloomclock") ∈ lw_tbl := lw_at lw_m4 198 rfl
theorem q974 : (Jvm.Cond.fieldLinkNest "Bloomclock$Auction" (72 : Nat) "Bloomclock$Order" "wants" "I" "Bloomclock") ∈ lw_tbl := lw_at lw_m4 199 rfl
theorem q1864 : (Jvm.Cond.selects "Bloomclock$Auction" ({ cls := "java/lang/Object", name := "equals", desc := "(Ljava/lang/Object;)Z" } : Jvm.MethodName) ({ cls := "java/lang/Object", name := "equals", desc := "(Ljava/lang/Object;)Z" } : Jvm.MethodName)) ∈ lw_all := lw_g (lw_at lw_m8 129 rfl) rfl
theorem q2069 : (Jvm.Cond.castable "Bloomclock$Auction" "java/lang/Object") ∈ lw_tbl := lw_at lw_m9 94 rfl
theorem in_X14 : ∀ w ∈ wsX140, w ∈ lw_all := lw_in wsX140 [335, 337, 339, 341, 343, 345, 347, 349, 351, 353, 355, 357, 359, 361, 363, 365] (by decide +kernel) (by decide +kernel)
/-! Bloomclock$Sale -/
set_option maxRecDepth 100000
def RX15 : String := "Bloomclock$Sale"
def TX15 : u_T := fun k => match k with
  | 0 => ("Bloomclock$Sale", "lot", "I", true)
  | 1 => ("Bloomclock$Sale", "buyer", "I", true)
  | 2 => ("Bloomclock$Sale", "stems", "I", true)
  | 3 => ("Bloomclock$Sale", "price", "I", true)
  | 4 => ("Bloomclock$Sale", "hour", "I", true)
  | 5 => ("Bloomclock$Sale", "order", "I", true)
  | _ => ("Bloomclock$Sale", "buckets", "I", true)
def tyX15 : Nat → FieldType := fun k => match k with
  | 0 => .int
  | 1 => .int
  | 2 => .int
  | 3 => .int
  | 4 => .int
  | 5 => .int
  | _ => .int
abbrev wsX150 : List Cond := u_ws RX15 TX15 7
theorem nmX15 : ∀ a, a < 7 → ∀ b, b < 7 → a ≠ b → (TX15 a).2.1 ≠ (TX15 b).2.1 := by decide +kernel
theorem tyX15_ok : ∀ k, k < 7 → parseFieldDescriptor (TX15 k).2.2.1 = some (tyX15 k) := by decide +kernel
abbrev cX15_told : ByteArray := prog_9_method_4_code
def yX15_told : MethodName := ⟨RX15, "told", "(I)I"⟩
def dkwX15_told_2 : List UInt8 := [180, 0, 24, 172]
abbrev dktX15_told_2 : List UInt8 := dkwX15_told_2 ++ []
def dkwX15_told_1 : List UInt8 := [5, 160, 0, 10, 42, 180, 0, 18, 167, 0, 19, 27, 6, 160, 0, 10, 42, 180, 0, 21, 167, 0, 7, 42]
abbrev dktX15_told_1 : List UInt8 := dkwX15_told_1 ++ dktX15_told_2
def dkwX15_told_0 : List UInt8 := [27, 154, 0, 10, 42, 180, 0, 9, 167, 0, 43, 27, 4, 160, 0, 10, 42, 180, 0, 15, 167, 0, 31, 27]
abbrev dktX15_told_0 : List UInt8 := dkwX15_told_0 ++ dktX15_told_1
theorem dksX15_told_0 : cX15_told.data.toList.drop 0 = dktX15_told_0 := by decide +kernel
theorem dksX15_told_1 : cX15_told.data.toList.drop 24 = dktX15_told_1 := dk_seg dksX15_told_0 24 rfl rfl
theorem dksX15_told_2 : cX15_told.data.toList.drop 48 = dktX15_told_2 := dk_seg dksX15_told_1 24 rfl rfl
theorem dX15_told_0 : decode cX15_told 0 = .ok (.iload_n 1, 1) := dk_27 (dk_at dksX15_told_0 0 rfl rfl)
theorem dX15_told_1 : decode cX15_told 1 = .ok (.ifCond .ne 10, 3) := dk_154 0 10 (dk_at dksX15_told_0 1 rfl rfl)
theorem dX15_told_4 : decode cX15_told 4 = .ok (.aload_n 0, 1) := dk_42 (dk_at dksX15_told_0 4 rfl rfl)
theorem dX15_told_5 : decode cX15_told 5 = .ok (.getfield 9, 3) := dk_180 0 9 (dk_at dksX15_told_0 5 rfl rfl)
theorem dX15_told_8 : decode cX15_told 8 = .ok (.goto 43, 3) := dk_167 0 43 (dk_at dksX15_told_0 8 rfl rfl)
theorem dX15_told_11 : decode cX15_told 11 = .ok (.iload_n 1, 1) := dk_27 (dk_at dksX15_told_0 11 rfl rfl)
theorem dX15_told_12 : decode cX15_told 12 = .ok (.iconst 1, 1) := dk_4 (dk_at dksX15_told_0 12 rfl rfl)
theorem dX15_told_13 : decode cX15_told 13 = .ok (.if_icmp .ne 10, 3) := dk_160 0 10 (dk_at dksX15_told_0 13 rfl rfl)
theorem dX15_told_16 : decode cX15_told 16 = .ok (.aload_n 0, 1) := dk_42 (dk_at dksX15_told_0 16 rfl rfl)
theorem dX15_told_17 : decode cX15_told 17 = .ok (.getfield 15, 3) := dk_180 0 15 (dk_at dksX15_told_0 17 rfl rfl)
theorem dX15_told_20 : decode cX15_told 20 = .ok (.goto 31, 3) := dk_167 0 31 (dk_at dksX15_told_0 20 rfl rfl)
theorem dX15_told_23 : decode cX15_told 23 = .ok (.iload_n 1, 1) := dk_27 (dk_at dksX15_told_0 23 rfl rfl)
theorem dX15_told_24 : decode cX15_told 24 = .ok (.iconst 2, 1) := dk_5 (dk_at dksX15_told_1 0 rfl rfl)
theorem dX15_told_25 : decode cX15_told 25 = .ok (.if_icmp .ne 10, 3) := dk_160 0 10 (dk_at dksX15_told_1 1 rfl rfl)
theorem dX15_told_28 : decode cX15_told 28 = .ok (.aload_n 0, 1) := dk_42 (dk_at dksX15_told_1 4 rfl rfl)
theorem dX15_told_29 : decode cX15_told 29 = .ok (.getfield 18, 3) := dk_180 0 18 (dk_at dksX15_told_1 5 rfl rfl)
theorem dX15_told_32 : decode cX15_told 32 = .ok (.goto 19, 3) := dk_167 0 19 (dk_at dksX15_told_1 8 rfl rfl)
theorem dX15_told_35 : decode cX15_told 35 = .ok (.iload_n 1, 1) := dk_27 (dk_at dksX15_told_1 11 rfl rfl)
theorem dX15_told_36 : decode cX15_told 36 = .ok (.iconst 3, 1) := dk_6 (dk_at dksX15_told_1 12 rfl rfl)
theorem dX15_told_37 : decode cX15_told 37 = .ok (.if_icmp .ne 10, 3) := dk_160 0 10 (dk_at dksX15_told_1 13 rfl rfl)
theorem dX15_told_40 : decode cX15_told 40 = .ok (.aload_n 0, 1) := dk_42 (dk_at dksX15_told_1 16 rfl rfl)
theorem dX15_told_41 : decode cX15_told 41 = .ok (.getfield 21, 3) := dk_180 0 21 (dk_at dksX15_told_1 17 rfl rfl)
theorem dX15_told_44 : decode cX15_told 44 = .ok (.goto 7, 3) := dk_167 0 7 (dk_at dksX15_told_1 20 rfl rfl)
theorem dX15_told_47 : decode cX15_told 47 = .ok (.aload_n 0, 1) := dk_42 (dk_at dksX15_told_1 23 rfl rfl)
theorem dX15_told_48 : decode cX15_told 48 = .ok (.getfield 24, 3) := dk_180 0 24 (dk_at dksX15_told_2 0 rfl rfl)
theorem dX15_told_51 : decode cX15_told 51 = .ok (.ireturn, 1) := dk_172 (dk_at dksX15_told_2 3 rfl rfl)
abbrev cX15_init : ByteArray := prog_9_method_1_code
def yX15_init : MethodName := ⟨RX15, "<init>", "(IIIIIII)V"⟩
def dkwX15_init_1 : List UInt8 := [181, 0, 21, 42, 21, 5, 181, 0, 24, 42, 21, 6, 181, 0, 27, 42, 21, 7, 181, 0, 30, 177]
abbrev dktX15_init_1 : List UInt8 := dkwX15_init_1 ++ []
def dkwX15_init_0 : List UInt8 := [42, 183, 0, 3, 42, 27, 181, 0, 9, 42, 28, 181, 0, 15, 42, 29, 181, 0, 18, 42, 21, 4]
abbrev dktX15_init_0 : List UInt8 := dkwX15_init_0 ++ dktX15_init_1
theorem dksX15_init_0 : cX15_init.data.toList.drop 0 = dktX15_init_0 := by decide +kernel
theorem dksX15_init_1 : cX15_init.data.toList.drop 22 = dktX15_init_1 := dk_seg dksX15_init_0 22 rfl rfl
theorem dX15_init_0 : decode cX15_init 0 = .ok (.aload_n 0, 1) := dk_42 (dk_at dksX15_init_0 0 rfl rfl)
theorem dX15_init_1 : decode cX15_init 1 = .ok (.invokespecial 3, 3) := dk_183 0 3 (dk_at dksX15_init_0 1 rfl rfl)
theorem dX15_init_4 : decode cX15_init 4 = .ok (.aload_n 0, 1) := dk_42 (dk_at dksX15_init_0 4 rfl rfl)
theorem dX15_init_5 : decode cX15_init 5 = .ok (.iload_n 1, 1) := dk_27 (dk_at dksX15_init_0 5 rfl rfl)
theorem dX15_init_6 : decode cX15_init 6 = .ok (.putfield 9, 3) := dk_181 0 9 (dk_at dksX15_init_0 6 rfl rfl)
theorem dX15_init_9 : decode cX15_init 9 = .ok (.aload_n 0, 1) := dk_42 (dk_at dksX15_init_0 9 rfl rfl)
theorem dX15_init_10 : decode cX15_init 10 = .ok (.iload_n 2, 1) := dk_28 (dk_at dksX15_init_0 10 rfl rfl)
theorem dX15_init_11 : decode cX15_init 11 = .ok (.putfield 15, 3) := dk_181 0 15 (dk_at dksX15_init_0 11 rfl rfl)
theorem dX15_init_14 : decode cX15_init 14 = .ok (.aload_n 0, 1) := dk_42 (dk_at dksX15_init_0 14 rfl rfl)
theorem dX15_init_15 : decode cX15_init 15 = .ok (.iload_n 3, 1) := dk_29 (dk_at dksX15_init_0 15 rfl rfl)
theorem dX15_init_16 : decode cX15_init 16 = .ok (.putfield 18, 3) := dk_181 0 18 (dk_at dksX15_init_0 16 rfl rfl)
theorem dX15_init_19 : decode cX15_init 19 = .ok (.aload_n 0, 1) := dk_42 (dk_at dksX15_init_0 19 rfl rfl)
theorem dX15_init_20 : decode cX15_init 20 = .ok (.iload 4, 2) := dk_21 4 (dk_at dksX15_init_0 20 rfl rfl)
theorem dX15_init_22 : decode cX15_init 22 = .ok (.putfield 21, 3) := dk_181 0 21 (dk_at dksX15_init_1 0 rfl rfl)
theorem dX15_init_25 : decode cX15_init 25 = .ok (.aload_n 0, 1) := dk_42 (dk_at dksX15_init_1 3 rfl rfl)
theorem dX15_init_26 : decode cX15_init 26 = .ok (.iload 5, 2) := dk_21 5 (dk_at dksX15_init_1 4 rfl rfl)
theorem dX15_init_28 : decode cX15_init 28 = .ok (.putfield 24, 3) := dk_181 0 24 (dk_at dksX15_init_1 6 rfl rfl)
theorem dX15_init_31 : decode cX15_init 31 = .ok (.aload_n 0, 1) := dk_42 (dk_at dksX15_init_1 9 rfl rfl)
theorem dX15_init_32 : decode cX15_init 32 = .ok (.iload 6, 2) := dk_21 6 (dk_at dksX15_init_1 10 rfl rfl)
theorem dX15_init_34 : decode cX15_init 34 = .ok (.putfield 27, 3) := dk_181 0 27 (dk_at dksX15_init_1 12 rfl rfl)
theorem dX15_init_37 : decode cX15_init 37 = .ok (.aload_n 0, 1) := dk_42 (dk_at dksX15_init_1 15 rfl rfl)
theorem dX15_init_38 : decode cX15_init 38 = .ok (.iload 7, 2) := dk_21 7 (dk_at dksX15_init_1 16 rfl rfl)
theorem dX15_init_40 : decode cX15_init 40 = .ok (.putfield 30, 3) := dk_181 0 30 (dk_at dksX15_init_1 18 rfl rfl)
theorem dX15_init_43 : decode cX15_init 43 = .ok (.return_, 1) := dk_177 (dk_at dksX15_init_1 21 rfl rfl)
abbrev cX15_money : ByteArray := prog_9_method_2_code
def yX15_money : MethodName := ⟨RX15, "money", "()I"⟩
def dkwX15_money_0 : List UInt8 := [42, 180, 0, 18, 42, 180, 0, 21, 104, 172]
abbrev dktX15_money_0 : List UInt8 := dkwX15_money_0 ++ []
theorem dksX15_money_0 : cX15_money.data.toList.drop 0 = dktX15_money_0 := by decide +kernel
theorem dX15_money_0 : decode cX15_money 0 = .ok (.aload_n 0, 1) := dk_42 (dk_at dksX15_money_0 0 rfl rfl)
theorem dX15_money_1 : decode cX15_money 1 = .ok (.getfield 18, 3) := dk_180 0 18 (dk_at dksX15_money_0 1 rfl rfl)
theorem dX15_money_4 : decode cX15_money 4 = .ok (.aload_n 0, 1) := dk_42 (dk_at dksX15_money_0 4 rfl rfl)
theorem dX15_money_5 : decode cX15_money 5 = .ok (.getfield 21, 3) := dk_180 0 21 (dk_at dksX15_money_0 5 rfl rfl)
theorem dX15_money_8 : decode cX15_money 8 = .ok (.imul, 1) := dk_104 (dk_at dksX15_money_0 8 rfl rfl)
theorem dX15_money_9 : decode cX15_money 9 = .ok (.ireturn, 1) := dk_172 (dk_at dksX15_money_0 9 rfl rfl)
abbrev cX15_fee : ByteArray := prog_9_method_3_code
def yX15_fee : MethodName := ⟨RX15, "fee", "()I"⟩
def dkwX15_fee_0 : List UInt8 := [42, 182, 0, 33, 16, 20, 108, 172]
abbrev dktX15_fee_0 : List UInt8 := dkwX15_fee_0 ++ []
theorem dksX15_fee_0 : cX15_fee.data.toList.drop 0 = dktX15_fee_0 := by decide +kernel
theorem dX15_fee_0 : decode cX15_fee 0 = .ok (.aload_n 0, 1) := dk_42 (dk_at dksX15_fee_0 0 rfl rfl)
theorem dX15_fee_1 : decode cX15_fee 1 = .ok (.invokevirtual 33, 3) := dk_182 0 33 (dk_at dksX15_fee_0 1 rfl rfl)
theorem dX15_fee_4 : decode cX15_fee 4 = .ok (.bipush 20, 2) := dk_16 20 (dk_at dksX15_fee_0 4 rfl rfl)
theorem dX15_fee_6 : decode cX15_fee 6 = .ok (.idiv, 1) := dk_108 (dk_at dksX15_fee_0 6 rfl rfl)
theorem dX15_fee_7 : decode cX15_fee 7 = .ok (.ireturn, 1) := dk_172 (dk_at dksX15_fee_0 7 rfl rfl)
theorem q93 : (Jvm.Cond.initialized "Bloomclock$Sale") ∈ lw_all := lw_g (lw_at lw_m1 38 rfl) rfl
theorem q413 : (Jvm.Cond.instanceMethod ({ cls := "Bloomclock$Sale", name := "told", desc := "(I)I" } : Jvm.MethodName)) ∈ lw_all := lw_g (lw_at lw_m2 118 rfl) rfl
theorem q414 : (Jvm.Cond.selects "Bloomclock$Sale" ({ cls := "Bloomclock$Sale", name := "told", desc := "(I)I" } : Jvm.MethodName) ({ cls := "Bloomclock$Sale", name := "told", desc := "(I)I" } : Jvm.MethodName)) ∈ lw_all := lw_g (lw_at lw_m2 119 rfl) rfl
theorem q415 : (Jvm.Cond.code ({ cls := "Bloomclock$Sale", name := "told", desc := "(I)I" } : Jvm.MethodName) prog_9_method_4_code (2 : Nat) (Option.some Jvm.ClassFile.FieldType.int)) ∈ lw_all := lw_g (lw_at lw_m2 120 rfl) rfl
theorem q569 : (Jvm.Cond.selects "Bloomclock$Sale" ({ cls := "java/lang/Object", name := "getClass", desc := "()Ljava/lang/Class;" } : Jvm.MethodName) ({ cls := "java/lang/Object", name := "getClass", desc := "()Ljava/lang/Class;" } : Jvm.MethodName)) ∈ lw_all := lw_g (lw_at lw_m3 34 rfl) rfl
theorem q1003 : (Jvm.Cond.instantiable "Bloomclock$Sale" (7 : Nat)) ∈ lw_all := lw_g (lw_at lw_m4 228 rfl) rfl
theorem q1005 : (Jvm.Cond.instanceMethod ({ cls := "Bloomclock$Sale", name := "<init>", desc := "(IIIIIII)V" } : Jvm.MethodName)) ∈ lw_all := lw_g (lw_at lw_m4 230 rfl) rfl
theorem q1006 : (Jvm.Cond.code ({ cls := "Bloomclock$Sale", name := "<init>", desc := "(IIIIIII)V" } : Jvm.MethodName) prog_9_method_1_code (8 : Nat) (Option.none : Option Jvm.ClassFile.FieldType)) ∈ lw_all := lw_g (lw_at lw_m4 231 rfl) rfl
theorem q1007 : (Jvm.Cond.methodLink "Bloomclock$Sale" (3 : Nat) ({ cls := "java/lang/Object", name := "<init>", desc := "()V" } : Jvm.MethodName)) ∈ lw_all := lw_g (lw_at lw_m4 232 rfl) rfl
theorem q1008 : (Jvm.Cond.fieldLink "Bloomclock$Sale" (9 : Nat) "Bloomclock$Sale" "lot" "I") ∈ lw_all := lw_g (lw_at lw_m4 233 rfl) rfl
theorem q1010 : (Jvm.Cond.fieldLink "Bloomclock$Sale" (15 : Nat) "Bloomclock$Sale" "buyer" "I") ∈ lw_all := lw_g (lw_at lw_m4 235 rfl) rfl
theorem q1012 : (Jvm.Cond.fieldLink "Bloomclock$Sale" (18 : Nat) "Bloomclock$Sale" "stems" "I") ∈ lw_all := lw_g (lw_at lw_m4 237 rfl) rfl
theorem q1014 : (Jvm.Cond.fieldLink "Bloomclock$Sale" (21 : Nat) "Bloomclock$Sale" "price" "I") ∈ lw_all := lw_g (lw_at lw_m4 239 rfl) rfl
theorem q1015 : (Jvm.Cond.fieldLink "Bloomclock$Sale" (24 : Nat) "Bloomclock$Sale" "hour" "I") ∈ lw_all := lw_g (lw_at lw_m5 0 rfl) rfl
theorem q1017 : (Jvm.Cond.fieldLink "Bloomclock$Sale" (27 : Nat) "Bloomclock$Sale" "order" "I") ∈ lw_all := lw_g (lw_at lw_m5 2 rfl) rfl
theorem q1019 : (Jvm.Cond.fieldLink "Bloomclock$Sale" (30 : Nat) "Bloomclock$Sale" "buckets" "I") ∈ lw_all := lw_g (lw_at lw_m5 4 rfl) rfl
theorem q1021 : (Jvm.Cond.laysFinal "Bloomclock$Sale" "Bloomclock$Sale" "lot" "I") ∈ lw_all := lw_g (lw_at lw_m5 6 rfl) rfl
theorem q1022 : (Jvm.Cond.soleField "Bloomclock$Sale" "lot") ∈ lw_all := lw_g (lw_at lw_m5 7 rfl) rfl
theorem q1023 : (Jvm.Cond.laysFinal "Bloomclock$Sale" "Bloomclock$Sale" "buyer" "I") ∈ lw_all := lw_g (lw_at lw_m5 8 rfl) rfl
theorem q1024 : (Jvm.Cond.soleField "Bloomclock$Sale" "buyer") ∈ lw_all := lw_g (lw_at lw_m5 9 rfl) rfl
theorem q1025 : (Jvm.Cond.laysFinal "Bloomclock$Sale" "Bloomclock$Sale" "stems" "I") ∈ lw_all := lw_g (lw_at lw_m5 10 rfl) rfl
theorem q1026 : (Jvm.Cond.soleField "Bloomclock$Sale" "stems") ∈ lw_all := lw_g (lw_at lw_m5 11 rfl) rfl
theorem q1027 : (Jvm.Cond.laysFinal "Bloomclock$Sale" "Bloomclock$Sale" "price" "I") ∈ lw_all := lw_g (lw_at lw_m5 12 rfl) rfl
theorem q1028 : (Jvm.Cond.soleField "Bloomclock$Sale" "price") ∈ lw_all := lw_g (lw_at lw_m5 13 rfl) rfl
theorem q1029 : (Jvm.Cond.laysFinal "Bloomclock$Sale" "Bloomclock$Sale" "hour" "I") ∈ lw_all := lw_g (lw_at lw_m5 14 rfl) rfl
theorem q1030 : (Jvm.Cond.soleField "Bloomclock$Sale" "hour") ∈ lw_all := lw_g (lw_at lw_m5 15 rfl) rfl
theorem q1031 : (Jvm.Cond.laysFinal "Bloomclock$Sale" "Bloomclock$Sale" "order" "I") ∈ lw_all := lw_g (lw_at lw_m5 16 rfl) rfl
theorem q1032 : (Jvm.Cond.soleField "Bloomclock$Sale" "order") ∈ lw_all := lw_g (lw_at lw_m5 17 rfl) rfl
theorem q1033 : (Jvm.Cond.laysFinal "Bloomclock$Sale" "Bloomclock$Sale" "buckets" "I") ∈ lw_all := lw_g (lw_at lw_m5 18 rfl) rfl
theorem q1034 : (Jvm.Cond.soleField "Bloomclock$Sale" "buckets") ∈ lw_all := lw_g (lw_at lw_m5 19 rfl) rfl
theorem q1035 : (Jvm.Cond.superclass "Bloomclock$Sale" "java/lang/Object") ∈ lw_all := lw_g (lw_at lw_m5 20 rfl) rfl
theorem q1041 : (Jvm.Cond.instanceMethod ({ cls := "Bloomclock$Sale", name := "money", desc := "()I" } : Jvm.MethodName)) ∈ lw_all := lw_g (lw_at lw_m5 26 rfl) rfl
theorem q1042 : (Jvm.Cond.selects "Bloomclock$Sale" ({ cls := "Bloomclock$Sale", name := "money", desc := "()I" } : Jvm.MethodName) ({ cls := "Bloomclock$Sale", name := "money", desc := "()I" } : Jvm.MethodName)) ∈ lw_all := lw_g (lw_at lw_m5 27 rfl) rfl
theorem q1043 : (Jvm.Cond.code ({ cls := "Bloomclock$Sale", name := "money", desc := "()I" } : Jvm.MethodName) prog_9_method_2_code (1 : Nat) (Option.some Jvm.ClassFile.FieldType.int)) ∈ lw_all := lw_g (lw_at lw_m5 28 rfl) rfl
theorem q1045 : (Jvm.Cond.instanceMethod ({ cls := "Bloomclock$Sale", name := "fee", desc := "()I" } : Jvm.MethodName)) ∈ lw_all := lw_g (lw_at lw_m5 30 rfl) rfl
theorem q1046 : (Jvm.Cond.selects "Bloomclock$Sale" ({ cls := "Bloomclock$Sale", name := "fee", desc := "()I" } : Jvm.MethodName) ({ cls := "Bloomclock$Sale", name := "fee", desc := "()I" } : Jvm.MethodName)) ∈ lw_all := lw_g (lw_at lw_m5 31 rfl) rfl
theorem q1047 : (Jvm.Cond.code ({ cls := "Bloomclock$Sale", name := "fee", desc := "()I" } : Jvm.MethodName) prog_9_method_3_code (1 : Nat) (Option.some Jvm.ClassFile.FieldType.int)) ∈ lw_all := lw_g (lw_at lw_m5 32 rfl) rfl
theorem q1048 : (Jvm.Cond.methodLink "Bloomclock$Sale" (33 : Nat) ({ cls := "Bloomclock$Sale", name := "money", desc := "()I" } : Jvm.MethodName)) ∈ lw_all := lw_g (lw_at lw_m5 33 rfl) rfl
theorem q1873 : (Jvm.Cond.selects "Bloomclock$Sale" ({ cls := "java/lang/Object", name := "equals", desc := "(Ljava/lang/Object;)Z" } : Jvm.MethodName) ({ cls := "java/lang/Object", name := "equals", desc := "(Ljava/lang/Object;)Z" } : Jvm.MethodName)) ∈ lw_all := lw_g (lw_at lw_m8 138 rfl) rfl
theorem q2070 : (Jvm.Cond.castable "Bloomclock$Sale" "java/lang/Object") ∈ lw_tbl := lw_at lw_m9 95 rfl
theorem in_X15 : ∀ w ∈ wsX150, w ∈ lw_all := lw_in wsX150 [1021, 1023, 1025, 1027, 1029, 1031, 1033] (by decide +kernel) (by decide +kernel)
/-! Bloomclock$Trolley -/
set_option maxRecDepth 100000
def RX16 : String := "Bloomclock$Trolley"
def TX16 : u_T := fun k => match k with
  | 0 => ("Bloomclock$Trolley", "sale", "LBloomclock$Sale;", true)
  | 1 => ("Bloomclock$Trolley", "cultivar", "I", true)
  | _ => ("Bloomclock$Trolley", "life", "I", false)
def tyX16 : Nat → FieldType := fun k => match k with
  | 0 => .object "Bloomclock$Sale"
  | 1 => .int
  | _ => .int
abbrev wsX160 : List Cond := u_ws RX16 TX16 3
theorem nmX16 : ∀ a, a < 3 → ∀ b, b < 3 → a ≠ b → (TX16 a).2.1 ≠ (TX16 b).2.1 := by decide +kernel
theorem tyX16_ok : ∀ k, k < 3 → parseFieldDescriptor (TX16 k).2.2.1 = some (tyX16 k) := by decide +kernel
abbrev cX16_init : ByteArray := prog_11_method_1_code
def yX16_init : MethodName := ⟨RX16, "<init>", "(LBloomclock$Sale;LBloomclock$Lot;)V"⟩
def dkwX16_init_1 : List UInt8 := [181, 0, 23, 177]
abbrev dktX16_init_1 : List UInt8 := dkwX16_init_1 ++ []
def dkwX16_init_0 : List UInt8 := [42, 183, 0, 1, 42, 43, 181, 0, 7, 42, 44, 180, 0, 13, 181, 0, 19, 42, 44, 180, 0, 20]
abbrev dktX16_init_0 : List UInt8 := dkwX16_init_0 ++ dktX16_init_1
theorem dksX16_init_0 : cX16_init.data.toList.drop 0 = dktX16_init_0 := by decide +kernel
theorem dksX16_init_1 : cX16_init.data.toList.drop 22 = dktX16_init_1 := dk_seg dksX16_init_0 22 rfl rfl
theorem dX16_init_0 : decode cX16_init 0 = .ok (.aload_n 0, 1) := dk_42 (dk_at dksX16_init_0 0 rfl rfl)
theorem dX16_init_1 : decode cX16_init 1 = .ok (.invokespecial 1, 3) := dk_183 0 1 (dk_at dksX16_init_0 1 rfl rfl)
theorem dX16_init_4 : decode cX16_init 4 = .ok (.aload_n 0, 1) := dk_42 (dk_at dksX16_init_0 4 rfl rfl)
theorem dX16_init_5 : decode cX16_init 5 = .ok (.aload_n 1, 1) := dk_43 (dk_at dksX16_init_0 5 rfl rfl)
theorem dX16_init_6 : decode cX16_init 6 = .ok (.putfield 7, 3) := dk_181 0 7 (dk_at dksX16_init_0 6 rfl rfl)
theorem dX16_init_9 : decode cX16_init 9 = .ok (.aload_n 0, 1) := dk_42 (dk_at dksX16_init_0 9 rfl rfl)
theorem dX16_init_10 : decode cX16_init 10 = .ok (.aload_n 2, 1) := dk_44 (dk_at dksX16_init_0 10 rfl rfl)
theorem dX16_init_11 : decode cX16_init 11 = .ok (.getfield 13, 3) := dk_180 0 13 (dk_at dksX16_init_0 11 rfl rfl)
theorem dX16_init_14 : decode cX16_init 14 = .ok (.putfield 19, 3) := dk_181 0 19 (dk_at dksX16_init_0 14 rfl rfl)
theorem dX16_init_17 : decode cX16_init 17 = .ok (.aload_n 0, 1) := dk_42 (dk_at dksX16_init_0 17 rfl rfl)
theorem dX16_init_18 : decode cX16_init 18 = .ok (.aload_n 2, 1) := dk_44 (dk_at dksX16_init_0 18 rfl rfl)
theorem dX16_init_19 : decode cX16_init 19 = .ok (.getfield 20, 3) := dk_180 0 20 (dk_at dksX16_init_0 19 rfl rfl)
theorem dX16_init_22 : decode cX16_init 22 = .ok (.putfield 23, 3) := dk_181 0 23 (dk_at dksX16_init_1 0 rfl rfl)
theorem dX16_init_25 : decode cX16_init 25 = .ok (.return_, 1) := dk_177 (dk_at dksX16_init_1 3 rfl rfl)
theorem q94 : (Jvm.Cond.initialized "Bloomclock$Trolley") ∈ lw_all := lw_g (lw_at lw_m1 39 rfl) rfl
theorem q571 : (Jvm.Cond.selects "Bloomclock$Trolley" ({ cls := "java/lang/Object", name := "getClass", desc := "()Ljava/lang/Class;" } : Jvm.MethodName) ({ cls := "java/lang/Object", name := "getClass", desc := "()Ljava/lang/Class;" } : Jvm.MethodName)) ∈ lw_all := lw_g (lw_at lw_m3 36 rfl) rfl
theorem q748 : (Jvm.Cond.fieldLinkNest "Bloomclock$Trolley" (13 : Nat) "Bloomclock$Lot" "cultivar" "I" "Bloomclock") ∈ lw_tbl := lw_at lw_m3 213 rfl
theorem q757 : (Jvm.Cond.fieldLinkNest "Bloomclock$Trolley" (20 : Nat) "Bloomclock$Lot" "life" "I" "Bloomclock") ∈ lw_tbl := lw_at lw_m3 222 rfl
theorem q1051 : (Jvm.Cond.instantiable "Bloomclock$Trolley" (3 : Nat)) ∈ lw_all := lw_g (lw_at lw_m5 36 rfl) rfl
theorem q1053 : (Jvm.Cond.instanceMethod ({ cls := "Bloomclock$Trolley", name := "<init>", desc := "(LBloomclock$Sale;LBloomclock$Lot;)V" } : Jvm.MethodName)) ∈ lw_all := lw_g (lw_at lw_m5 38 rfl) rfl
theorem q1054 : (Jvm.Cond.code ({ cls := "Bloomclock$Trolley", name := "<init>", desc := "(LBloomclock$Sale;LBloomclock$Lot;)V" } : Jvm.MethodName) prog_11_method_1_code (3 : Nat) (Option.none : Option Jvm.ClassFile.FieldType)) ∈ lw_all := lw_g (lw_at lw_m5 39 rfl) rfl
theorem q1055 : (Jvm.Cond.methodLink "Bloomclock$Trolley" (1 : Nat) ({ cls := "java/lang/Object", name := "<init>", desc := "()V" } : Jvm.MethodName)) ∈ lw_all := lw_g (lw_at lw_m5 40 rfl) rfl
theorem q1056 : (Jvm.Cond.fieldLink "Bloomclock$Trolley" (7 : Nat) "Bloomclock$Trolley" "sale" "LBloomclock$Sale;") ∈ lw_all := lw_g (lw_at lw_m5 41 rfl) rfl
theorem q1058 : (Jvm.Cond.fieldLink "Bloomclock$Trolley" (19 : Nat) "Bloomclock$Trolley" "cultivar" "I") ∈ lw_all := lw_g (lw_at lw_m5 43 rfl) rfl
theorem q1060 : (Jvm.Cond.fieldLink "Bloomclock$Trolley" (23 : Nat) "Bloomclock$Trolley" "life" "I") ∈ lw_all := lw_g (lw_at lw_m5 45 rfl) rfl
theorem q1062 : (Jvm.Cond.laysFinal "Bloomclock$Trolley" "Bloomclock$Trolley" "sale" "LBloomclock$Sale;") ∈ lw_all := lw_g (lw_at lw_m5 47 rfl) rfl
theorem q1063 : (Jvm.Cond.soleField "Bloomclock$Trolley" "sale") ∈ lw_all := lw_g (lw_at lw_m5 48 rfl) rfl
theorem q1064 : (Jvm.Cond.laysFinal "Bloomclock$Trolley" "Bloomclock$Trolley" "cultivar" "I") ∈ lw_all := lw_g (lw_at lw_m5 49 rfl) rfl
theorem q1065 : (Jvm.Cond.soleField "Bloomclock$Trolley" "cultivar") ∈ lw_all := lw_g (lw_at lw_m5 50 rfl) rfl
theorem q1066 : (Jvm.Cond.lays "Bloomclock$Trolley" "Bloomclock$Trolley" "life" "I") ∈ lw_all := lw_g (lw_at lw_m5 51 rfl) rfl
theorem q1067 : (Jvm.Cond.soleField "Bloomclock$Trolley" "life") ∈ lw_all := lw_g (lw_at lw_m5 52 rfl) rfl
theorem q1068 : (Jvm.Cond.superclass "Bloomclock$Trolley" "java/lang/Object") ∈ lw_all := lw_g (lw_at lw_m5 53 rfl) rfl
theorem q1875 : (Jvm.Cond.selects "Bloomclock$Trolley" ({ cls := "java/lang/Object", name := "equals", desc := "(Ljava/lang/Object;)Z" } : Jvm.MethodName) ({ cls := "java/lang/Object", name := "equals", desc := "(Ljava/lang/Object;)Z" } : Jvm.MethodName)) ∈ lw_all := lw_g (lw_at lw_m8 140 rfl) rfl
theorem q2071 : (Jvm.Cond.castable "Bloomclock$Trolley" "java/lang/Object") ∈ lw_tbl := lw_at lw_m9 96 rfl
theorem in_X16 : ∀ w ∈ wsX160, w ∈ lw_all := lw_in wsX160 [1062, 1064, 1066] (by decide +kernel) (by decide +kernel)
/-! Bloomclock$Grower -/
set_option maxRecDepth 100000
def RX3 : String := "Bloomclock$Grower"
def TX3 : u_T := fun k => match k with
  | 0 => ("Bloomclock$Grower", "coins", "I", false)
  | 1 => ("Bloomclock$Grower", "lamps", "I", false)
  | 2 => ("Bloomclock$Grower", "mark", "I", false)
  | 3 => ("Bloomclock$Grower", "sold", "I", false)
  | 4 => ("Bloomclock$Grower", "brought", "[I", true)
  | _ => ("Bloomclock$Grower", "day", "I", false)
def tyX3 : Nat → FieldType := fun k => match k with
  | 0 => .int
  | 1 => .int
  | 2 => .int
  | 3 => .int
  | 4 => .array .int
  | _ => .int
abbrev wsX30 : List Cond := u_ws RX3 TX3 6
theorem nmX3 : ∀ a, a < 6 → ∀ b, b < 6 → a ≠ b → (TX3 a).2.1 ≠ (TX3 b).2.1 := by decide +kernel
theorem tyX3_ok : ∀ k, k < 6 → parseFieldDescriptor (TX3 k).2.2.1 = some (tyX3 k) := by decide +kernel
abbrev cX3_allOn : ByteArray := prog_6_method_3_code
def yX3_allOn : MethodName := ⟨RX3, "allOn", "(I)I"⟩
def dkwX3_allOn_1 : List UInt8 := [28, 172]
abbrev dktX3_allOn_1 : List UInt8 := dkwX3_allOn_1 ++ []
def dkwX3_allOn_0 : List UInt8 := [3, 61, 3, 62, 29, 6, 162, 0, 18, 28, 42, 29, 27, 182, 0, 25, 96, 61, 132, 3, 1, 167, 255, 239]
abbrev dktX3_allOn_0 : List UInt8 := dkwX3_allOn_0 ++ dktX3_allOn_1
theorem dksX3_allOn_0 : cX3_allOn.data.toList.drop 0 = dktX3_allOn_0 := by decide +kernel
theorem dksX3_allOn_1 : cX3_allOn.data.toList.drop 24 = dktX3_allOn_1 := dk_seg dksX3_allOn_0 24 rfl rfl
theorem dX3_allOn_0 : decode cX3_allOn 0 = .ok (.iconst 0, 1) := dk_3 (dk_at dksX3_allOn_0 0 rfl rfl)
theorem dX3_allOn_1 : decode cX3_allOn 1 = .ok (.istore_n 2, 1) := dk_61 (dk_at dksX3_allOn_0 1 rfl rfl)
theorem dX3_allOn_2 : decode cX3_allOn 2 = .ok (.iconst 0, 1) := dk_3 (dk_at dksX3_allOn_0 2 rfl rfl)
theorem dX3_allOn_3 : decode cX3_allOn 3 = .ok (.istore_n 3, 1) := dk_62 (dk_at dksX3_allOn_0 3 rfl rfl)
theorem dX3_allOn_4 : decode cX3_allOn 4 = .ok (.iload_n 3, 1) := dk_29 (dk_at dksX3_allOn_0 4 rfl rfl)
theorem dX3_allOn_5 : decode cX3_allOn 5 = .ok (.iconst 3, 1) := dk_6 (dk_at dksX3_allOn_0 5 rfl rfl)
theorem dX3_allOn_6 : decode cX3_allOn 6 = .ok (.if_icmp .ge 18, 3) := dk_162 0 18 (dk_at dksX3_allOn_0 6 rfl rfl)
theorem dX3_allOn_9 : decode cX3_allOn 9 = .ok (.iload_n 2, 1) := dk_28 (dk_at dksX3_allOn_0 9 rfl rfl)
theorem dX3_allOn_10 : decode cX3_allOn 10 = .ok (.aload_n 0, 1) := dk_42 (dk_at dksX3_allOn_0 10 rfl rfl)
theorem dX3_allOn_11 : decode cX3_allOn 11 = .ok (.iload_n 3, 1) := dk_29 (dk_at dksX3_allOn_0 11 rfl rfl)
theorem dX3_allOn_12 : decode cX3_allOn 12 = .ok (.iload_n 1, 1) := dk_27 (dk_at dksX3_allOn_0 12 rfl rfl)
theorem dX3_allOn_13 : decode cX3_allOn 13 = .ok (.invokevirtual 25, 3) := dk_182 0 25 (dk_at dksX3_allOn_0 13 rfl rfl)
theorem dX3_allOn_16 : decode cX3_allOn 16 = .ok (.iadd, 1) := dk_96 (dk_at dksX3_allOn_0 16 rfl rfl)
theorem dX3_allOn_17 : decode cX3_allOn 17 = .ok (.istore_n 2, 1) := dk_61 (dk_at dksX3_allOn_0 17 rfl rfl)
theorem dX3_allOn_18 : decode cX3_allOn 18 = .ok (.iinc 3 1, 3) := dk_132 3 1 (dk_at dksX3_allOn_0 18 rfl rfl)
theorem dX3_allOn_21 : decode cX3_allOn 21 = .ok (.goto (-17), 3) := dk_167 255 239 (dk_at dksX3_allOn_0 21 rfl rfl)
theorem dX3_allOn_24 : decode cX3_allOn 24 = .ok (.iload_n 2, 1) := dk_28 (dk_at dksX3_allOn_1 0 rfl rfl)
theorem dX3_allOn_25 : decode cX3_allOn 25 = .ok (.ireturn, 1) := dk_172 (dk_at dksX3_allOn_1 1 rfl rfl)
abbrev cX3_broughtOn : ByteArray := prog_6_method_2_code
def yX3_broughtOn : MethodName := ⟨RX3, "broughtOn", "(II)I"⟩
def dkwX3_broughtOn_0 : List UInt8 := [42, 180, 0, 22, 28, 160, 0, 12, 42, 180, 0, 18, 27, 46, 167, 0, 4, 3, 172]
abbrev dktX3_broughtOn_0 : List UInt8 := dkwX3_broughtOn_0 ++ []
theorem dksX3_broughtOn_0 : cX3_broughtOn.data.toList.drop 0 = dktX3_broughtOn_0 := by decide +kernel
theorem dX3_broughtOn_0 : decode cX3_broughtOn 0 = .ok (.aload_n 0, 1) := dk_42 (dk_at dksX3_broughtOn_0 0 rfl rfl)
theorem dX3_broughtOn_1 : decode cX3_broughtOn 1 = .ok (.getfield 22, 3) := dk_180 0 22 (dk_at dksX3_broughtOn_0 1 rfl rfl)
theorem dX3_broughtOn_4 : decode cX3_broughtOn 4 = .ok (.iload_n 2, 1) := dk_28 (dk_at dksX3_broughtOn_0 4 rfl rfl)
theorem dX3_broughtOn_5 : decode cX3_broughtOn 5 = .ok (.if_icmp .ne 12, 3) := dk_160 0 12 (dk_at dksX3_broughtOn_0 5 rfl rfl)
theorem dX3_broughtOn_8 : decode cX3_broughtOn 8 = .ok (.aload_n 0, 1) := dk_42 (dk_at dksX3_broughtOn_0 8 rfl rfl)
theorem dX3_broughtOn_9 : decode cX3_broughtOn 9 = .ok (.getfield 18, 3) := dk_180 0 18 (dk_at dksX3_broughtOn_0 9 rfl rfl)
theorem dX3_broughtOn_12 : decode cX3_broughtOn 12 = .ok (.iload_n 1, 1) := dk_27 (dk_at dksX3_broughtOn_0 12 rfl rfl)
theorem dX3_broughtOn_13 : decode cX3_broughtOn 13 = .ok (.iaload, 1) := dk_46 (dk_at dksX3_broughtOn_0 13 rfl rfl)
theorem dX3_broughtOn_14 : decode cX3_broughtOn 14 = .ok (.goto 4, 3) := dk_167 0 4 (dk_at dksX3_broughtOn_0 14 rfl rfl)
theorem dX3_broughtOn_17 : decode cX3_broughtOn 17 = .ok (.iconst 0, 1) := dk_3 (dk_at dksX3_broughtOn_0 17 rfl rfl)
theorem dX3_broughtOn_18 : decode cX3_broughtOn 18 = .ok (.ireturn, 1) := dk_172 (dk_at dksX3_broughtOn_0 18 rfl rfl)
abbrev cX3_init : ByteArray := prog_6_method_1_code
def yX3_init : MethodName := ⟨RX3, "<init>", "()V"⟩
def dkwX3_init_0 : List UInt8 := [42, 183, 0, 3, 42, 16, 100, 181, 0, 9, 42, 16, 50, 181, 0, 15, 42, 6, 188, 10, 181, 0, 18, 177]
abbrev dktX3_init_0 : List UInt8 := dkwX3_init_0 ++ []
theorem dksX3_init_0 : cX3_init.data.toList.drop 0 = dktX3_init_0 := by decide +kernel
theorem dX3_init_0 : decode cX3_init 0 = .ok (.aload_n 0, 1) := dk_42 (dk_at dksX3_init_0 0 rfl rfl)
theorem dX3_init_1 : decode cX3_init 1 = .ok (.invokespecial 3, 3) := dk_183 0 3 (dk_at dksX3_init_0 1 rfl rfl)
theorem dX3_init_4 : decode cX3_init 4 = .ok (.aload_n 0, 1) := dk_42 (dk_at dksX3_init_0 4 rfl rfl)
theorem dX3_init_5 : decode cX3_init 5 = .ok (.bipush 100, 2) := dk_16 100 (dk_at dksX3_init_0 5 rfl rfl)
theorem dX3_init_7 : decode cX3_init 7 = .ok (.putfield 9, 3) := dk_181 0 9 (dk_at dksX3_init_0 7 rfl rfl)
theorem dX3_init_10 : decode cX3_init 10 = .ok (.aload_n 0, 1) := dk_42 (dk_at dksX3_init_0 10 rfl rfl)
theorem dX3_init_11 : decode cX3_init 11 = .ok (.bipush 50, 2) := dk_16 50 (dk_at dksX3_init_0 11 rfl rfl)
theorem dX3_init_13 : decode cX3_init 13 = .ok (.putfield 15, 3) := dk_181 0 15 (dk_at dksX3_init_0 13 rfl rfl)
theorem dX3_init_16 : decode cX3_init 16 = .ok (.aload_n 0, 1) := dk_42 (dk_at dksX3_init_0 16 rfl rfl)
theorem dX3_init_17 : decode cX3_init 17 = .ok (.iconst 3, 1) := dk_6 (dk_at dksX3_init_0 17 rfl rfl)
theorem dX3_init_18 : decode cX3_init 18 = .ok (.newarray .int, 2) := dk_188_10 (dk_at dksX3_init_0 18 rfl rfl)
theorem dX3_init_20 : decode cX3_init 20 = .ok (.putfield 18, 3) := dk_181 0 18 (dk_at dksX3_init_0 20 rfl rfl)
theorem dX3_init_23 : decode cX3_init 23 = .ok (.return_, 1) := dk_177 (dk_at dksX3_init_0 23 rfl rfl)
abbrev cX3_bring : ByteArray := prog_6_method_4_code
def yX3_bring : MethodName := ⟨RX3, "bring", "(III)V"⟩
def dkwX3_bring_1 : List UInt8 := [79, 132, 4, 1, 167, 255, 231, 42, 29, 181, 0, 22, 42, 180, 0, 18, 27, 92, 46, 28, 96, 79, 177]
abbrev dktX3_bring_1 : List UInt8 := dkwX3_bring_1 ++ []
def dkwX3_bring_0 : List UInt8 := [3, 54, 4, 21, 4, 6, 162, 0, 25, 42, 180, 0, 22, 29, 159, 0, 17, 42, 180, 0, 18, 21, 4, 3]
abbrev dktX3_bring_0 : List UInt8 := dkwX3_bring_0 ++ dktX3_bring_1
theorem dksX3_bring_0 : cX3_bring.data.toList.drop 0 = dktX3_bring_0 := by decide +kernel
theorem dksX3_bring_1 : cX3_bring.data.toList.drop 24 = dktX3_bring_1 := dk_seg dksX3_bring_0 24 rfl rfl
theorem dX3_bring_0 : decode cX3_bring 0 = .ok (.iconst 0, 1) := dk_3 (dk_at dksX3_bring_0 0 rfl rfl)
theorem dX3_bring_1 : decode cX3_bring 1 = .ok (.istore 4, 2) := dk_54 4 (dk_at dksX3_bring_0 1 rfl rfl)
theorem dX3_bring_3 : decode cX3_bring 3 = .ok (.iload 4, 2) := dk_21 4 (dk_at dksX3_bring_0 3 rfl rfl)
theorem dX3_bring_5 : decode cX3_bring 5 = .ok (.iconst 3, 1) := dk_6 (dk_at dksX3_bring_0 5 rfl rfl)
theorem dX3_bring_6 : decode cX3_bring 6 = .ok (.if_icmp .ge 25, 3) := dk_162 0 25 (dk_at dksX3_bring_0 6 rfl rfl)
theorem dX3_bring_9 : decode cX3_bring 9 = .ok (.aload_n 0, 1) := dk_42 (dk_at dksX3_bring_0 9 rfl rfl)
theorem dX3_bring_10 : decode cX3_bring 10 = .ok (.getfield 22, 3) := dk_180 0 22 (dk_at dksX3_bring_0 10 rfl rfl)
theorem dX3_bring_13 : decode cX3_bring 13 = .ok (.iload_n 3, 1) := dk_29 (dk_at dksX3_bring_0 13 rfl rfl)
theorem dX3_bring_14 : decode cX3_bring 14 = .ok (.if_icmp .eq 17, 3) := dk_159 0 17 (dk_at dksX3_bring_0 14 rfl rfl)
theorem dX3_bring_17 : decode cX3_bring 17 = .ok (.aload_n 0, 1) := dk_42 (dk_at dksX3_bring_0 17 rfl rfl)
theorem dX3_bring_18 : decode cX3_bring 18 = .ok (.getfield 18, 3) := dk_180 0 18 (dk_at dksX3_bring_0 18 rfl rfl)
theorem dX3_bring_21 : decode cX3_bring 21 = .ok (.iload 4, 2) := dk_21 4 (dk_at dksX3_bring_0 21 rfl rfl)
theorem dX3_bring_23 : decode cX3_bring 23 = .ok (.iconst 0, 1) := dk_3 (dk_at dksX3_bring_0 23 rfl rfl)
theorem dX3_bring_24 : decode cX3_bring 24 = .ok (.iastore, 1) := dk_79 (dk_at dksX3_bring_1 0 rfl rfl)
theorem dX3_bring_25 : decode cX3_bring 25 = .ok (.iinc 4 1, 3) := dk_132 4 1 (dk_at dksX3_bring_1 1 rfl rfl)
theorem dX3_bring_28 : decode cX3_bring 28 = .ok (.goto (-25), 3) := dk_167 255 231 (dk_at dksX3_bring_1 4 rfl rfl)
theorem dX3_bring_31 : decode cX3_bring 31 = .ok (.aload_n 0, 1) := dk_42 (dk_at dksX3_bring_1 7 rfl rfl)
theorem dX3_bring_32 : decode cX3_bring 32 = .ok (.iload_n 3, 1) := dk_29 (dk_at dksX3_bring_1 8 rfl rfl)
theorem dX3_bring_33 : decode cX3_bring 33 = .ok (.putfield 22, 3) := dk_181 0 22 (dk_at dksX3_bring_1 9 rfl rfl)
theorem dX3_bring_36 : decode cX3_bring 36 = .ok (.aload_n 0, 1) := dk_42 (dk_at dksX3_bring_1 12 rfl rfl)
theorem dX3_bring_37 : decode cX3_bring 37 = .ok (.getfield 18, 3) := dk_180 0 18 (dk_at dksX3_bring_1 13 rfl rfl)
theorem dX3_bring_40 : decode cX3_bring 40 = .ok (.iload_n 1, 1) := dk_27 (dk_at dksX3_bring_1 16 rfl rfl)
theorem dX3_bring_41 : decode cX3_bring 41 = .ok (.dup2, 1) := dk_92 (dk_at dksX3_bring_1 17 rfl rfl)
theorem dX3_bring_42 : decode cX3_bring 42 = .ok (.iaload, 1) := dk_46 (dk_at dksX3_bring_1 18 rfl rfl)
theorem dX3_bring_43 : decode cX3_bring 43 = .ok (.iload_n 2, 1) := dk_28 (dk_at dksX3_bring_1 19 rfl rfl)
theorem dX3_bring_44 : decode cX3_bring 44 = .ok (.iadd, 1) := dk_96 (dk_at dksX3_bring_1 20 rfl rfl)
theorem dX3_bring_45 : decode cX3_bring 45 = .ok (.iastore, 1) := dk_79 (dk_at dksX3_bring_1 21 rfl rfl)
theorem dX3_bring_46 : decode cX3_bring 46 = .ok (.return_, 1) := dk_177 (dk_at dksX3_bring_1 22 rfl rfl)
abbrev cX3_mark : ByteArray := prog_6_method_5_code
def yX3_mark : MethodName := ⟨RX3, "mark", "(I)V"⟩
def dkwX3_mark_0 : List UInt8 := [42, 3, 16, 100, 42, 180, 0, 15, 27, 96, 184, 0, 29, 184, 0, 34, 181, 0, 15, 177]
abbrev dktX3_mark_0 : List UInt8 := dkwX3_mark_0 ++ []
theorem dksX3_mark_0 : cX3_mark.data.toList.drop 0 = dktX3_mark_0 := by decide +kernel
theorem dX3_mark_0 : decode cX3_mark 0 = .ok (.aload_n 0, 1) := dk_42 (dk_at dksX3_mark_0 0 rfl rfl)
theorem dX3_mark_1 : decode cX3_mark 1 = .ok (.iconst 0, 1) := dk_3 (dk_at dksX3_mark_0 1 rfl rfl)
theorem dX3_mark_2 : decode cX3_mark 2 = .ok (.bipush 100, 2) := dk_16 100 (dk_at dksX3_mark_0 2 rfl rfl)
theorem dX3_mark_4 : decode cX3_mark 4 = .ok (.aload_n 0, 1) := dk_42 (dk_at dksX3_mark_0 4 rfl rfl)
theorem dX3_mark_5 : decode cX3_mark 5 = .ok (.getfield 15, 3) := dk_180 0 15 (dk_at dksX3_mark_0 5 rfl rfl)
theorem dX3_mark_8 : decode cX3_mark 8 = .ok (.iload_n 1, 1) := dk_27 (dk_at dksX3_mark_0 8 rfl rfl)
theorem dX3_mark_9 : decode cX3_mark 9 = .ok (.iadd, 1) := dk_96 (dk_at dksX3_mark_0 9 rfl rfl)
theorem dX3_mark_10 : decode cX3_mark 10 = .ok (.invokestatic 29, 3) := dk_184 0 29 (dk_at dksX3_mark_0 10 rfl rfl)
theorem dX3_mark_13 : decode cX3_mark 13 = .ok (.invokestatic 34, 3) := dk_184 0 34 (dk_at dksX3_mark_0 13 rfl rfl)
theorem dX3_mark_16 : decode cX3_mark 16 = .ok (.putfield 15, 3) := dk_181 0 15 (dk_at dksX3_mark_0 16 rfl rfl)
theorem dX3_mark_19 : decode cX3_mark 19 = .ok (.return_, 1) := dk_177 (dk_at dksX3_mark_0 19 rfl rfl)
theorem q65 : (Jvm.Cond.initialized "Bloomclock$Grower") ∈ lw_all := lw_g (lw_at lw_m1 10 rfl) rfl
theorem q259 : (Jvm.Cond.instanceMethod ({ cls := "Bloomclock$Grower", name := "allOn", desc := "(I)I" } : Jvm.MethodName)) ∈ lw_all := lw_g (lw_at lw_m1 204 rfl) rfl
theorem q260 : (Jvm.Cond.selects "Bloomclock$Grower" ({ cls := "Bloomclock$Grower", name := "allOn", desc := "(I)I" } : Jvm.MethodName) ({ cls := "Bloomclock$Grower", name := "allOn", desc := "(I)I" } : Jvm.MethodName)) ∈ lw_all := lw_g (lw_at lw_m1 205 rfl) rfl
theorem q261 : (Jvm.Cond.code ({ cls := "Bloomclock$Grower", name := "allOn", desc := "(I)I" } : Jvm.MethodName) prog_6_method_3_code (4 : Nat) (Option.some Jvm.ClassFile.FieldType.int)) ∈ lw_all := lw_g (lw_at lw_m1 206 rfl) rfl
theorem q262 : (Jvm.Cond.methodLink "Bloomclock$Grower" (25 : Nat) ({ cls := "Bloomclock$Grower", name := "broughtOn", desc := "(II)I" } : Jvm.MethodName)) ∈ lw_all := lw_g (lw_at lw_m1 207 rfl) rfl
theorem q263 : (Jvm.Cond.instanceMethod ({ cls := "Bloomclock$Grower", name := "broughtOn", desc := "(II)I" } : Jvm.MethodName)) ∈ lw_all := lw_g (lw_at lw_m1 208 rfl) rfl
theorem q264 : (Jvm.Cond.selects "Bloomclock$Grower" ({ cls := "Bloomclock$Grower", name := "broughtOn", desc := "(II)I" } : Jvm.MethodName) ({ cls := "Bloomclock$Grower", name := "broughtOn", desc := "(II)I" } : Jvm.MethodName)) ∈ lw_all := lw_g (lw_at lw_m1 209 rfl) rfl
theorem q265 : (Jvm.Cond.code ({ cls := "Bloomclock$Grower", name := "broughtOn", desc := "(II)I" } : Jvm.MethodName) prog_6_method_2_code (3 : Nat) (Option.some Jvm.ClassFile.FieldType.int)) ∈ lw_all := lw_g (lw_at lw_m1 210 rfl) rfl
theorem q500 : (Jvm.Cond.instantiable "Bloomclock$Grower" (6 : Nat)) ∈ lw_all := lw_g (lw_at lw_m2 205 rfl) rfl
theorem q502 : (Jvm.Cond.instanceMethod ({ cls := "Bloomclock$Grower", name := "<init>", desc := "()V" } : Jvm.MethodName)) ∈ lw_all := lw_g (lw_at lw_m2 207 rfl) rfl
theorem q503 : (Jvm.Cond.code ({ cls := "Bloomclock$Grower", name := "<init>", desc := "()V" } : Jvm.MethodName) prog_6_method_1_code (1 : Nat) (Option.none : Option Jvm.ClassFile.FieldType)) ∈ lw_all := lw_g (lw_at lw_m2 208 rfl) rfl
theorem q504 : (Jvm.Cond.methodLink "Bloomclock$Grower" (3 : Nat) ({ cls := "java/lang/Object", name := "<init>", desc := "()V" } : Jvm.MethodName)) ∈ lw_all := lw_g (lw_at lw_m2 209 rfl) rfl
theorem q505 : (Jvm.Cond.fieldLink "Bloomclock$Grower" (9 : Nat) "Bloomclock$Grower" "coins" "I") ∈ lw_all := lw_g (lw_at lw_m2 210 rfl) rfl
theorem q508 : (Jvm.Cond.fieldLink "Bloomclock$Grower" (15 : Nat) "Bloomclock$Grower" "mark" "I") ∈ lw_all := lw_g (lw_at lw_m2 213 rfl) rfl
theorem q511 : (Jvm.Cond.fieldLink "Bloomclock$Grower" (18 : Nat) "Bloomclock$Grower" "brought" "[I") ∈ lw_all := lw_g (lw_at lw_m2 216 rfl) rfl
theorem q512 : (Jvm.Cond.fieldLink "Bloomclock$Grower" (22 : Nat) "Bloomclock$Grower" "day" "I") ∈ lw_all := lw_g (lw_at lw_m2 217 rfl) rfl
theorem q513 : (Jvm.Cond.lays "Bloomclock$Grower" "Bloomclock$Grower" "coins" "I") ∈ lw_all := lw_g (lw_at lw_m2 218 rfl) rfl
theorem q514 : (Jvm.Cond.soleField "Bloomclock$Grower" "coins") ∈ lw_all := lw_g (lw_at lw_m2 219 rfl) rfl
theorem q515 : (Jvm.Cond.lays "Bloomclock$Grower" "Bloomclock$Grower" "lamps" "I") ∈ lw_all := lw_g (lw_at lw_m2 220 rfl) rfl
theorem q516 : (Jvm.Cond.soleField "Bloomclock$Grower" "lamps") ∈ lw_all := lw_g (lw_at lw_m2 221 rfl) rfl
theorem q517 : (Jvm.Cond.lays "Bloomclock$Grower" "Bloomclock$Grower" "mark" "I") ∈ lw_all := lw_g (lw_at lw_m2 222 rfl) rfl
theorem q518 : (Jvm.Cond.soleField "Bloomclock$Grower" "mark") ∈ lw_all := lw_g (lw_at lw_m2 223 rfl) rfl
theorem q519 : (Jvm.Cond.lays "Bloomclock$Grower" "Bloomclock$Grower" "sold" "I") ∈ lw_all := lw_g (lw_at lw_m2 224 rfl) rfl
theorem q520 : (Jvm.Cond.soleField "Bloomclock$Grower" "sold") ∈ lw_all := lw_g (lw_at lw_m2 225 rfl) rfl
theorem q521 : (Jvm.Cond.laysFinal "Bloomclock$Grower" "Bloomclock$Grower" "brought" "[I") ∈ lw_all := lw_g (lw_at lw_m2 226 rfl) rfl
theorem q522 : (Jvm.Cond.soleField "Bloomclock$Grower" "brought") ∈ lw_all := lw_g (lw_at lw_m2 227 rfl) rfl
theorem q523 : (Jvm.Cond.lays "Bloomclock$Grower" "Bloomclock$Grower" "day" "I") ∈ lw_all := lw_g (lw_at lw_m2 228 rfl) rfl
theorem q524 : (Jvm.Cond.soleField "Bloomclock$Grower" "day") ∈ lw_all := lw_g (lw_at lw_m2 229 rfl) rfl
theorem q525 : (Jvm.Cond.superclass "Bloomclock$Grower" "java/lang/Object") ∈ lw_all := lw_g (lw_at lw_m2 230 rfl) rfl
theorem q566 : (Jvm.Cond.selects "Bloomclock$Grower" ({ cls := "java/lang/Object", name := "getClass", desc := "()Ljava/lang/Class;" } : Jvm.MethodName) ({ cls := "java/lang/Object", name := "getClass", desc := "()Ljava/lang/Class;" } : Jvm.MethodName)) ∈ lw_all := lw_g (lw_at lw_m3 31 rfl) rfl
theorem q879 : (Jvm.Cond.instanceMethod ({ cls := "Bloomclock$Grower", name := "bring", desc := "(III)V" } : Jvm.MethodName)) ∈ lw_all := lw_g (lw_at lw_m4 104 rfl) rfl
theorem q880 : (Jvm.Cond.selects "Bloomclock$Grower" ({ cls := "Bloomclock$Grower", name := "bring", desc := "(III)V" } : Jvm.MethodName) ({ cls := "Bloomclock$Grower", name := "bring", desc := "(III)V" } : Jvm.MethodName)) ∈ lw_all := lw_g (lw_at lw_m4 105 rfl) rfl
theorem q881 : (Jvm.Cond.code ({ cls := "Bloomclock$Grower", name := "bring", desc := "(III)V" } : Jvm.MethodName) prog_6_method_4_code (5 : Nat) (Option.none : Option Jvm.ClassFile.FieldType)) ∈ lw_all := lw_g (lw_at lw_m4 106 rfl) rfl
theorem q890 : (Jvm.Cond.instanceMethod ({ cls := "Bloomclock$Grower", name := "mark", desc := "(I)V" } : Jvm.MethodName)) ∈ lw_all := lw_g (lw_at lw_m4 115 rfl) rfl
theorem q891 : (Jvm.Cond.selects "Bloomclock$Grower" ({ cls := "Bloomclock$Grower", name := "mark", desc := "(I)V" } : Jvm.MethodName) ({ cls := "Bloomclock$Grower", name := "mark", desc := "(I)V" } : Jvm.MethodName)) ∈ lw_all := lw_g (lw_at lw_m4 116 rfl) rfl
theorem q892 : (Jvm.Cond.code ({ cls := "Bloomclock$Grower", name := "mark", desc := "(I)V" } : Jvm.MethodName) prog_6_method_5_code (2 : Nat) (Option.none : Option Jvm.ClassFile.FieldType)) ∈ lw_all := lw_g (lw_at lw_m4 117 rfl) rfl
theorem q893 : (Jvm.Cond.methodLink "Bloomclock$Grower" (29 : Nat) ({ cls := "java/lang/Math", name := "min", desc := "(II)I" } : Jvm.MethodName)) ∈ lw_all := lw_g (lw_at lw_m4 118 rfl) rfl
theorem q894 : (Jvm.Cond.methodLink "Bloomclock$Grower" (34 : Nat) ({ cls := "java/lang/Math", name := "max", desc := "(II)I" } : Jvm.MethodName)) ∈ lw_all := lw_g (lw_at lw_m4 119 rfl) rfl
theorem q1870 : (Jvm.Cond.selects "Bloomclock$Grower" ({ cls := "java/lang/Object", name := "equals", desc := "(Ljava/lang/Object;)Z" } : Jvm.MethodName) ({ cls := "java/lang/Object", name := "equals", desc := "(Ljava/lang/Object;)Z" } : Jvm.MethodName)) ∈ lw_all := lw_g (lw_at lw_m8 135 rfl) rfl
theorem q2052 : (Jvm.Cond.castable "Bloomclock$Grower" "java/lang/Object") ∈ lw_tbl := lw_at lw_m9 77 rfl
theorem in_X3 : ∀ w ∈ wsX30, w ∈ lw_all := lw_in wsX30 [513, 515, 517, 519, 521, 523] (by decide +kernel) (by decide +kernel)
/-! Bloomclock$Crop -/
set_option maxRecDepth 100000
def RX5 : String := "Bloomclock$Crop"
def TX5 : u_T := fun k => match k with
  | 0 => ("Bloomclock$Crop", "grower", "I", true)
  | 1 => ("Bloomclock$Crop", "cultivar", "I", true)
  | 2 => ("Bloomclock$Crop", "plants", "I", false)
  | 3 => ("Bloomclock$Crop", "sum", "I", false)
  | 4 => ("Bloomclock$Crop", "isReady", "Z", false)
  | _ => ("Bloomclock$Crop", "age", "I", false)
def tyX5 : Nat → FieldType := fun k => match k with
  | 0 => .int
  | 1 => .int
  | 2 => .int
  | 3 => .int
  | 4 => .boolean
  | _ => .int
abbrev wsX50 : List Cond := u_ws RX5 TX5 6
theorem nmX5 : ∀ a, a < 6 → ∀ b, b < 6 → a ≠ b → (TX5 a).2.1 ≠ (TX5 b).2.1 := by decide +kernel
theorem tyX5_ok : ∀ k, k < 6 → parseFieldDescriptor (TX5 k).2.2.1 = some (tyX5 k) := by decide +kernel
abbrev cX5_told : ByteArray := prog_4_method_3_code
def yX5_told : MethodName := ⟨RX5, "told", "(I)I"⟩
def dkwX5_told_3 : List UInt8 := [153, 0, 7, 4, 167, 0, 4, 3, 172, 42, 180, 0, 22, 172]
abbrev dktX5_told_3 : List UInt8 := dkwX5_told_3 ++ []
def dkwX5_told_2 : List UInt8 := [42, 180, 0, 7, 172, 42, 180, 0, 13, 172, 42, 180, 0, 16, 172, 42, 180, 0, 19, 172, 42, 180, 0, 25]
abbrev dktX5_told_2 : List UInt8 := dkwX5_told_2 ++ dktX5_told_3
def dkwX5_told_1 : List UInt8 := [170, 0, 0, 0, 0, 0, 68, 0, 0, 0, 0, 0, 0, 0, 4, 0, 0, 0, 35, 0, 0, 0, 40, 0, 0, 0, 45, 0, 0, 0, 50, 0, 0, 0, 55]
abbrev dktX5_told_1 : List UInt8 := dkwX5_told_1 ++ dktX5_told_2
def dkwX5_told_0 : List UInt8 := [27]
abbrev dktX5_told_0 : List UInt8 := dkwX5_told_0 ++ dktX5_told_1
theorem dksX5_told_0 : cX5_told.data.toList.drop 0 = dktX5_told_0 := by decide +kernel
theorem dksX5_told_1 : cX5_told.data.toList.drop 1 = dktX5_told_1 := dk_seg dksX5_told_0 1 rfl rfl
theorem dksX5_told_2 : cX5_told.data.toList.drop 36 = dktX5_told_2 := dk_seg dksX5_told_1 35 rfl rfl
theorem dksX5_told_3 : cX5_told.data.toList.drop 60 = dktX5_told_3 := dk_seg dksX5_told_2 24 rfl rfl
theorem dX5_told_0 : decode cX5_told 0 = .ok (.iload_n 1, 1) := dk_27 (dk_at dksX5_told_0 0 rfl rfl)
theorem dX5_told_1 : decode cX5_told 1 = .ok (.tableswitch 68 0 4 #[35, 40, 45, 50, 55], 35) := by decide +kernel
theorem dX5_told_36 : decode cX5_told 36 = .ok (.aload_n 0, 1) := dk_42 (dk_at dksX5_told_2 0 rfl rfl)
theorem dX5_told_37 : decode cX5_told 37 = .ok (.getfield 7, 3) := dk_180 0 7 (dk_at dksX5_told_2 1 rfl rfl)
theorem dX5_told_40 : decode cX5_told 40 = .ok (.ireturn, 1) := dk_172 (dk_at dksX5_told_2 4 rfl rfl)
theorem dX5_told_41 : decode cX5_told 41 = .ok (.aload_n 0, 1) := dk_42 (dk_at dksX5_told_2 5 rfl rfl)
theorem dX5_told_42 : decode cX5_told 42 = .ok (.getfield 13, 3) := dk_180 0 13 (dk_at dksX5_told_2 6 rfl rfl)
theorem dX5_told_45 : decode cX5_told 45 = .ok (.ireturn, 1) := dk_172 (dk_at dksX5_told_2 9 rfl rfl)
theorem dX5_told_46 : decode cX5_told 46 = .ok (.aload_n 0, 1) := dk_42 (dk_at dksX5_told_2 10 rfl rfl)
theorem dX5_told_47 : decode cX5_told 47 = .ok (.getfield 16, 3) := dk_180 0 16 (dk_at dksX5_told_2 11 rfl rfl)
theorem dX5_told_50 : decode cX5_told 50 = .ok (.ireturn, 1) := dk_172 (dk_at dksX5_told_2 14 rfl rfl)
theorem dX5_told_51 : decode cX5_told 51 = .ok (.aload_n 0, 1) := dk_42 (dk_at dksX5_told_2 15 rfl rfl)
theorem dX5_told_52 : decode cX5_told 52 = .ok (.getfield 19, 3) := dk_180 0 19 (dk_at dksX5_told_2 16 rfl rfl)
theorem dX5_told_55 : decode cX5_told 55 = .ok (.ireturn, 1) := dk_172 (dk_at dksX5_told_2 19 rfl rfl)
theorem dX5_told_56 : decode cX5_told 56 = .ok (.aload_n 0, 1) := dk_42 (dk_at dksX5_told_2 20 rfl rfl)
theorem dX5_told_57 : decode cX5_told 57 = .ok (.getfield 25, 3) := dk_180 0 25 (dk_at dksX5_told_2 21 rfl rfl)
theorem dX5_told_60 : decode cX5_told 60 = .ok (.ifCond .eq 7, 3) := dk_153 0 7 (dk_at dksX5_told_3 0 rfl rfl)
theorem dX5_told_63 : decode cX5_told 63 = .ok (.iconst 1, 1) := dk_4 (dk_at dksX5_told_3 3 rfl rfl)
theorem dX5_told_64 : decode cX5_told 64 = .ok (.goto 4, 3) := dk_167 0 4 (dk_at dksX5_told_3 4 rfl rfl)
theorem dX5_told_67 : decode cX5_told 67 = .ok (.iconst 0, 1) := dk_3 (dk_at dksX5_told_3 7 rfl rfl)
theorem dX5_told_68 : decode cX5_told 68 = .ok (.ireturn, 1) := dk_172 (dk_at dksX5_told_3 8 rfl rfl)
theorem dX5_told_69 : decode cX5_told 69 = .ok (.aload_n 0, 1) := dk_42 (dk_at dksX5_told_3 9 rfl rfl)
theorem dX5_told_70 : decode cX5_told 70 = .ok (.getfield 22, 3) := dk_180 0 22 (dk_at dksX5_told_3 10 rfl rfl)
theorem dX5_told_73 : decode cX5_told 73 = .ok (.ireturn, 1) := dk_172 (dk_at dksX5_told_3 13 rfl rfl)
abbrev cX5_init : ByteArray := prog_4_method_1_code
def yX5_init : MethodName := ⟨RX5, "<init>", "(III)V"⟩
def dkwX5_init_0 : List UInt8 := [42, 183, 0, 1, 42, 27, 181, 0, 7, 42, 28, 181, 0, 13, 42, 29, 181, 0, 16, 177]
abbrev dktX5_init_0 : List UInt8 := dkwX5_init_0 ++ []
theorem dksX5_init_0 : cX5_init.data.toList.drop 0 = dktX5_init_0 := by decide +kernel
theorem dX5_init_0 : decode cX5_init 0 = .ok (.aload_n 0, 1) := dk_42 (dk_at dksX5_init_0 0 rfl rfl)
theorem dX5_init_1 : decode cX5_init 1 = .ok (.invokespecial 1, 3) := dk_183 0 1 (dk_at dksX5_init_0 1 rfl rfl)
theorem dX5_init_4 : decode cX5_init 4 = .ok (.aload_n 0, 1) := dk_42 (dk_at dksX5_init_0 4 rfl rfl)
theorem dX5_init_5 : decode cX5_init 5 = .ok (.iload_n 1, 1) := dk_27 (dk_at dksX5_init_0 5 rfl rfl)
theorem dX5_init_6 : decode cX5_init 6 = .ok (.putfield 7, 3) := dk_181 0 7 (dk_at dksX5_init_0 6 rfl rfl)
theorem dX5_init_9 : decode cX5_init 9 = .ok (.aload_n 0, 1) := dk_42 (dk_at dksX5_init_0 9 rfl rfl)
theorem dX5_init_10 : decode cX5_init 10 = .ok (.iload_n 2, 1) := dk_28 (dk_at dksX5_init_0 10 rfl rfl)
theorem dX5_init_11 : decode cX5_init 11 = .ok (.putfield 13, 3) := dk_181 0 13 (dk_at dksX5_init_0 11 rfl rfl)
theorem dX5_init_14 : decode cX5_init 14 = .ok (.aload_n 0, 1) := dk_42 (dk_at dksX5_init_0 14 rfl rfl)
theorem dX5_init_15 : decode cX5_init 15 = .ok (.iload_n 3, 1) := dk_29 (dk_at dksX5_init_0 15 rfl rfl)
theorem dX5_init_16 : decode cX5_init 16 = .ok (.putfield 16, 3) := dk_181 0 16 (dk_at dksX5_init_0 16 rfl rfl)
theorem dX5_init_19 : decode cX5_init 19 = .ok (.return_, 1) := dk_177 (dk_at dksX5_init_0 19 rfl rfl)
abbrev cX5_grow : ByteArray := prog_4_method_2_code
def yX5_grow : MethodName := ⟨RX5, "grow", "(I)V"⟩
def dkwX5_grow_2 : List UInt8 := [161, 0, 7, 4, 167, 0, 4, 3, 181, 0, 25, 177]
abbrev dktX5_grow_2 : List UInt8 := dkwX5_grow_2 ++ []
def dkwX5_grow_1 : List UInt8 := [167, 0, 4, 3, 96, 181, 0, 22, 42, 42, 180, 0, 19, 42, 180, 0, 13, 184, 0, 29, 180, 0, 35]
abbrev dktX5_grow_1 : List UInt8 := dkwX5_grow_1 ++ dktX5_grow_2
def dkwX5_grow_0 : List UInt8 := [42, 89, 180, 0, 19, 27, 96, 181, 0, 19, 42, 89, 180, 0, 22, 42, 180, 0, 25, 153, 0, 7, 4]
abbrev dktX5_grow_0 : List UInt8 := dkwX5_grow_0 ++ dktX5_grow_1
theorem dksX5_grow_0 : cX5_grow.data.toList.drop 0 = dktX5_grow_0 := by decide +kernel
theorem dksX5_grow_1 : cX5_grow.data.toList.drop 23 = dktX5_grow_1 := dk_seg dksX5_grow_0 23 rfl rfl
theorem dksX5_grow_2 : cX5_grow.data.toList.drop 46 = dktX5_grow_2 := dk_seg dksX5_grow_1 23 rfl rfl
theorem dX5_grow_0 : decode cX5_grow 0 = .ok (.aload_n 0, 1) := dk_42 (dk_at dksX5_grow_0 0 rfl rfl)
theorem dX5_grow_1 : decode cX5_grow 1 = .ok (.dup, 1) := dk_89 (dk_at dksX5_grow_0 1 rfl rfl)
theorem dX5_grow_2 : decode cX5_grow 2 = .ok (.getfield 19, 3) := dk_180 0 19 (dk_at dksX5_grow_0 2 rfl rfl)
theorem dX5_grow_5 : decode cX5_grow 5 = .ok (.iload_n 1, 1) := dk_27 (dk_at dksX5_grow_0 5 rfl rfl)
theorem dX5_grow_6 : decode cX5_grow 6 = .ok (.iadd, 1) := dk_96 (dk_at dksX5_grow_0 6 rfl rfl)
theorem dX5_grow_7 : decode cX5_grow 7 = .ok (.putfield 19, 3) := dk_181 0 19 (dk_at dksX5_grow_0 7 rfl rfl)
theorem dX5_grow_10 : decode cX5_grow 10 = .ok (.aload_n 0, 1) := dk_42 (dk_at dksX5_grow_0 10 rfl rfl)
theorem dX5_grow_11 : decode cX5_grow 11 = .ok (.dup, 1) := dk_89 (dk_at dksX5_grow_0 11 rfl rfl)
theorem dX5_grow_12 : decode cX5_grow 12 = .ok (.getfield 22, 3) := dk_180 0 22 (dk_at dksX5_grow_0 12 rfl rfl)
theorem dX5_grow_15 : decode cX5_grow 15 = .ok (.aload_n 0, 1) := dk_42 (dk_at dksX5_grow_0 15 rfl rfl)
theorem dX5_grow_16 : decode cX5_grow 16 = .ok (.getfield 25, 3) := dk_180 0 25 (dk_at dksX5_grow_0 16 rfl rfl)
theorem dX5_grow_19 : decode cX5_grow 19 = .ok (.ifCond .eq 7, 3) := dk_153 0 7 (dk_at dksX5_grow_0 19 rfl rfl)
theorem dX5_grow_22 : decode cX5_grow 22 = .ok (.iconst 1, 1) := dk_4 (dk_at dksX5_grow_0 22 rfl rfl)
theorem dX5_grow_23 : decode cX5_grow 23 = .ok (.goto 4, 3) := dk_167 0 4 (dk_at dksX5_grow_1 0 rfl rfl)
theorem dX5_grow_26 : decode cX5_grow 26 = .ok (.iconst 0, 1) := dk_3 (dk_at dksX5_grow_1 3 rfl rfl)
theorem dX5_grow_27 : decode cX5_grow 27 = .ok (.iadd, 1) := dk_96 (dk_at dksX5_grow_1 4 rfl rfl)
theorem dX5_grow_28 : decode cX5_grow 28 = .ok (.putfield 22, 3) := dk_181 0 22 (dk_at dksX5_grow_1 5 rfl rfl)
theorem dX5_grow_31 : decode cX5_grow 31 = .ok (.aload_n 0, 1) := dk_42 (dk_at dksX5_grow_1 8 rfl rfl)
theorem dX5_grow_32 : decode cX5_grow 32 = .ok (.aload_n 0, 1) := dk_42 (dk_at dksX5_grow_1 9 rfl rfl)
theorem dX5_grow_33 : decode cX5_grow 33 = .ok (.getfield 19, 3) := dk_180 0 19 (dk_at dksX5_grow_1 10 rfl rfl)
theorem dX5_grow_36 : decode cX5_grow 36 = .ok (.aload_n 0, 1) := dk_42 (dk_at dksX5_grow_1 13 rfl rfl)
theorem dX5_grow_37 : decode cX5_grow 37 = .ok (.getfield 13, 3) := dk_180 0 13 (dk_at dksX5_grow_1 14 rfl rfl)
theorem dX5_grow_40 : decode cX5_grow 40 = .ok (.invokestatic 29, 3) := dk_184 0 29 (dk_at dksX5_grow_1 17 rfl rfl)
theorem dX5_grow_43 : decode cX5_grow 43 = .ok (.getfield 35, 3) := dk_180 0 35 (dk_at dksX5_grow_1 20 rfl rfl)
theorem dX5_grow_46 : decode cX5_grow 46 = .ok (.if_icmp .lt 7, 3) := dk_161 0 7 (dk_at dksX5_grow_2 0 rfl rfl)
theorem dX5_grow_49 : decode cX5_grow 49 = .ok (.iconst 1, 1) := dk_4 (dk_at dksX5_grow_2 3 rfl rfl)
theorem dX5_grow_50 : decode cX5_grow 50 = .ok (.goto 4, 3) := dk_167 0 4 (dk_at dksX5_grow_2 4 rfl rfl)
theorem dX5_grow_53 : decode cX5_grow 53 = .ok (.iconst 0, 1) := dk_3 (dk_at dksX5_grow_2 7 rfl rfl)
theorem dX5_grow_54 : decode cX5_grow 54 = .ok (.putfield 25, 3) := dk_181 0 25 (dk_at dksX5_grow_2 8 rfl rfl)
theorem dX5_grow_57 : decode cX5_grow 57 = .ok (.return_, 1) := dk_177 (dk_at dksX5_grow_2 11 rfl rfl)
theorem q77 : (Jvm.Cond.initialized "Bloomclock$Crop") ∈ lw_all := lw_g (lw_at lw_m1 22 rfl) rfl
theorem q268 : (Jvm.Cond.instanceMethod ({ cls := "Bloomclock$Crop", name := "told", desc := "(I)I" } : Jvm.MethodName)) ∈ lw_all := lw_g (lw_at lw_m1 213 rfl) rfl
theorem q269 : (Jvm.Cond.selects "Bloomclock$Crop" ({ cls := "Bloomclock$Crop", name := "told", desc := "(I)I" } : Jvm.MethodName) ({ cls := "Bloomclock$Crop", name := "told", desc := "(I)I" } : Jvm.MethodName)) ∈ lw_all := lw_g (lw_at lw_m1 214 rfl) rfl
theorem q270 : (Jvm.Cond.code ({ cls := "Bloomclock$Crop", name := "told", desc := "(I)I" } : Jvm.MethodName) prog_4_method_3_code (2 : Nat) (Option.some Jvm.ClassFile.FieldType.int)) ∈ lw_all := lw_g (lw_at lw_m1 215 rfl) rfl
theorem q564 : (Jvm.Cond.selects "Bloomclock$Crop" ({ cls := "java/lang/Object", name := "getClass", desc := "()Ljava/lang/Class;" } : Jvm.MethodName) ({ cls := "java/lang/Object", name := "getClass", desc := "()Ljava/lang/Class;" } : Jvm.MethodName)) ∈ lw_all := lw_g (lw_at lw_m3 29 rfl) rfl
theorem q692 : (Jvm.Cond.instantiable "Bloomclock$Crop" (6 : Nat)) ∈ lw_all := lw_g (lw_at lw_m3 157 rfl) rfl
theorem q694 : (Jvm.Cond.instanceMethod ({ cls := "Bloomclock$Crop", name := "<init>", desc := "(III)V" } : Jvm.MethodName)) ∈ lw_all := lw_g (lw_at lw_m3 159 rfl) rfl
theorem q695 : (Jvm.Cond.code ({ cls := "Bloomclock$Crop", name := "<init>", desc := "(III)V" } : Jvm.MethodName) prog_4_method_1_code (4 : Nat) (Option.none : Option Jvm.ClassFile.FieldType)) ∈ lw_all := lw_g (lw_at lw_m3 160 rfl) rfl
theorem q696 : (Jvm.Cond.methodLink "Bloomclock$Crop" (1 : Nat) ({ cls := "java/lang/Object", name := "<init>", desc := "()V" } : Jvm.MethodName)) ∈ lw_all := lw_g (lw_at lw_m3 161 rfl) rfl
theorem q697 : (Jvm.Cond.fieldLink "Bloomclock$Crop" (7 : Nat) "Bloomclock$Crop" "grower" "I") ∈ lw_all := lw_g (lw_at lw_m3 162 rfl) rfl
theorem q700 : (Jvm.Cond.fieldLink "Bloomclock$Crop" (13 : Nat) "Bloomclock$Crop" "cultivar" "I") ∈ lw_all := lw_g (lw_at lw_m3 165 rfl) rfl
theorem q703 : (Jvm.Cond.fieldLink "Bloomclock$Crop" (16 : Nat) "Bloomclock$Crop" "plants" "I") ∈ lw_all := lw_g (lw_at lw_m3 168 rfl) rfl
theorem q705 : (Jvm.Cond.fieldLink "Bloomclock$Crop" (19 : Nat) "Bloomclock$Crop" "sum" "I") ∈ lw_all := lw_g (lw_at lw_m3 170 rfl) rfl
theorem q707 : (Jvm.Cond.fieldLink "Bloomclock$Crop" (25 : Nat) "Bloomclock$Crop" "isReady" "Z") ∈ lw_all := lw_g (lw_at lw_m3 172 rfl) rfl
theorem q710 : (Jvm.Cond.fieldLink "Bloomclock$Crop" (22 : Nat) "Bloomclock$Crop" "age" "I") ∈ lw_all := lw_g (lw_at lw_m3 175 rfl) rfl
theorem q711 : (Jvm.Cond.laysFinal "Bloomclock$Crop" "Bloomclock$Crop" "grower" "I") ∈ lw_all := lw_g (lw_at lw_m3 176 rfl) rfl
theorem q712 : (Jvm.Cond.soleField "Bloomclock$Crop" "grower") ∈ lw_all := lw_g (lw_at lw_m3 177 rfl) rfl
theorem q713 : (Jvm.Cond.laysFinal "Bloomclock$Crop" "Bloomclock$Crop" "cultivar" "I") ∈ lw_all := lw_g (lw_at lw_m3 178 rfl) rfl
theorem q714 : (Jvm.Cond.soleField "Bloomclock$Crop" "cultivar") ∈ lw_all := lw_g (lw_at lw_m3 179 rfl) rfl
theorem q715 : (Jvm.Cond.lays "Bloomclock$Crop" "Bloomclock$Crop" "plants" "I") ∈ lw_all := lw_g (lw_at lw_m3 180 rfl) rfl
theorem q716 : (Jvm.Cond.soleField "Bloomclock$Crop" "plants") ∈ lw_all := lw_g (lw_at lw_m3 181 rfl) rfl
theorem q717 : (Jvm.Cond.lays "Bloomclock$Crop" "Bloomclock$Crop" "sum" "I") ∈ lw_all := lw_g (lw_at lw_m3 182 rfl) rfl
theorem q718 : (Jvm.Cond.soleField "Bloomclock$Crop" "sum") ∈ lw_all := lw_g (lw_at lw_m3 183 rfl) rfl
theorem q719 : (Jvm.Cond.lays "Bloomclock$Crop" "Bloomclock$Crop" "isReady" "Z") ∈ lw_all := lw_g (lw_at lw_m3 184 rfl) rfl
theorem q720 : (Jvm.Cond.soleField "Bloomclock$Crop" "isReady") ∈ lw_all := lw_g (lw_at lw_m3 185 rfl) rfl
theorem q721 : (Jvm.Cond.lays "Bloomclock$Crop" "Bloomclock$Crop" "age" "I") ∈ lw_all := lw_g (lw_at lw_m3 186 rfl) rfl
theorem q722 : (Jvm.Cond.soleField "Bloomclock$Crop" "age") ∈ lw_all := lw_g (lw_at lw_m3 187 rfl) rfl
theorem q723 : (Jvm.Cond.superclass "Bloomclock$Crop" "java/lang/Object") ∈ lw_all := lw_g (lw_at lw_m3 188 rfl) rfl
theorem q822 : (Jvm.Cond.instanceMethod ({ cls := "Bloomclock$Crop", name := "grow", desc := "(I)V" } : Jvm.MethodName)) ∈ lw_all := lw_g (lw_at lw_m4 47 rfl) rfl
theorem q823 : (Jvm.Cond.selects "Bloomclock$Crop" ({ cls := "Bloomclock$Crop", name := "grow", desc := "(I)V" } : Jvm.MethodName) ({ cls := "Bloomclock$Crop", name := "grow", desc := "(I)V" } : Jvm.MethodName)) ∈ lw_all := lw_g (lw_at lw_m4 48 rfl) rfl
theorem q824 : (Jvm.Cond.code ({ cls := "Bloomclock$Crop", name := "grow", desc := "(I)V" } : Jvm.MethodName) prog_4_method_2_code (2 : Nat) (Option.none : Option Jvm.ClassFile.FieldType)) ∈ lw_all := lw_g (lw_at lw_m4 49 rfl) rfl
theorem q825 : (Jvm.Cond.methodLink "Bloomclock$Crop" (29 : Nat) ({ cls := "Bloomclock$Cultivar", name := "of", desc := "(I)LBloomclock$Cultivar;" } : Jvm.MethodName)) ∈ lw_all := lw_g (lw_at lw_m4 50 rfl) rfl
theorem q1866 : (Jvm.Cond.selects "Bloomclock$Crop" ({ cls := "java/lang/Object", name := "equals", desc := "(Ljava/lang/Object;)Z" } : Jvm.MethodName) ({ cls := "java/lang/Object", name := "equals", desc := "(Ljava/lang/Object;)Z" } : Jvm.MethodName)) ∈ lw_all := lw_g (lw_at lw_m8 131 rfl) rfl
theorem q2057 : (Jvm.Cond.castable "Bloomclock$Crop" "java/lang/Object") ∈ lw_tbl := lw_at lw_m9 82 rfl
theorem q2086 : (Jvm.Cond.fieldLinkNest "Bloomclock$Crop" (35 : Nat) "Bloomclock$Cultivar" "light" "I" "Bloomclock") ∈ lw_tbl := lw_at lw_m9 111 rfl
theorem in_X5 : ∀ w ∈ wsX50, w ∈ lw_all := lw_in wsX50 [711, 713, 715, 717, 719, 721] (by decide +kernel) (by decide +kernel)
/-! Bloomclock$Lot -/
set_option maxRecDepth 100000
def RX7 : String := "Bloomclock$Lot"
def TX7 : u_T := fun k => match k with
  | 0 => ("Bloomclock$Lot", "grower", "I", true)
  | 1 => ("Bloomclock$Lot", "cultivar", "I", true)
  | 2 => ("Bloomclock$Lot", "grade", "I", true)
  | 3 => ("Bloomclock$Lot", "stems", "I", false)
  | 4 => ("Bloomclock$Lot", "life", "I", false)
  | 5 => ("Bloomclock$Lot", "buckets", "I", false)
  | 6 => ("Bloomclock$Lot", "place", "I", false)
  | 7 => ("Bloomclock$Lot", "state", "LBloomclock$State;", false)
  | 8 => ("Bloomclock$Lot", "shown", "I", false)
  | _ => ("Bloomclock$Lot", "minimum", "I", false)
def tyX7 : Nat → FieldType := fun k => match k with
  | 0 => .int
  | 1 => .int
  | 2 => .int
  | 3 => .int
  | 4 => .int
  | 5 => .int
  | 6 => .int
  | 7 => .object "Bloomclock$State"
  | 8 => .int
  | _ => .int
abbrev wsX70 : List Cond := u_ws RX7 TX7 10
theorem nmX7 : ∀ a, a < 10 → ∀ b, b < 10 → a ≠ b → (TX7 a).2.1 ≠ (TX7 b).2.1 := by decide +kernel
theorem tyX7_ok : ∀ k, k < 10 → parseFieldDescriptor (TX7 k).2.2.1 = some (tyX7 k) := by decide +kernel
abbrev cX7_told : ByteArray := prog_7_method_4_code
def yX7_told : MethodName := ⟨RX7, "told", "(I)I"⟩
def dkwX7_told_4 : List UInt8 := [42, 180, 0, 27, 172]
abbrev dktX7_told_4 : List UInt8 := dkwX7_told_4 ++ []
def dkwX7_told_3 : List UInt8 := [172, 42, 180, 0, 69, 172, 42, 180, 0, 9, 172, 42, 180, 0, 21, 182, 0, 71, 172, 42, 180, 0, 24, 172]
abbrev dktX7_told_3 : List UInt8 := dkwX7_told_3 ++ dktX7_told_4
def dkwX7_told_2 : List UInt8 := [42, 180, 0, 35, 172, 42, 180, 0, 39, 172, 42, 180, 0, 62, 172, 42, 180, 0, 43, 172, 42, 180, 0, 61]
abbrev dktX7_told_2 : List UInt8 := dkwX7_told_2 ++ dktX7_told_3
def dkwX7_told_1 : List UInt8 := [170, 0, 0, 0, 0, 0, 99, 0, 0, 0, 0, 0, 0, 0, 8, 0, 0, 0, 51, 0, 0, 0, 56, 0, 0, 0, 61, 0, 0, 0, 66, 0, 0, 0, 71, 0, 0, 0, 76, 0, 0, 0, 81, 0, 0, 0, 86, 0, 0, 0, 94]
abbrev dktX7_told_1 : List UInt8 := dkwX7_told_1 ++ dktX7_told_2
def dkwX7_told_0 : List UInt8 := [27]
abbrev dktX7_told_0 : List UInt8 := dkwX7_told_0 ++ dktX7_told_1
theorem dksX7_told_0 : cX7_told.data.toList.drop 0 = dktX7_told_0 := by decide +kernel
theorem dksX7_told_1 : cX7_told.data.toList.drop 1 = dktX7_told_1 := dk_seg dksX7_told_0 1 rfl rfl
theorem dksX7_told_2 : cX7_told.data.toList.drop 52 = dktX7_told_2 := dk_seg dksX7_told_1 51 rfl rfl
theorem dksX7_told_3 : cX7_told.data.toList.drop 76 = dktX7_told_3 := dk_seg dksX7_told_2 24 rfl rfl
theorem dksX7_told_4 : cX7_told.data.toList.drop 100 = dktX7_told_4 := dk_seg dksX7_told_3 24 rfl rfl
theorem dX7_told_0 : decode cX7_told 0 = .ok (.iload_n 1, 1) := dk_27 (dk_at dksX7_told_0 0 rfl rfl)
theorem dX7_told_1 : decode cX7_told 1 = .ok (.tableswitch 99 0 8 #[51, 56, 61, 66, 71, 76, 81, 86, 94], 51) := by decide +kernel
theorem dX7_told_52 : decode cX7_told 52 = .ok (.aload_n 0, 1) := dk_42 (dk_at dksX7_told_2 0 rfl rfl)
theorem dX7_told_53 : decode cX7_told 53 = .ok (.getfield 35, 3) := dk_180 0 35 (dk_at dksX7_told_2 1 rfl rfl)
theorem dX7_told_56 : decode cX7_told 56 = .ok (.ireturn, 1) := dk_172 (dk_at dksX7_told_2 4 rfl rfl)
theorem dX7_told_57 : decode cX7_told 57 = .ok (.aload_n 0, 1) := dk_42 (dk_at dksX7_told_2 5 rfl rfl)
theorem dX7_told_58 : decode cX7_told 58 = .ok (.getfield 39, 3) := dk_180 0 39 (dk_at dksX7_told_2 6 rfl rfl)
theorem dX7_told_61 : decode cX7_told 61 = .ok (.ireturn, 1) := dk_172 (dk_at dksX7_told_2 9 rfl rfl)
theorem dX7_told_62 : decode cX7_told 62 = .ok (.aload_n 0, 1) := dk_42 (dk_at dksX7_told_2 10 rfl rfl)
theorem dX7_told_63 : decode cX7_told 63 = .ok (.getfield 62, 3) := dk_180 0 62 (dk_at dksX7_told_2 11 rfl rfl)
theorem dX7_told_66 : decode cX7_told 66 = .ok (.ireturn, 1) := dk_172 (dk_at dksX7_told_2 14 rfl rfl)
theorem dX7_told_67 : decode cX7_told 67 = .ok (.aload_n 0, 1) := dk_42 (dk_at dksX7_told_2 15 rfl rfl)
theorem dX7_told_68 : decode cX7_told 68 = .ok (.getfield 43, 3) := dk_180 0 43 (dk_at dksX7_told_2 16 rfl rfl)
theorem dX7_told_71 : decode cX7_told 71 = .ok (.ireturn, 1) := dk_172 (dk_at dksX7_told_2 19 rfl rfl)
theorem dX7_told_72 : decode cX7_told 72 = .ok (.aload_n 0, 1) := dk_42 (dk_at dksX7_told_2 20 rfl rfl)
theorem dX7_told_73 : decode cX7_told 73 = .ok (.getfield 61, 3) := dk_180 0 61 (dk_at dksX7_told_2 21 rfl rfl)
theorem dX7_told_76 : decode cX7_told 76 = .ok (.ireturn, 1) := dk_172 (dk_at dksX7_told_3 0 rfl rfl)
theorem dX7_told_77 : decode cX7_told 77 = .ok (.aload_n 0, 1) := dk_42 (dk_at dksX7_told_3 1 rfl rfl)
theorem dX7_told_78 : decode cX7_told 78 = .ok (.getfield 69, 3) := dk_180 0 69 (dk_at dksX7_told_3 2 rfl rfl)
theorem dX7_told_81 : decode cX7_told 81 = .ok (.ireturn, 1) := dk_172 (dk_at dksX7_told_3 5 rfl rfl)
theorem dX7_told_82 : decode cX7_told 82 = .ok (.aload_n 0, 1) := dk_42 (dk_at dksX7_told_3 6 rfl rfl)
theorem dX7_told_83 : decode cX7_told 83 = .ok (.getfield 9, 3) := dk_180 0 9 (dk_at dksX7_told_3 7 rfl rfl)
theorem dX7_told_86 : decode cX7_told 86 = .ok (.ireturn, 1) := dk_172 (dk_at dksX7_told_3 10 rfl rfl)
theorem dX7_told_87 : decode cX7_told 87 = .ok (.aload_n 0, 1) := dk_42 (dk_at dksX7_told_3 11 rfl rfl)
theorem dX7_told_88 : decode cX7_told 88 = .ok (.getfield 21, 3) := dk_180 0 21 (dk_at dksX7_told_3 12 rfl rfl)
theorem dX7_told_91 : decode cX7_told 91 = .ok (.invokevirtual 71, 3) := dk_182 0 71 (dk_at dksX7_told_3 15 rfl rfl)
theorem dX7_told_94 : decode cX7_told 94 = .ok (.ireturn, 1) := dk_172 (dk_at dksX7_told_3 18 rfl rfl)
theorem dX7_told_95 : decode cX7_told 95 = .ok (.aload_n 0, 1) := dk_42 (dk_at dksX7_told_3 19 rfl rfl)
theorem dX7_told_96 : decode cX7_told 96 = .ok (.getfield 24, 3) := dk_180 0 24 (dk_at dksX7_told_3 20 rfl rfl)
theorem dX7_told_99 : decode cX7_told 99 = .ok (.ireturn, 1) := dk_172 (dk_at dksX7_told_3 23 rfl rfl)
theorem dX7_told_100 : decode cX7_told 100 = .ok (.aload_n 0, 1) := dk_42 (dk_at dksX7_told_4 0 rfl rfl)
theorem dX7_told_101 : decode cX7_told 101 = .ok (.getfield 27, 3) := dk_180 0 27 (dk_at dksX7_told_4 1 rfl rfl)
theorem dX7_told_104 : decode cX7_told 104 = .ok (.ireturn, 1) := dk_172 (dk_at dksX7_told_4 4 rfl rfl)
abbrev cX7_init : ByteArray := prog_7_method_1_code
def yX7_init : MethodName := ⟨RX7, "<init>", "(LBloomclock$Crop;I)V"⟩
def dkwX7_init_4 : List UInt8 := [184, 0, 55, 181, 0, 61, 42, 28, 181, 0, 62, 42, 28, 184, 0, 65, 181, 0, 69, 177]
abbrev dktX7_init_4 : List UInt8 := dkwX7_init_4 ++ []
def dkwX7_init_3 : List UInt8 := [181, 0, 43, 42, 3, 42, 180, 0, 39, 184, 0, 46, 180, 0, 52, 5, 43, 180, 0, 40, 104, 100]
abbrev dktX7_init_3 : List UInt8 := dkwX7_init_3 ++ dktX7_init_4
def dkwX7_init_2 : List UInt8 := [16, 10, 163, 0, 7, 3, 167, 0, 17, 43, 180, 0, 40, 16, 20, 163, 0, 7, 4, 167, 0, 4, 5]
abbrev dktX7_init_2 : List UInt8 := dkwX7_init_2 ++ dktX7_init_3
def dkwX7_init_1 : List UInt8 := [181, 0, 27, 42, 43, 180, 0, 30, 181, 0, 35, 42, 43, 180, 0, 36, 181, 0, 39, 42, 43, 180, 0, 40]
abbrev dktX7_init_1 : List UInt8 := dkwX7_init_1 ++ dktX7_init_2
def dkwX7_init_0 : List UInt8 := [42, 183, 0, 3, 42, 4, 181, 0, 9, 42, 178, 0, 15, 181, 0, 21, 42, 2, 181, 0, 24, 42, 2]
abbrev dktX7_init_0 : List UInt8 := dkwX7_init_0 ++ dktX7_init_1
theorem dksX7_init_0 : cX7_init.data.toList.drop 0 = dktX7_init_0 := by decide +kernel
theorem dksX7_init_1 : cX7_init.data.toList.drop 23 = dktX7_init_1 := dk_seg dksX7_init_0 23 rfl rfl
theorem dksX7_init_2 : cX7_init.data.toList.drop 47 = dktX7_init_2 := dk_seg dksX7_init_1 24 rfl rfl
theorem dksX7_init_3 : cX7_init.data.toList.drop 70 = dktX7_init_3 := dk_seg dksX7_init_2 23 rfl rfl
theorem dksX7_init_4 : cX7_init.data.toList.drop 92 = dktX7_init_4 := dk_seg dksX7_init_3 22 rfl rfl
theorem dX7_init_0 : decode cX7_init 0 = .ok (.aload_n 0, 1) := dk_42 (dk_at dksX7_init_0 0 rfl rfl)
theorem dX7_init_1 : decode cX7_init 1 = .ok (.invokespecial 3, 3) := dk_183 0 3 (dk_at dksX7_init_0 1 rfl rfl)
theorem dX7_init_4 : decode cX7_init 4 = .ok (.aload_n 0, 1) := dk_42 (dk_at dksX7_init_0 4 rfl rfl)
theorem dX7_init_5 : decode cX7_init 5 = .ok (.iconst 1, 1) := dk_4 (dk_at dksX7_init_0 5 rfl rfl)
theorem dX7_init_6 : decode cX7_init 6 = .ok (.putfield 9, 3) := dk_181 0 9 (dk_at dksX7_init_0 6 rfl rfl)
theorem dX7_init_9 : decode cX7_init 9 = .ok (.aload_n 0, 1) := dk_42 (dk_at dksX7_init_0 9 rfl rfl)
theorem dX7_init_10 : decode cX7_init 10 = .ok (.getstatic 15, 3) := dk_178 0 15 (dk_at dksX7_init_0 10 rfl rfl)
theorem dX7_init_13 : decode cX7_init 13 = .ok (.putfield 21, 3) := dk_181 0 21 (dk_at dksX7_init_0 13 rfl rfl)
theorem dX7_init_16 : decode cX7_init 16 = .ok (.aload_n 0, 1) := dk_42 (dk_at dksX7_init_0 16 rfl rfl)
theorem dX7_init_17 : decode cX7_init 17 = .ok (.iconst (-1), 1) := dk_2 (dk_at dksX7_init_0 17 rfl rfl)
theorem dX7_init_18 : decode cX7_init 18 = .ok (.putfield 24, 3) := dk_181 0 24 (dk_at dksX7_init_0 18 rfl rfl)
theorem dX7_init_21 : decode cX7_init 21 = .ok (.aload_n 0, 1) := dk_42 (dk_at dksX7_init_0 21 rfl rfl)
theorem dX7_init_22 : decode cX7_init 22 = .ok (.iconst (-1), 1) := dk_2 (dk_at dksX7_init_0 22 rfl rfl)
theorem dX7_init_23 : decode cX7_init 23 = .ok (.putfield 27, 3) := dk_181 0 27 (dk_at dksX7_init_1 0 rfl rfl)
theorem dX7_init_26 : decode cX7_init 26 = .ok (.aload_n 0, 1) := dk_42 (dk_at dksX7_init_1 3 rfl rfl)
theorem dX7_init_27 : decode cX7_init 27 = .ok (.aload_n 1, 1) := dk_43 (dk_at dksX7_init_1 4 rfl rfl)
theorem dX7_init_28 : decode cX7_init 28 = .ok (.getfield 30, 3) := dk_180 0 30 (dk_at dksX7_init_1 5 rfl rfl)
theorem dX7_init_31 : decode cX7_init 31 = .ok (.putfield 35, 3) := dk_181 0 35 (dk_at dksX7_init_1 8 rfl rfl)
theorem dX7_init_34 : decode cX7_init 34 = .ok (.aload_n 0, 1) := dk_42 (dk_at dksX7_init_1 11 rfl rfl)
theorem dX7_init_35 : decode cX7_init 35 = .ok (.aload_n 1, 1) := dk_43 (dk_at dksX7_init_1 12 rfl rfl)
theorem dX7_init_36 : decode cX7_init 36 = .ok (.getfield 36, 3) := dk_180 0 36 (dk_at dksX7_init_1 13 rfl rfl)
theorem dX7_init_39 : decode cX7_init 39 = .ok (.putfield 39, 3) := dk_181 0 39 (dk_at dksX7_init_1 16 rfl rfl)
theorem dX7_init_42 : decode cX7_init 42 = .ok (.aload_n 0, 1) := dk_42 (dk_at dksX7_init_1 19 rfl rfl)
theorem dX7_init_43 : decode cX7_init 43 = .ok (.aload_n 1, 1) := dk_43 (dk_at dksX7_init_1 20 rfl rfl)
theorem dX7_init_44 : decode cX7_init 44 = .ok (.getfield 40, 3) := dk_180 0 40 (dk_at dksX7_init_1 21 rfl rfl)
theorem dX7_init_47 : decode cX7_init 47 = .ok (.bipush 10, 2) := dk_16 10 (dk_at dksX7_init_2 0 rfl rfl)
theorem dX7_init_49 : decode cX7_init 49 = .ok (.if_icmp .gt 7, 3) := dk_163 0 7 (dk_at dksX7_init_2 2 rfl rfl)
theorem dX7_init_52 : decode cX7_init 52 = .ok (.iconst 0, 1) := dk_3 (dk_at dksX7_init_2 5 rfl rfl)
theorem dX7_init_53 : decode cX7_init 53 = .ok (.goto 17, 3) := dk_167 0 17 (dk_at dksX7_init_2 6 rfl rfl)
theorem dX7_init_56 : decode cX7_init 56 = .ok (.aload_n 1, 1) := dk_43 (dk_at dksX7_init_2 9 rfl rfl)
theorem dX7_init_57 : decode cX7_init 57 = .ok (.getfield 40, 3) := dk_180 0 40 (dk_at dksX7_init_2 10 rfl rfl)
theorem dX7_init_60 : decode cX7_init 60 = .ok (.bipush 20, 2) := dk_16 20 (dk_at dksX7_init_2 13 rfl rfl)
theorem dX7_init_62 : decode cX7_init 62 = .ok (.if_icmp .gt 7, 3) := dk_163 0 7 (dk_at dksX7_init_2 15 rfl rfl)
theorem dX7_init_65 : decode cX7_init 65 = .ok (.iconst 1, 1) := dk_4 (dk_at dksX7_init_2 18 rfl rfl)
theorem dX7_init_66 : decode cX7_init 66 = .ok (.goto 4, 3) := dk_167 0 4 (dk_at dksX7_init_2 19 rfl rfl)
theorem dX7_init_69 : decode cX7_init 69 = .ok (.iconst 2, 1) := dk_5 (dk_at dksX7_init_2 22 rfl rfl)
theorem dX7_init_70 : decode cX7_init 70 = .ok (.putfield 43, 3) := dk_181 0 43 (dk_at dksX7_init_3 0 rfl rfl)
theorem dX7_init_73 : decode cX7_init 73 = .ok (.aload_n 0, 1) := dk_42 (dk_at dksX7_init_3 3 rfl rfl)
theorem dX7_init_74 : decode cX7_init 74 = .ok (.iconst 0, 1) := dk_3 (dk_at dksX7_init_3 4 rfl rfl)
theorem dX7_init_75 : decode cX7_init 75 = .ok (.aload_n 0, 1) := dk_42 (dk_at dksX7_init_3 5 rfl rfl)
theorem dX7_init_76 : decode cX7_init 76 = .ok (.getfield 39, 3) := dk_180 0 39 (dk_at dksX7_init_3 6 rfl rfl)
theorem dX7_init_79 : decode cX7_init 79 = .ok (.invokestatic 46, 3) := dk_184 0 46 (dk_at dksX7_init_3 9 rfl rfl)
theorem dX7_init_82 : decode cX7_init 82 = .ok (.getfield 52, 3) := dk_180 0 52 (dk_at dksX7_init_3 12 rfl rfl)
theorem dX7_init_85 : decode cX7_init 85 = .ok (.iconst 2, 1) := dk_5 (dk_at dksX7_init_3 15 rfl rfl)
theorem dX7_init_86 : decode cX7_init 86 = .ok (.aload_n 1, 1) := dk_43 (dk_at dksX7_init_3 16 rfl rfl)
theorem dX7_init_87 : decode cX7_init 87 = .ok (.getfield 40, 3) := dk_180 0 40 (dk_at dksX7_init_3 17 rfl rfl)
theorem dX7_init_90 : decode cX7_init 90 = .ok (.imul, 1) := dk_104 (dk_at dksX7_init_3 20 rfl rfl)
theorem dX7_init_91 : decode cX7_init 91 = .ok (.isub, 1) := dk_100 (dk_at dksX7_init_3 21 rfl rfl)
theorem dX7_init_92 : decode cX7_init 92 = .ok (.invokestatic 55, 3) := dk_184 0 55 (dk_at dksX7_init_4 0 rfl rfl)
theorem dX7_init_95 : decode cX7_init 95 = .ok (.putfield 61, 3) := dk_181 0 61 (dk_at dksX7_init_4 3 rfl rfl)
theorem dX7_init_98 : decode cX7_init 98 = .ok (.aload_n 0, 1) := dk_42 (dk_at dksX7_init_4 6 rfl rfl)
theorem dX7_init_99 : decode cX7_init 99 = .ok (.iload_n 2, 1) := dk_28 (dk_at dksX7_init_4 7 rfl rfl)
theorem dX7_init_100 : decode cX7_init 100 = .ok (.putfield 62, 3) := dk_181 0 62 (dk_at dksX7_init_4 8 rfl rfl)
theorem dX7_init_103 : decode cX7_init 103 = .ok (.aload_n 0, 1) := dk_42 (dk_at dksX7_init_4 11 rfl rfl)
theorem dX7_init_104 : decode cX7_init 104 = .ok (.iload_n 2, 1) := dk_28 (dk_at dksX7_init_4 12 rfl rfl)
theorem dX7_init_105 : decode cX7_init 105 = .ok (.invokestatic 65, 3) := dk_184 0 65 (dk_at dksX7_init_4 13 rfl rfl)
theorem dX7_init_108 : decode cX7_init 108 = .ok (.putfield 69, 3) := dk_181 0 69 (dk_at dksX7_init_4 16 rfl rfl)
theorem dX7_init_111 : decode cX7_init 111 = .ok (.return_, 1) := dk_177 (dk_at dksX7_init_4 19 rfl rfl)
abbrev cX7_is : ByteArray := prog_7_method_2_code
def yX7_is : MethodName := ⟨RX7, "is", "(LBloomclock$State;)Z"⟩
def dkwX7_is_0 : List UInt8 := [42, 180, 0, 21, 43, 166, 0, 7, 4, 167, 0, 4, 3, 172]
abbrev dktX7_is_0 : List UInt8 := dkwX7_is_0 ++ []
theorem dksX7_is_0 : cX7_is.data.toList.drop 0 = dktX7_is_0 := by decide +kernel
theorem dX7_is_0 : decode cX7_is 0 = .ok (.aload_n 0, 1) := dk_42 (dk_at dksX7_is_0 0 rfl rfl)
theorem dX7_is_1 : decode cX7_is 1 = .ok (.getfield 21, 3) := dk_180 0 21 (dk_at dksX7_is_0 1 rfl rfl)
theorem dX7_is_4 : decode cX7_is 4 = .ok (.aload_n 1, 1) := dk_43 (dk_at dksX7_is_0 4 rfl rfl)
theorem dX7_is_5 : decode cX7_is 5 = .ok (.if_acmp .ne 7, 3) := dk_166 0 7 (dk_at dksX7_is_0 5 rfl rfl)
theorem dX7_is_8 : decode cX7_is 8 = .ok (.iconst 1, 1) := dk_4 (dk_at dksX7_is_0 8 rfl rfl)
theorem dX7_is_9 : decode cX7_is 9 = .ok (.goto 4, 3) := dk_167 0 4 (dk_at dksX7_is_0 9 rfl rfl)
theorem dX7_is_12 : decode cX7_is 12 = .ok (.iconst 0, 1) := dk_3 (dk_at dksX7_is_0 12 rfl rfl)
theorem dX7_is_13 : decode cX7_is 13 = .ok (.ireturn, 1) := dk_172 (dk_at dksX7_is_0 13 rfl rfl)
abbrev cX7_fade : ByteArray := prog_7_method_3_code
def yX7_fade : MethodName := ⟨RX7, "fade", "()V"⟩
def dkwX7_fade_1 : List UInt8 := [42, 180, 0, 9, 4, 160, 0, 7, 6, 167, 0, 5, 16, 6, 100, 184, 0, 55, 181, 0, 61, 177]
abbrev dktX7_fade_1 : List UInt8 := dkwX7_fade_1 ++ []
def dkwX7_fade_0 : List UInt8 := [42, 180, 0, 62, 158, 0, 41, 42, 3, 42, 180, 0, 61, 42, 180, 0, 9, 154, 0, 7, 4, 167, 0, 17]
abbrev dktX7_fade_0 : List UInt8 := dkwX7_fade_0 ++ dktX7_fade_1
theorem dksX7_fade_0 : cX7_fade.data.toList.drop 0 = dktX7_fade_0 := by decide +kernel
theorem dksX7_fade_1 : cX7_fade.data.toList.drop 24 = dktX7_fade_1 := dk_seg dksX7_fade_0 24 rfl rfl
theorem dX7_fade_0 : decode cX7_fade 0 = .ok (.aload_n 0, 1) := dk_42 (dk_at dksX7_fade_0 0 rfl rfl)
theorem dX7_fade_1 : decode cX7_fade 1 = .ok (.getfield 62, 3) := dk_180 0 62 (dk_at dksX7_fade_0 1 rfl rfl)
theorem dX7_fade_4 : decode cX7_fade 4 = .ok (.ifCond .le 41, 3) := dk_158 0 41 (dk_at dksX7_fade_0 4 rfl rfl)
theorem dX7_fade_7 : decode cX7_fade 7 = .ok (.aload_n 0, 1) := dk_42 (dk_at dksX7_fade_0 7 rfl rfl)
theorem dX7_fade_8 : decode cX7_fade 8 = .ok (.iconst 0, 1) := dk_3 (dk_at dksX7_fade_0 8 rfl rfl)
theorem dX7_fade_9 : decode cX7_fade 9 = .ok (.aload_n 0, 1) := dk_42 (dk_at dksX7_fade_0 9 rfl rfl)
theorem dX7_fade_10 : decode cX7_fade 10 = .ok (.getfield 61, 3) := dk_180 0 61 (dk_at dksX7_fade_0 10 rfl rfl)
theorem dX7_fade_13 : decode cX7_fade 13 = .ok (.aload_n 0, 1) := dk_42 (dk_at dksX7_fade_0 13 rfl rfl)
theorem dX7_fade_14 : decode cX7_fade 14 = .ok (.getfield 9, 3) := dk_180 0 9 (dk_at dksX7_fade_0 14 rfl rfl)
theorem dX7_fade_17 : decode cX7_fade 17 = .ok (.ifCond .ne 7, 3) := dk_154 0 7 (dk_at dksX7_fade_0 17 rfl rfl)
theorem dX7_fade_20 : decode cX7_fade 20 = .ok (.iconst 1, 1) := dk_4 (dk_at dksX7_fade_0 20 rfl rfl)
theorem dX7_fade_21 : decode cX7_fade 21 = .ok (.goto 17, 3) := dk_167 0 17 (dk_at dksX7_fade_0 21 rfl rfl)
theorem dX7_fade_24 : decode cX7_fade 24 = .ok (.aload_n 0, 1) := dk_42 (dk_at dksX7_fade_1 0 rfl rfl)
theorem dX7_fade_25 : decode cX7_fade 25 = .ok (.getfield 9, 3) := dk_180 0 9 (dk_at dksX7_fade_1 1 rfl rfl)
theorem dX7_fade_28 : decode cX7_fade 28 = .ok (.iconst 1, 1) := dk_4 (dk_at dksX7_fade_1 4 rfl rfl)
theorem dX7_fade_29 : decode cX7_fade 29 = .ok (.if_icmp .ne 7, 3) := dk_160 0 7 (dk_at dksX7_fade_1 5 rfl rfl)
theorem dX7_fade_32 : decode cX7_fade 32 = .ok (.iconst 3, 1) := dk_6 (dk_at dksX7_fade_1 8 rfl rfl)
theorem dX7_fade_33 : decode cX7_fade 33 = .ok (.goto 5, 3) := dk_167 0 5 (dk_at dksX7_fade_1 9 rfl rfl)
theorem dX7_fade_36 : decode cX7_fade 36 = .ok (.bipush 6, 2) := dk_16 6 (dk_at dksX7_fade_1 12 rfl rfl)
theorem dX7_fade_38 : decode cX7_fade 38 = .ok (.isub, 1) := dk_100 (dk_at dksX7_fade_1 14 rfl rfl)
theorem dX7_fade_39 : decode cX7_fade 39 = .ok (.invokestatic 55, 3) := dk_184 0 55 (dk_at dksX7_fade_1 15 rfl rfl)
theorem dX7_fade_42 : decode cX7_fade 42 = .ok (.putfield 61, 3) := dk_181 0 61 (dk_at dksX7_fade_1 18 rfl rfl)
theorem dX7_fade_45 : decode cX7_fade 45 = .ok (.return_, 1) := dk_177 (dk_at dksX7_fade_1 21 rfl rfl)
theorem q79 : (Jvm.Cond.initialized "Bloomclock$Lot") ∈ lw_all := lw_g (lw_at lw_m1 24 rfl) rfl
theorem q286 : (Jvm.Cond.instanceMethod ({ cls := "Bloomclock$Lot", name := "told", desc := "(I)I" } : Jvm.MethodName)) ∈ lw_all := lw_g (lw_at lw_m1 231 rfl) rfl
theorem q287 : (Jvm.Cond.selects "Bloomclock$Lot" ({ cls := "Bloomclock$Lot", name := "told", desc := "(I)I" } : Jvm.MethodName) ({ cls := "Bloomclock$Lot", name := "told", desc := "(I)I" } : Jvm.MethodName)) ∈ lw_all := lw_g (lw_at lw_m1 232 rfl) rfl
theorem q288 : (Jvm.Cond.code ({ cls := "Bloomclock$Lot", name := "told", desc := "(I)I" } : Jvm.MethodName) prog_7_method_4_code (2 : Nat) (Option.some Jvm.ClassFile.FieldType.int)) ∈ lw_all := lw_g (lw_at lw_m1 233 rfl) rfl
theorem q289 : (Jvm.Cond.methodLink "Bloomclock$Lot" (71 : Nat) ({ cls := "Bloomclock$State", name := "ordinal", desc := "()I" } : Jvm.MethodName)) ∈ lw_all := lw_g (lw_at lw_m1 234 rfl) rfl
theorem q567 : (Jvm.Cond.selects "Bloomclock$Lot" ({ cls := "java/lang/Object", name := "getClass", desc := "()Ljava/lang/Class;" } : Jvm.MethodName) ({ cls := "java/lang/Object", name := "getClass", desc := "()Ljava/lang/Class;" } : Jvm.MethodName)) ∈ lw_all := lw_g (lw_at lw_m3 32 rfl) rfl
theorem q698 : (Jvm.Cond.fieldLinkNest "Bloomclock$Lot" (30 : Nat) "Bloomclock$Crop" "grower" "I" "Bloomclock") ∈ lw_tbl := lw_at lw_m3 163 rfl
theorem q701 : (Jvm.Cond.fieldLinkNest "Bloomclock$Lot" (36 : Nat) "Bloomclock$Crop" "cultivar" "I" "Bloomclock") ∈ lw_tbl := lw_at lw_m3 166 rfl
theorem q709 : (Jvm.Cond.fieldLinkNest "Bloomclock$Lot" (40 : Nat) "Bloomclock$Crop" "age" "I" "Bloomclock") ∈ lw_tbl := lw_at lw_m3 174 rfl
theorem q736 : (Jvm.Cond.instantiable "Bloomclock$Lot" (10 : Nat)) ∈ lw_all := lw_g (lw_at lw_m3 201 rfl) rfl
theorem q738 : (Jvm.Cond.instanceMethod ({ cls := "Bloomclock$Lot", name := "<init>", desc := "(LBloomclock$Crop;I)V" } : Jvm.MethodName)) ∈ lw_all := lw_g (lw_at lw_m3 203 rfl) rfl
theorem q739 : (Jvm.Cond.code ({ cls := "Bloomclock$Lot", name := "<init>", desc := "(LBloomclock$Crop;I)V" } : Jvm.MethodName) prog_7_method_1_code (3 : Nat) (Option.none : Option Jvm.ClassFile.FieldType)) ∈ lw_all := lw_g (lw_at lw_m3 204 rfl) rfl
theorem q740 : (Jvm.Cond.methodLink "Bloomclock$Lot" (3 : Nat) ({ cls := "java/lang/Object", name := "<init>", desc := "()V" } : Jvm.MethodName)) ∈ lw_all := lw_g (lw_at lw_m3 205 rfl) rfl
theorem q741 : (Jvm.Cond.fieldLink "Bloomclock$Lot" (15 : Nat) "Bloomclock$State" "HELD" "LBloomclock$State;") ∈ lw_all := lw_g (lw_at lw_m3 206 rfl) rfl
theorem q743 : (Jvm.Cond.methodLink "Bloomclock$Lot" (46 : Nat) ({ cls := "Bloomclock$Cultivar", name := "of", desc := "(I)LBloomclock$Cultivar;" } : Jvm.MethodName)) ∈ lw_all := lw_g (lw_at lw_m3 208 rfl) rfl
theorem q744 : (Jvm.Cond.methodLink "Bloomclock$Lot" (55 : Nat) ({ cls := "java/lang/Math", name := "max", desc := "(II)I" } : Jvm.MethodName)) ∈ lw_all := lw_g (lw_at lw_m3 209 rfl) rfl
theorem q745 : (Jvm.Cond.methodLinkNest "Bloomclock$Lot" (65 : Nat) ({ cls := "Bloomclock", name := "buckets", desc := "(I)I" } : Jvm.MethodName) "Bloomclock") ∈ lw_tbl := lw_at lw_m3 210 rfl
theorem q746 : (Jvm.Cond.fieldLink "Bloomclock$Lot" (35 : Nat) "Bloomclock$Lot" "grower" "I") ∈ lw_all := lw_g (lw_at lw_m3 211 rfl) rfl
theorem q749 : (Jvm.Cond.fieldLink "Bloomclock$Lot" (39 : Nat) "Bloomclock$Lot" "cultivar" "I") ∈ lw_all := lw_g (lw_at lw_m3 214 rfl) rfl
theorem q752 : (Jvm.Cond.fieldLink "Bloomclock$Lot" (43 : Nat) "Bloomclock$Lot" "grade" "I") ∈ lw_all := lw_g (lw_at lw_m3 217 rfl) rfl
theorem q755 : (Jvm.Cond.fieldLink "Bloomclock$Lot" (62 : Nat) "Bloomclock$Lot" "stems" "I") ∈ lw_all := lw_g (lw_at lw_m3 220 rfl) rfl
theorem q758 : (Jvm.Cond.fieldLink "Bloomclock$Lot" (61 : Nat) "Bloomclock$Lot" "life" "I") ∈ lw_all := lw_g (lw_at lw_m3 223 rfl) rfl
theorem q761 : (Jvm.Cond.fieldLink "Bloomclock$Lot" (69 : Nat) "Bloomclock$Lot" "buckets" "I") ∈ lw_all := lw_g (lw_at lw_m3 226 rfl) rfl
theorem q763 : (Jvm.Cond.fieldLink "Bloomclock$Lot" (9 : Nat) "Bloomclock$Lot" "place" "I") ∈ lw_all := lw_g (lw_at lw_m3 228 rfl) rfl
theorem q765 : (Jvm.Cond.fieldLink "Bloomclock$Lot" (21 : Nat) "Bloomclock$Lot" "state" "LBloomclock$State;") ∈ lw_all := lw_g (lw_at lw_m3 230 rfl) rfl
theorem q767 : (Jvm.Cond.fieldLink "Bloomclock$Lot" (24 : Nat) "Bloomclock$Lot" "shown" "I") ∈ lw_all := lw_g (lw_at lw_m3 232 rfl) rfl
theorem q769 : (Jvm.Cond.fieldLink "Bloomclock$Lot" (27 : Nat) "Bloomclock$Lot" "minimum" "I") ∈ lw_all := lw_g (lw_at lw_m3 234 rfl) rfl
theorem q771 : (Jvm.Cond.laysFinal "Bloomclock$Lot" "Bloomclock$Lot" "grower" "I") ∈ lw_all := lw_g (lw_at lw_m3 236 rfl) rfl
theorem q772 : (Jvm.Cond.soleField "Bloomclock$Lot" "grower") ∈ lw_all := lw_g (lw_at lw_m3 237 rfl) rfl
theorem q773 : (Jvm.Cond.laysFinal "Bloomclock$Lot" "Bloomclock$Lot" "cultivar" "I") ∈ lw_all := lw_g (lw_at lw_m3 238 rfl) rfl
theorem q774 : (Jvm.Cond.soleField "Bloomclock$Lot" "cultivar") ∈ lw_all := lw_g (lw_at lw_m3 239 rfl) rfl
theorem q775 : (Jvm.Cond.laysFinal "Bloomclock$Lot" "Bloomclock$Lot" "grade" "I") ∈ lw_all := lw_g (lw_at lw_m4 0 rfl) rfl
theorem q776 : (Jvm.Cond.soleField "Bloomclock$Lot" "grade") ∈ lw_all := lw_g (lw_at lw_m4 1 rfl) rfl
theorem q777 : (Jvm.Cond.lays "Bloomclock$Lot" "Bloomclock$Lot" "stems" "I") ∈ lw_all := lw_g (lw_at lw_m4 2 rfl) rfl
theorem q778 : (Jvm.Cond.soleField "Bloomclock$Lot" "stems") ∈ lw_all := lw_g (lw_at lw_m4 3 rfl) rfl
theorem q779 : (Jvm.Cond.lays "Bloomclock$Lot" "Bloomclock$Lot" "life" "I") ∈ lw_all := lw_g (lw_at lw_m4 4 rfl) rfl
theorem q780 : (Jvm.Cond.soleField "Bloomclock$Lot" "life") ∈ lw_all := lw_g (lw_at lw_m4 5 rfl) rfl
theorem q781 : (Jvm.Cond.lays "Bloomclock$Lot" "Bloomclock$Lot" "buckets" "I") ∈ lw_all := lw_g (lw_at lw_m4 6 rfl) rfl
theorem q782 : (Jvm.Cond.soleField "Bloomclock$Lot" "buckets") ∈ lw_all := lw_g (lw_at lw_m4 7 rfl) rfl
theorem q783 : (Jvm.Cond.lays "Bloomclock$Lot" "Bloomclock$Lot" "place" "I") ∈ lw_all := lw_g (lw_at lw_m4 8 rfl) rfl
theorem q784 : (Jvm.Cond.soleField "Bloomclock$Lot" "place") ∈ lw_all := lw_g (lw_at lw_m4 9 rfl) rfl
theorem q785 : (Jvm.Cond.lays "Bloomclock$Lot" "Bloomclock$Lot" "state" "LBloomclock$State;") ∈ lw_all := lw_g (lw_at lw_m4 10 rfl) rfl
theorem q786 : (Jvm.Cond.soleField "Bloomclock$Lot" "state") ∈ lw_all := lw_g (lw_at lw_m4 11 rfl) rfl
theorem q787 : (Jvm.Cond.lays "Bloomclock$Lot" "Bloomclock$Lot" "shown" "I") ∈ lw_all := lw_g (lw_at lw_m4 12 rfl) rfl
theorem q788 : (Jvm.Cond.soleField "Bloomclock$Lot" "shown") ∈ lw_all := lw_g (lw_at lw_m4 13 rfl) rfl
theorem q789 : (Jvm.Cond.lays "Bloomclock$Lot" "Bloomclock$Lot" "minimum" "I") ∈ lw_all := lw_g (lw_at lw_m4 14 rfl) rfl
theorem q790 : (Jvm.Cond.soleField "Bloomclock$Lot" "minimum") ∈ lw_all := lw_g (lw_at lw_m4 15 rfl) rfl
theorem q791 : (Jvm.Cond.superclass "Bloomclock$Lot" "java/lang/Object") ∈ lw_all := lw_g (lw_at lw_m4 16 rfl) rfl
theorem q805 : (Jvm.Cond.instanceMethod ({ cls := "Bloomclock$Lot", name := "is", desc := "(LBloomclock$State;)Z" } : Jvm.MethodName)) ∈ lw_all := lw_g (lw_at lw_m4 30 rfl) rfl
theorem q806 : (Jvm.Cond.selects "Bloomclock$Lot" ({ cls := "Bloomclock$Lot", name := "is", desc := "(LBloomclock$State;)Z" } : Jvm.MethodName) ({ cls := "Bloomclock$Lot", name := "is", desc := "(LBloomclock$State;)Z" } : Jvm.MethodName)) ∈ lw_all := lw_g (lw_at lw_m4 31 rfl) rfl
theorem q807 : (Jvm.Cond.code ({ cls := "Bloomclock$Lot", name := "is", desc := "(LBloomclock$State;)Z" } : Jvm.MethodName) prog_7_method_2_code (2 : Nat) (Option.some Jvm.ClassFile.FieldType.boolean)) ∈ lw_all := lw_g (lw_at lw_m4 32 rfl) rfl
theorem q827 : (Jvm.Cond.instanceMethod ({ cls := "Bloomclock$Lot", name := "fade", desc := "()V" } : Jvm.MethodName)) ∈ lw_all := lw_g (lw_at lw_m4 52 rfl) rfl
theorem q828 : (Jvm.Cond.selects "Bloomclock$Lot" ({ cls := "Bloomclock$Lot", name := "fade", desc := "()V" } : Jvm.MethodName) ({ cls := "Bloomclock$Lot", name := "fade", desc := "()V" } : Jvm.MethodName)) ∈ lw_all := lw_g (lw_at lw_m4 53 rfl) rfl
theorem q829 : (Jvm.Cond.code ({ cls := "Bloomclock$Lot", name := "fade", desc := "()V" } : Jvm.MethodName) prog_7_method_3_code (1 : Nat) (Option.none : Option Jvm.ClassFile.FieldType)) ∈ lw_all := lw_g (lw_at lw_m4 54 rfl) rfl
theorem q1871 : (Jvm.Cond.selects "Bloomclock$Lot" ({ cls := "java/lang/Object", name := "equals", desc := "(Ljava/lang/Object;)Z" } : Jvm.MethodName) ({ cls := "java/lang/Object", name := "equals", desc := "(Ljava/lang/Object;)Z" } : Jvm.MethodName)) ∈ lw_all := lw_g (lw_at lw_m8 136 rfl) rfl
theorem q2059 : (Jvm.Cond.castable "Bloomclock$Lot" "java/lang/Object") ∈ lw_tbl := lw_at lw_m9 84 rfl
theorem q2085 : (Jvm.Cond.fieldLinkNest "Bloomclock$Lot" (52 : Nat) "Bloomclock$Cultivar" "life" "I" "Bloomclock") ∈ lw_tbl := lw_at lw_m9 110 rfl
theorem in_X7 : ∀ w ∈ wsX70, w ∈ lw_all := lw_in wsX70 [771, 773, 775, 777, 779, 781, 783, 785, 787, 789] (by decide +kernel) (by decide +kernel)
/-! Bloomclock$Cultivar -/
set_option maxRecDepth 100000
def RX8 : String := "Bloomclock$Cultivar"
abbrev cX8_of : ByteArray := prog_5_method_4_code
def yX8_of : MethodName := ⟨RX8, "of", "(I)LBloomclock$Cultivar;"⟩
def dkwX8_of_1 : List UInt8 := [176]
abbrev dktX8_of_1 : List UInt8 := dkwX8_of_1 ++ []
def dkwX8_of_0 : List UInt8 := [26, 154, 0, 9, 178, 0, 3, 167, 0, 17, 26, 4, 160, 0, 9, 178, 0, 7, 167, 0, 6, 178, 0, 10]
abbrev dktX8_of_0 : List UInt8 := dkwX8_of_0 ++ dktX8_of_1
theorem dksX8_of_0 : cX8_of.data.toList.drop 0 = dktX8_of_0 := by decide +kernel
theorem dksX8_of_1 : cX8_of.data.toList.drop 24 = dktX8_of_1 := dk_seg dksX8_of_0 24 rfl rfl
theorem dX8_of_0 : decode cX8_of 0 = .ok (.iload_n 0, 1) := dk_26 (dk_at dksX8_of_0 0 rfl rfl)
theorem dX8_of_1 : decode cX8_of 1 = .ok (.ifCond .ne 9, 3) := dk_154 0 9 (dk_at dksX8_of_0 1 rfl rfl)
theorem dX8_of_4 : decode cX8_of 4 = .ok (.getstatic 3, 3) := dk_178 0 3 (dk_at dksX8_of_0 4 rfl rfl)
theorem dX8_of_7 : decode cX8_of 7 = .ok (.goto 17, 3) := dk_167 0 17 (dk_at dksX8_of_0 7 rfl rfl)
theorem dX8_of_10 : decode cX8_of 10 = .ok (.iload_n 0, 1) := dk_26 (dk_at dksX8_of_0 10 rfl rfl)
theorem dX8_of_11 : decode cX8_of 11 = .ok (.iconst 1, 1) := dk_4 (dk_at dksX8_of_0 11 rfl rfl)
theorem dX8_of_12 : decode cX8_of 12 = .ok (.if_icmp .ne 9, 3) := dk_160 0 9 (dk_at dksX8_of_0 12 rfl rfl)
theorem dX8_of_15 : decode cX8_of 15 = .ok (.getstatic 7, 3) := dk_178 0 7 (dk_at dksX8_of_0 15 rfl rfl)
theorem dX8_of_18 : decode cX8_of 18 = .ok (.goto 6, 3) := dk_167 0 6 (dk_at dksX8_of_0 18 rfl rfl)
theorem dX8_of_21 : decode cX8_of 21 = .ok (.getstatic 10, 3) := dk_178 0 10 (dk_at dksX8_of_0 21 rfl rfl)
theorem dX8_of_24 : decode cX8_of 24 = .ok (.areturn, 1) := dk_176 (dk_at dksX8_of_1 0 rfl rfl)
theorem q82 : (Jvm.Cond.initialized "Bloomclock$Cultivar") ∈ lw_all := lw_g (lw_at lw_m1 27 rfl) rfl
theorem q276 : (Jvm.Cond.static ({ cls := "Bloomclock$Cultivar", name := "of", desc := "(I)LBloomclock$Cultivar;" } : Jvm.MethodName)) ∈ lw_all := lw_g (lw_at lw_m1 221 rfl) rfl
theorem q277 : (Jvm.Cond.code ({ cls := "Bloomclock$Cultivar", name := "of", desc := "(I)LBloomclock$Cultivar;" } : Jvm.MethodName) prog_5_method_4_code (1 : Nat) (Option.some (Jvm.ClassFile.FieldType.object "Bloomclock$Cultivar"))) ∈ lw_all := lw_g (lw_at lw_m1 222 rfl) rfl
theorem q278 : (Jvm.Cond.fieldLink "Bloomclock$Cultivar" (3 : Nat) "Bloomclock$Cultivar" "EARLY" "LBloomclock$Cultivar;") ∈ lw_all := lw_g (lw_at lw_m1 223 rfl) rfl
theorem q279 : (Jvm.Cond.laysStatic "Bloomclock$Cultivar" "EARLY" "LBloomclock$Cultivar;") ∈ lw_tbl := lw_at lw_m1 224 rfl
theorem q280 : (Jvm.Cond.fieldLink "Bloomclock$Cultivar" (7 : Nat) "Bloomclock$Cultivar" "MIDDLE" "LBloomclock$Cultivar;") ∈ lw_all := lw_g (lw_at lw_m1 225 rfl) rfl
theorem q281 : (Jvm.Cond.laysStatic "Bloomclock$Cultivar" "MIDDLE" "LBloomclock$Cultivar;") ∈ lw_tbl := lw_at lw_m1 226 rfl
theorem q282 : (Jvm.Cond.fieldLink "Bloomclock$Cultivar" (10 : Nat) "Bloomclock$Cultivar" "LATE" "LBloomclock$Cultivar;") ∈ lw_all := lw_g (lw_at lw_m1 227 rfl) rfl
theorem q283 : (Jvm.Cond.laysStatic "Bloomclock$Cultivar" "LATE" "LBloomclock$Cultivar;") ∈ lw_tbl := lw_at lw_m1 228 rfl
theorem q565 : (Jvm.Cond.selects "Bloomclock$Cultivar" ({ cls := "java/lang/Object", name := "getClass", desc := "()Ljava/lang/Class;" } : Jvm.MethodName) ({ cls := "java/lang/Object", name := "getClass", desc := "()Ljava/lang/Class;" } : Jvm.MethodName)) ∈ lw_all := lw_g (lw_at lw_m3 30 rfl) rfl
theorem q1867 : (Jvm.Cond.selects "Bloomclock$Cultivar" ({ cls := "java/lang/Object", name := "equals", desc := "(Ljava/lang/Object;)Z" } : Jvm.MethodName) ({ cls := "java/lang/Enum", name := "equals", desc := "(Ljava/lang/Object;)Z" } : Jvm.MethodName)) ∈ lw_all := lw_g (lw_at lw_m8 132 rfl) rfl
theorem q2061 : (Jvm.Cond.castable "Bloomclock$Cultivar" "java/lang/Object") ∈ lw_tbl := lw_at lw_m9 86 rfl
