/-! BloomclockLaw -/
set_option maxRecDepth 100000
def RX0 : String := "BloomclockLaw"
abbrev cX0_grower : ByteArray := method_3_code
def yX0_grower : MethodName := ⟨RX0, "grower", "(LBloomclock;[J)I"⟩
def dkwX0_grower_0 : List UInt8 := [43, 3, 42, 182, 0, 7, 133, 80, 167, 0, 6, 77, 4, 172, 3, 172]
abbrev dktX0_grower_0 : List UInt8 := dkwX0_grower_0 ++ []
theorem dksX0_grower_0 : cX0_grower.data.toList.drop 0 = dktX0_grower_0 := by decide +kernel
theorem dX0_grower_0 : decode cX0_grower 0 = .ok (.aload_n 1, 1) := dk_43 (dk_at dksX0_grower_0 0 rfl rfl)
theorem dX0_grower_1 : decode cX0_grower 1 = .ok (.iconst 0, 1) := dk_3 (dk_at dksX0_grower_0 1 rfl rfl)
theorem dX0_grower_2 : decode cX0_grower 2 = .ok (.aload_n 0, 1) := dk_42 (dk_at dksX0_grower_0 2 rfl rfl)
theorem dX0_grower_3 : decode cX0_grower 3 = .ok (.invokevirtual 7, 3) := dk_182 0 7 (dk_at dksX0_grower_0 3 rfl rfl)
theorem dX0_grower_6 : decode cX0_grower 6 = .ok (.i2l, 1) := dk_133 (dk_at dksX0_grower_0 6 rfl rfl)
theorem dX0_grower_7 : decode cX0_grower 7 = .ok (.lastore, 1) := dk_80 (dk_at dksX0_grower_0 7 rfl rfl)
theorem dX0_grower_8 : decode cX0_grower 8 = .ok (.goto 6, 3) := dk_167 0 6 (dk_at dksX0_grower_0 8 rfl rfl)
theorem dX0_grower_11 : decode cX0_grower 11 = .ok (.astore_n 2, 1) := dk_77 (dk_at dksX0_grower_0 11 rfl rfl)
theorem dX0_grower_12 : decode cX0_grower 12 = .ok (.iconst 1, 1) := dk_4 (dk_at dksX0_grower_0 12 rfl rfl)
theorem dX0_grower_13 : decode cX0_grower 13 = .ok (.ireturn, 1) := dk_172 (dk_at dksX0_grower_0 13 rfl rfl)
theorem dX0_grower_14 : decode cX0_grower 14 = .ok (.iconst 0, 1) := dk_3 (dk_at dksX0_grower_0 14 rfl rfl)
theorem dX0_grower_15 : decode cX0_grower 15 = .ok (.ireturn, 1) := dk_172 (dk_at dksX0_grower_0 15 rfl rfl)
abbrev cX0_lamps : ByteArray := method_4_code
def yX0_lamps : MethodName := ⟨RX0, "lamps", "(LBloomclock;II[J)I"⟩
def dkwX0_lamps_0 : List UInt8 := [45, 3, 42, 27, 28, 182, 0, 15, 133, 80, 167, 0, 11, 58, 4, 4, 172, 58, 4, 5, 172, 3, 172]
abbrev dktX0_lamps_0 : List UInt8 := dkwX0_lamps_0 ++ []
theorem dksX0_lamps_0 : cX0_lamps.data.toList.drop 0 = dktX0_lamps_0 := by decide +kernel
theorem dX0_lamps_0 : decode cX0_lamps 0 = .ok (.aload_n 3, 1) := dk_45 (dk_at dksX0_lamps_0 0 rfl rfl)
theorem dX0_lamps_1 : decode cX0_lamps 1 = .ok (.iconst 0, 1) := dk_3 (dk_at dksX0_lamps_0 1 rfl rfl)
theorem dX0_lamps_2 : decode cX0_lamps 2 = .ok (.aload_n 0, 1) := dk_42 (dk_at dksX0_lamps_0 2 rfl rfl)
theorem dX0_lamps_3 : decode cX0_lamps 3 = .ok (.iload_n 1, 1) := dk_27 (dk_at dksX0_lamps_0 3 rfl rfl)
theorem dX0_lamps_4 : decode cX0_lamps 4 = .ok (.iload_n 2, 1) := dk_28 (dk_at dksX0_lamps_0 4 rfl rfl)
theorem dX0_lamps_5 : decode cX0_lamps 5 = .ok (.invokevirtual 15, 3) := dk_182 0 15 (dk_at dksX0_lamps_0 5 rfl rfl)
theorem dX0_lamps_8 : decode cX0_lamps 8 = .ok (.i2l, 1) := dk_133 (dk_at dksX0_lamps_0 8 rfl rfl)
theorem dX0_lamps_9 : decode cX0_lamps 9 = .ok (.lastore, 1) := dk_80 (dk_at dksX0_lamps_0 9 rfl rfl)
theorem dX0_lamps_10 : decode cX0_lamps 10 = .ok (.goto 11, 3) := dk_167 0 11 (dk_at dksX0_lamps_0 10 rfl rfl)
theorem dX0_lamps_13 : decode cX0_lamps 13 = .ok (.astore 4, 2) := dk_58 4 (dk_at dksX0_lamps_0 13 rfl rfl)
theorem dX0_lamps_15 : decode cX0_lamps 15 = .ok (.iconst 1, 1) := dk_4 (dk_at dksX0_lamps_0 15 rfl rfl)
theorem dX0_lamps_16 : decode cX0_lamps 16 = .ok (.ireturn, 1) := dk_172 (dk_at dksX0_lamps_0 16 rfl rfl)
theorem dX0_lamps_17 : decode cX0_lamps 17 = .ok (.astore 4, 2) := dk_58 4 (dk_at dksX0_lamps_0 17 rfl rfl)
theorem dX0_lamps_19 : decode cX0_lamps 19 = .ok (.iconst 2, 1) := dk_5 (dk_at dksX0_lamps_0 19 rfl rfl)
theorem dX0_lamps_20 : decode cX0_lamps 20 = .ok (.ireturn, 1) := dk_172 (dk_at dksX0_lamps_0 20 rfl rfl)
theorem dX0_lamps_21 : decode cX0_lamps 21 = .ok (.iconst 0, 1) := dk_3 (dk_at dksX0_lamps_0 21 rfl rfl)
theorem dX0_lamps_22 : decode cX0_lamps 22 = .ok (.ireturn, 1) := dk_172 (dk_at dksX0_lamps_0 22 rfl rfl)
abbrev cX0_plant : ByteArray := method_5_code
def yX0_plant : MethodName := ⟨RX0, "plant", "(LBloomclock;III[J)I"⟩
def dkwX0_plant_1 : List UInt8 := [58, 5, 6, 172, 3, 172]
abbrev dktX0_plant_1 : List UInt8 := dkwX0_plant_1 ++ []
def dkwX0_plant_0 : List UInt8 := [25, 4, 3, 42, 27, 28, 29, 182, 0, 23, 133, 80, 167, 0, 15, 58, 5, 4, 172, 58, 5, 5, 172]
abbrev dktX0_plant_0 : List UInt8 := dkwX0_plant_0 ++ dktX0_plant_1
theorem dksX0_plant_0 : cX0_plant.data.toList.drop 0 = dktX0_plant_0 := by decide +kernel
theorem dksX0_plant_1 : cX0_plant.data.toList.drop 23 = dktX0_plant_1 := dk_seg dksX0_plant_0 23 rfl rfl
theorem dX0_plant_0 : decode cX0_plant 0 = .ok (.aload 4, 2) := dk_25 4 (dk_at dksX0_plant_0 0 rfl rfl)
theorem dX0_plant_2 : decode cX0_plant 2 = .ok (.iconst 0, 1) := dk_3 (dk_at dksX0_plant_0 2 rfl rfl)
theorem dX0_plant_3 : decode cX0_plant 3 = .ok (.aload_n 0, 1) := dk_42 (dk_at dksX0_plant_0 3 rfl rfl)
theorem dX0_plant_4 : decode cX0_plant 4 = .ok (.iload_n 1, 1) := dk_27 (dk_at dksX0_plant_0 4 rfl rfl)
theorem dX0_plant_5 : decode cX0_plant 5 = .ok (.iload_n 2, 1) := dk_28 (dk_at dksX0_plant_0 5 rfl rfl)
theorem dX0_plant_6 : decode cX0_plant 6 = .ok (.iload_n 3, 1) := dk_29 (dk_at dksX0_plant_0 6 rfl rfl)
theorem dX0_plant_7 : decode cX0_plant 7 = .ok (.invokevirtual 23, 3) := dk_182 0 23 (dk_at dksX0_plant_0 7 rfl rfl)
theorem dX0_plant_10 : decode cX0_plant 10 = .ok (.i2l, 1) := dk_133 (dk_at dksX0_plant_0 10 rfl rfl)
theorem dX0_plant_11 : decode cX0_plant 11 = .ok (.lastore, 1) := dk_80 (dk_at dksX0_plant_0 11 rfl rfl)
theorem dX0_plant_12 : decode cX0_plant 12 = .ok (.goto 15, 3) := dk_167 0 15 (dk_at dksX0_plant_0 12 rfl rfl)
theorem dX0_plant_15 : decode cX0_plant 15 = .ok (.astore 5, 2) := dk_58 5 (dk_at dksX0_plant_0 15 rfl rfl)
theorem dX0_plant_17 : decode cX0_plant 17 = .ok (.iconst 1, 1) := dk_4 (dk_at dksX0_plant_0 17 rfl rfl)
theorem dX0_plant_18 : decode cX0_plant 18 = .ok (.ireturn, 1) := dk_172 (dk_at dksX0_plant_0 18 rfl rfl)
theorem dX0_plant_19 : decode cX0_plant 19 = .ok (.astore 5, 2) := dk_58 5 (dk_at dksX0_plant_0 19 rfl rfl)
theorem dX0_plant_21 : decode cX0_plant 21 = .ok (.iconst 2, 1) := dk_5 (dk_at dksX0_plant_0 21 rfl rfl)
theorem dX0_plant_22 : decode cX0_plant 22 = .ok (.ireturn, 1) := dk_172 (dk_at dksX0_plant_0 22 rfl rfl)
theorem dX0_plant_23 : decode cX0_plant 23 = .ok (.astore 5, 2) := dk_58 5 (dk_at dksX0_plant_1 0 rfl rfl)
theorem dX0_plant_25 : decode cX0_plant 25 = .ok (.iconst 3, 1) := dk_6 (dk_at dksX0_plant_1 2 rfl rfl)
theorem dX0_plant_26 : decode cX0_plant 26 = .ok (.ireturn, 1) := dk_172 (dk_at dksX0_plant_1 3 rfl rfl)
theorem dX0_plant_27 : decode cX0_plant 27 = .ok (.iconst 0, 1) := dk_3 (dk_at dksX0_plant_1 4 rfl rfl)
theorem dX0_plant_28 : decode cX0_plant 28 = .ok (.ireturn, 1) := dk_172 (dk_at dksX0_plant_1 5 rfl rfl)
abbrev cX0_cut : ByteArray := method_6_code
def yX0_cut : MethodName := ⟨RX0, "cut", "(LBloomclock;II[J)I"⟩
def dkwX0_cut_1 : List UInt8 := [172, 3, 172]
abbrev dktX0_cut_1 : List UInt8 := dkwX0_cut_1 ++ []
def dkwX0_cut_0 : List UInt8 := [45, 3, 42, 27, 28, 182, 0, 27, 133, 80, 167, 0, 15, 58, 4, 4, 172, 58, 4, 5, 172, 58, 4, 6]
abbrev dktX0_cut_0 : List UInt8 := dkwX0_cut_0 ++ dktX0_cut_1
theorem dksX0_cut_0 : cX0_cut.data.toList.drop 0 = dktX0_cut_0 := by decide +kernel
theorem dksX0_cut_1 : cX0_cut.data.toList.drop 24 = dktX0_cut_1 := dk_seg dksX0_cut_0 24 rfl rfl
theorem dX0_cut_0 : decode cX0_cut 0 = .ok (.aload_n 3, 1) := dk_45 (dk_at dksX0_cut_0 0 rfl rfl)
theorem dX0_cut_1 : decode cX0_cut 1 = .ok (.iconst 0, 1) := dk_3 (dk_at dksX0_cut_0 1 rfl rfl)
theorem dX0_cut_2 : decode cX0_cut 2 = .ok (.aload_n 0, 1) := dk_42 (dk_at dksX0_cut_0 2 rfl rfl)
theorem dX0_cut_3 : decode cX0_cut 3 = .ok (.iload_n 1, 1) := dk_27 (dk_at dksX0_cut_0 3 rfl rfl)
theorem dX0_cut_4 : decode cX0_cut 4 = .ok (.iload_n 2, 1) := dk_28 (dk_at dksX0_cut_0 4 rfl rfl)
theorem dX0_cut_5 : decode cX0_cut 5 = .ok (.invokevirtual 27, 3) := dk_182 0 27 (dk_at dksX0_cut_0 5 rfl rfl)
theorem dX0_cut_8 : decode cX0_cut 8 = .ok (.i2l, 1) := dk_133 (dk_at dksX0_cut_0 8 rfl rfl)
theorem dX0_cut_9 : decode cX0_cut 9 = .ok (.lastore, 1) := dk_80 (dk_at dksX0_cut_0 9 rfl rfl)
theorem dX0_cut_10 : decode cX0_cut 10 = .ok (.goto 15, 3) := dk_167 0 15 (dk_at dksX0_cut_0 10 rfl rfl)
theorem dX0_cut_13 : decode cX0_cut 13 = .ok (.astore 4, 2) := dk_58 4 (dk_at dksX0_cut_0 13 rfl rfl)
theorem dX0_cut_15 : decode cX0_cut 15 = .ok (.iconst 1, 1) := dk_4 (dk_at dksX0_cut_0 15 rfl rfl)
theorem dX0_cut_16 : decode cX0_cut 16 = .ok (.ireturn, 1) := dk_172 (dk_at dksX0_cut_0 16 rfl rfl)
theorem dX0_cut_17 : decode cX0_cut 17 = .ok (.astore 4, 2) := dk_58 4 (dk_at dksX0_cut_0 17 rfl rfl)
theorem dX0_cut_19 : decode cX0_cut 19 = .ok (.iconst 2, 1) := dk_5 (dk_at dksX0_cut_0 19 rfl rfl)
theorem dX0_cut_20 : decode cX0_cut 20 = .ok (.ireturn, 1) := dk_172 (dk_at dksX0_cut_0 20 rfl rfl)
theorem dX0_cut_21 : decode cX0_cut 21 = .ok (.astore 4, 2) := dk_58 4 (dk_at dksX0_cut_0 21 rfl rfl)
theorem dX0_cut_23 : decode cX0_cut 23 = .ok (.iconst 3, 1) := dk_6 (dk_at dksX0_cut_0 23 rfl rfl)
theorem dX0_cut_24 : decode cX0_cut 24 = .ok (.ireturn, 1) := dk_172 (dk_at dksX0_cut_1 0 rfl rfl)
theorem dX0_cut_25 : decode cX0_cut 25 = .ok (.iconst 0, 1) := dk_3 (dk_at dksX0_cut_1 1 rfl rfl)
theorem dX0_cut_26 : decode cX0_cut 26 = .ok (.ireturn, 1) := dk_172 (dk_at dksX0_cut_1 2 rfl rfl)
abbrev cX0_move : ByteArray := method_7_code
def yX0_move : MethodName := ⟨RX0, "move", "(LBloomclock;II[J)I"⟩
def dkwX0_move_1 : List UInt8 := [172, 3, 172]
abbrev dktX0_move_1 : List UInt8 := dkwX0_move_1 ++ []
def dkwX0_move_0 : List UInt8 := [45, 3, 42, 27, 28, 182, 0, 30, 133, 80, 167, 0, 15, 58, 4, 4, 172, 58, 4, 5, 172, 58, 4, 6]
abbrev dktX0_move_0 : List UInt8 := dkwX0_move_0 ++ dktX0_move_1
theorem dksX0_move_0 : cX0_move.data.toList.drop 0 = dktX0_move_0 := by decide +kernel
theorem dksX0_move_1 : cX0_move.data.toList.drop 24 = dktX0_move_1 := dk_seg dksX0_move_0 24 rfl rfl
theorem dX0_move_0 : decode cX0_move 0 = .ok (.aload_n 3, 1) := dk_45 (dk_at dksX0_move_0 0 rfl rfl)
theorem dX0_move_1 : decode cX0_move 1 = .ok (.iconst 0, 1) := dk_3 (dk_at dksX0_move_0 1 rfl rfl)
theorem dX0_move_2 : decode cX0_move 2 = .ok (.aload_n 0, 1) := dk_42 (dk_at dksX0_move_0 2 rfl rfl)
theorem dX0_move_3 : decode cX0_move 3 = .ok (.iload_n 1, 1) := dk_27 (dk_at dksX0_move_0 3 rfl rfl)
theorem dX0_move_4 : decode cX0_move 4 = .ok (.iload_n 2, 1) := dk_28 (dk_at dksX0_move_0 4 rfl rfl)
theorem dX0_move_5 : decode cX0_move 5 = .ok (.invokevirtual 30, 3) := dk_182 0 30 (dk_at dksX0_move_0 5 rfl rfl)
theorem dX0_move_8 : decode cX0_move 8 = .ok (.i2l, 1) := dk_133 (dk_at dksX0_move_0 8 rfl rfl)
theorem dX0_move_9 : decode cX0_move 9 = .ok (.lastore, 1) := dk_80 (dk_at dksX0_move_0 9 rfl rfl)
theorem dX0_move_10 : decode cX0_move 10 = .ok (.goto 15, 3) := dk_167 0 15 (dk_at dksX0_move_0 10 rfl rfl)
theorem dX0_move_13 : decode cX0_move 13 = .ok (.astore 4, 2) := dk_58 4 (dk_at dksX0_move_0 13 rfl rfl)
theorem dX0_move_15 : decode cX0_move 15 = .ok (.iconst 1, 1) := dk_4 (dk_at dksX0_move_0 15 rfl rfl)
theorem dX0_move_16 : decode cX0_move 16 = .ok (.ireturn, 1) := dk_172 (dk_at dksX0_move_0 16 rfl rfl)
theorem dX0_move_17 : decode cX0_move 17 = .ok (.astore 4, 2) := dk_58 4 (dk_at dksX0_move_0 17 rfl rfl)
theorem dX0_move_19 : decode cX0_move 19 = .ok (.iconst 2, 1) := dk_5 (dk_at dksX0_move_0 19 rfl rfl)
theorem dX0_move_20 : decode cX0_move 20 = .ok (.ireturn, 1) := dk_172 (dk_at dksX0_move_0 20 rfl rfl)
theorem dX0_move_21 : decode cX0_move 21 = .ok (.astore 4, 2) := dk_58 4 (dk_at dksX0_move_0 21 rfl rfl)
theorem dX0_move_23 : decode cX0_move 23 = .ok (.iconst 3, 1) := dk_6 (dk_at dksX0_move_0 23 rfl rfl)
theorem dX0_move_24 : decode cX0_move 24 = .ok (.ireturn, 1) := dk_172 (dk_at dksX0_move_1 0 rfl rfl)
theorem dX0_move_25 : decode cX0_move 25 = .ok (.iconst 0, 1) := dk_3 (dk_at dksX0_move_1 1 rfl rfl)
theorem dX0_move_26 : decode cX0_move 26 = .ok (.ireturn, 1) := dk_172 (dk_at dksX0_move_1 2 rfl rfl)
abbrev cX0_pass : ByteArray := method_8_code
def yX0_pass : MethodName := ⟨RX0, "pass", "(LBloomclock;II[J)I"⟩
def dkwX0_pass_0 : List UInt8 := [45, 3, 42, 27, 28, 182, 0, 33, 133, 80, 167, 0, 7, 58, 4, 4, 172, 3, 172]
abbrev dktX0_pass_0 : List UInt8 := dkwX0_pass_0 ++ []
theorem dksX0_pass_0 : cX0_pass.data.toList.drop 0 = dktX0_pass_0 := by decide +kernel
theorem dX0_pass_0 : decode cX0_pass 0 = .ok (.aload_n 3, 1) := dk_45 (dk_at dksX0_pass_0 0 rfl rfl)
theorem dX0_pass_1 : decode cX0_pass 1 = .ok (.iconst 0, 1) := dk_3 (dk_at dksX0_pass_0 1 rfl rfl)
theorem dX0_pass_2 : decode cX0_pass 2 = .ok (.aload_n 0, 1) := dk_42 (dk_at dksX0_pass_0 2 rfl rfl)
theorem dX0_pass_3 : decode cX0_pass 3 = .ok (.iload_n 1, 1) := dk_27 (dk_at dksX0_pass_0 3 rfl rfl)
theorem dX0_pass_4 : decode cX0_pass 4 = .ok (.iload_n 2, 1) := dk_28 (dk_at dksX0_pass_0 4 rfl rfl)
theorem dX0_pass_5 : decode cX0_pass 5 = .ok (.invokevirtual 33, 3) := dk_182 0 33 (dk_at dksX0_pass_0 5 rfl rfl)
theorem dX0_pass_8 : decode cX0_pass 8 = .ok (.i2l, 1) := dk_133 (dk_at dksX0_pass_0 8 rfl rfl)
theorem dX0_pass_9 : decode cX0_pass 9 = .ok (.lastore, 1) := dk_80 (dk_at dksX0_pass_0 9 rfl rfl)
theorem dX0_pass_10 : decode cX0_pass 10 = .ok (.goto 7, 3) := dk_167 0 7 (dk_at dksX0_pass_0 10 rfl rfl)
theorem dX0_pass_13 : decode cX0_pass 13 = .ok (.astore 4, 2) := dk_58 4 (dk_at dksX0_pass_0 13 rfl rfl)
theorem dX0_pass_15 : decode cX0_pass 15 = .ok (.iconst 1, 1) := dk_4 (dk_at dksX0_pass_0 15 rfl rfl)
theorem dX0_pass_16 : decode cX0_pass 16 = .ok (.ireturn, 1) := dk_172 (dk_at dksX0_pass_0 16 rfl rfl)
theorem dX0_pass_17 : decode cX0_pass 17 = .ok (.iconst 0, 1) := dk_3 (dk_at dksX0_pass_0 17 rfl rfl)
theorem dX0_pass_18 : decode cX0_pass 18 = .ok (.ireturn, 1) := dk_172 (dk_at dksX0_pass_0 18 rfl rfl)
abbrev cX0_bring : ByteArray := method_9_code
def yX0_bring : MethodName := ⟨RX0, "bring", "(LBloomclock;III[J)I"⟩
def dkwX0_bring_1 : List UInt8 := [58, 5, 6, 172, 3, 172]
abbrev dktX0_bring_1 : List UInt8 := dkwX0_bring_1 ++ []
def dkwX0_bring_0 : List UInt8 := [25, 4, 3, 42, 27, 28, 29, 182, 0, 36, 133, 80, 167, 0, 15, 58, 5, 4, 172, 58, 5, 5, 172]
abbrev dktX0_bring_0 : List UInt8 := dkwX0_bring_0 ++ dktX0_bring_1
theorem dksX0_bring_0 : cX0_bring.data.toList.drop 0 = dktX0_bring_0 := by decide +kernel
theorem dksX0_bring_1 : cX0_bring.data.toList.drop 23 = dktX0_bring_1 := dk_seg dksX0_bring_0 23 rfl rfl
theorem dX0_bring_0 : decode cX0_bring 0 = .ok (.aload 4, 2) := dk_25 4 (dk_at dksX0_bring_0 0 rfl rfl)
theorem dX0_bring_2 : decode cX0_bring 2 = .ok (.iconst 0, 1) := dk_3 (dk_at dksX0_bring_0 2 rfl rfl)
theorem dX0_bring_3 : decode cX0_bring 3 = .ok (.aload_n 0, 1) := dk_42 (dk_at dksX0_bring_0 3 rfl rfl)
theorem dX0_bring_4 : decode cX0_bring 4 = .ok (.iload_n 1, 1) := dk_27 (dk_at dksX0_bring_0 4 rfl rfl)
theorem dX0_bring_5 : decode cX0_bring 5 = .ok (.iload_n 2, 1) := dk_28 (dk_at dksX0_bring_0 5 rfl rfl)
theorem dX0_bring_6 : decode cX0_bring 6 = .ok (.iload_n 3, 1) := dk_29 (dk_at dksX0_bring_0 6 rfl rfl)
theorem dX0_bring_7 : decode cX0_bring 7 = .ok (.invokevirtual 36, 3) := dk_182 0 36 (dk_at dksX0_bring_0 7 rfl rfl)
theorem dX0_bring_10 : decode cX0_bring 10 = .ok (.i2l, 1) := dk_133 (dk_at dksX0_bring_0 10 rfl rfl)
theorem dX0_bring_11 : decode cX0_bring 11 = .ok (.lastore, 1) := dk_80 (dk_at dksX0_bring_0 11 rfl rfl)
theorem dX0_bring_12 : decode cX0_bring 12 = .ok (.goto 15, 3) := dk_167 0 15 (dk_at dksX0_bring_0 12 rfl rfl)
theorem dX0_bring_15 : decode cX0_bring 15 = .ok (.astore 5, 2) := dk_58 5 (dk_at dksX0_bring_0 15 rfl rfl)
theorem dX0_bring_17 : decode cX0_bring 17 = .ok (.iconst 1, 1) := dk_4 (dk_at dksX0_bring_0 17 rfl rfl)
theorem dX0_bring_18 : decode cX0_bring 18 = .ok (.ireturn, 1) := dk_172 (dk_at dksX0_bring_0 18 rfl rfl)
theorem dX0_bring_19 : decode cX0_bring 19 = .ok (.astore 5, 2) := dk_58 5 (dk_at dksX0_bring_0 19 rfl rfl)
theorem dX0_bring_21 : decode cX0_bring 21 = .ok (.iconst 2, 1) := dk_5 (dk_at dksX0_bring_0 21 rfl rfl)
theorem dX0_bring_22 : decode cX0_bring 22 = .ok (.ireturn, 1) := dk_172 (dk_at dksX0_bring_0 22 rfl rfl)
theorem dX0_bring_23 : decode cX0_bring 23 = .ok (.astore 5, 2) := dk_58 5 (dk_at dksX0_bring_1 0 rfl rfl)
theorem dX0_bring_25 : decode cX0_bring 25 = .ok (.iconst 3, 1) := dk_6 (dk_at dksX0_bring_1 2 rfl rfl)
theorem dX0_bring_26 : decode cX0_bring 26 = .ok (.ireturn, 1) := dk_172 (dk_at dksX0_bring_1 3 rfl rfl)
theorem dX0_bring_27 : decode cX0_bring 27 = .ok (.iconst 0, 1) := dk_3 (dk_at dksX0_bring_1 4 rfl rfl)
theorem dX0_bring_28 : decode cX0_bring 28 = .ok (.ireturn, 1) := dk_172 (dk_at dksX0_bring_1 5 rfl rfl)
abbrev cX0_inspect : ByteArray := method_10_code
def yX0_inspect : MethodName := ⟨RX0, "inspect", "(LBloomclock;I[J)I"⟩
def dkwX0_inspect_0 : List UInt8 := [44, 3, 42, 27, 182, 0, 39, 133, 80, 167, 0, 9, 78, 4, 172, 78, 5, 172, 3, 172]
abbrev dktX0_inspect_0 : List UInt8 := dkwX0_inspect_0 ++ []
theorem dksX0_inspect_0 : cX0_inspect.data.toList.drop 0 = dktX0_inspect_0 := by decide +kernel
theorem dX0_inspect_0 : decode cX0_inspect 0 = .ok (.aload_n 2, 1) := dk_44 (dk_at dksX0_inspect_0 0 rfl rfl)
theorem dX0_inspect_1 : decode cX0_inspect 1 = .ok (.iconst 0, 1) := dk_3 (dk_at dksX0_inspect_0 1 rfl rfl)
theorem dX0_inspect_2 : decode cX0_inspect 2 = .ok (.aload_n 0, 1) := dk_42 (dk_at dksX0_inspect_0 2 rfl rfl)
theorem dX0_inspect_3 : decode cX0_inspect 3 = .ok (.iload_n 1, 1) := dk_27 (dk_at dksX0_inspect_0 3 rfl rfl)
theorem dX0_inspect_4 : decode cX0_inspect 4 = .ok (.invokevirtual 39, 3) := dk_182 0 39 (dk_at dksX0_inspect_0 4 rfl rfl)
theorem dX0_inspect_7 : decode cX0_inspect 7 = .ok (.i2l, 1) := dk_133 (dk_at dksX0_inspect_0 7 rfl rfl)
theorem dX0_inspect_8 : decode cX0_inspect 8 = .ok (.lastore, 1) := dk_80 (dk_at dksX0_inspect_0 8 rfl rfl)
theorem dX0_inspect_9 : decode cX0_inspect 9 = .ok (.goto 9, 3) := dk_167 0 9 (dk_at dksX0_inspect_0 9 rfl rfl)
theorem dX0_inspect_12 : decode cX0_inspect 12 = .ok (.astore_n 3, 1) := dk_78 (dk_at dksX0_inspect_0 12 rfl rfl)
theorem dX0_inspect_13 : decode cX0_inspect 13 = .ok (.iconst 1, 1) := dk_4 (dk_at dksX0_inspect_0 13 rfl rfl)
theorem dX0_inspect_14 : decode cX0_inspect 14 = .ok (.ireturn, 1) := dk_172 (dk_at dksX0_inspect_0 14 rfl rfl)
theorem dX0_inspect_15 : decode cX0_inspect 15 = .ok (.astore_n 3, 1) := dk_78 (dk_at dksX0_inspect_0 15 rfl rfl)
theorem dX0_inspect_16 : decode cX0_inspect 16 = .ok (.iconst 2, 1) := dk_5 (dk_at dksX0_inspect_0 16 rfl rfl)
theorem dX0_inspect_17 : decode cX0_inspect 17 = .ok (.ireturn, 1) := dk_172 (dk_at dksX0_inspect_0 17 rfl rfl)
theorem dX0_inspect_18 : decode cX0_inspect 18 = .ok (.iconst 0, 1) := dk_3 (dk_at dksX0_inspect_0 18 rfl rfl)
theorem dX0_inspect_19 : decode cX0_inspect 19 = .ok (.ireturn, 1) := dk_172 (dk_at dksX0_inspect_0 19 rfl rfl)
abbrev cX0_buyer : ByteArray := method_11_code
def yX0_buyer : MethodName := ⟨RX0, "buyer", "(LBloomclock;I[J)I"⟩
def dkwX0_buyer_0 : List UInt8 := [44, 3, 42, 27, 182, 0, 43, 133, 80, 167, 0, 9, 78, 4, 172, 78, 5, 172, 3, 172]
abbrev dktX0_buyer_0 : List UInt8 := dkwX0_buyer_0 ++ []
theorem dksX0_buyer_0 : cX0_buyer.data.toList.drop 0 = dktX0_buyer_0 := by decide +kernel
theorem dX0_buyer_0 : decode cX0_buyer 0 = .ok (.aload_n 2, 1) := dk_44 (dk_at dksX0_buyer_0 0 rfl rfl)
theorem dX0_buyer_1 : decode cX0_buyer 1 = .ok (.iconst 0, 1) := dk_3 (dk_at dksX0_buyer_0 1 rfl rfl)
theorem dX0_buyer_2 : decode cX0_buyer 2 = .ok (.aload_n 0, 1) := dk_42 (dk_at dksX0_buyer_0 2 rfl rfl)
theorem dX0_buyer_3 : decode cX0_buyer 3 = .ok (.iload_n 1, 1) := dk_27 (dk_at dksX0_buyer_0 3 rfl rfl)
theorem dX0_buyer_4 : decode cX0_buyer 4 = .ok (.invokevirtual 43, 3) := dk_182 0 43 (dk_at dksX0_buyer_0 4 rfl rfl)
theorem dX0_buyer_7 : decode cX0_buyer 7 = .ok (.i2l, 1) := dk_133 (dk_at dksX0_buyer_0 7 rfl rfl)
theorem dX0_buyer_8 : decode cX0_buyer 8 = .ok (.lastore, 1) := dk_80 (dk_at dksX0_buyer_0 8 rfl rfl)
theorem dX0_buyer_9 : decode cX0_buyer 9 = .ok (.goto 9, 3) := dk_167 0 9 (dk_at dksX0_buyer_0 9 rfl rfl)
theorem dX0_buyer_12 : decode cX0_buyer 12 = .ok (.astore_n 3, 1) := dk_78 (dk_at dksX0_buyer_0 12 rfl rfl)
theorem dX0_buyer_13 : decode cX0_buyer 13 = .ok (.iconst 1, 1) := dk_4 (dk_at dksX0_buyer_0 13 rfl rfl)
theorem dX0_buyer_14 : decode cX0_buyer 14 = .ok (.ireturn, 1) := dk_172 (dk_at dksX0_buyer_0 14 rfl rfl)
theorem dX0_buyer_15 : decode cX0_buyer 15 = .ok (.astore_n 3, 1) := dk_78 (dk_at dksX0_buyer_0 15 rfl rfl)
theorem dX0_buyer_16 : decode cX0_buyer 16 = .ok (.iconst 2, 1) := dk_5 (dk_at dksX0_buyer_0 16 rfl rfl)
theorem dX0_buyer_17 : decode cX0_buyer 17 = .ok (.ireturn, 1) := dk_172 (dk_at dksX0_buyer_0 17 rfl rfl)
theorem dX0_buyer_18 : decode cX0_buyer 18 = .ok (.iconst 0, 1) := dk_3 (dk_at dksX0_buyer_0 18 rfl rfl)
theorem dX0_buyer_19 : decode cX0_buyer 19 = .ok (.ireturn, 1) := dk_172 (dk_at dksX0_buyer_0 19 rfl rfl)
abbrev cX0_even : ByteArray := method_12_code
def yX0_even : MethodName := ⟨RX0, "even", "(LBloomclock;II[J)I"⟩
def dkwX0_even_0 : List UInt8 := [45, 3, 42, 27, 28, 182, 0, 46, 133, 80, 167, 0, 11, 58, 4, 4, 172, 58, 4, 5, 172, 3, 172]
abbrev dktX0_even_0 : List UInt8 := dkwX0_even_0 ++ []
theorem dksX0_even_0 : cX0_even.data.toList.drop 0 = dktX0_even_0 := by decide +kernel
theorem dX0_even_0 : decode cX0_even 0 = .ok (.aload_n 3, 1) := dk_45 (dk_at dksX0_even_0 0 rfl rfl)
theorem dX0_even_1 : decode cX0_even 1 = .ok (.iconst 0, 1) := dk_3 (dk_at dksX0_even_0 1 rfl rfl)
theorem dX0_even_2 : decode cX0_even 2 = .ok (.aload_n 0, 1) := dk_42 (dk_at dksX0_even_0 2 rfl rfl)
theorem dX0_even_3 : decode cX0_even 3 = .ok (.iload_n 1, 1) := dk_27 (dk_at dksX0_even_0 3 rfl rfl)
theorem dX0_even_4 : decode cX0_even 4 = .ok (.iload_n 2, 1) := dk_28 (dk_at dksX0_even_0 4 rfl rfl)
theorem dX0_even_5 : decode cX0_even 5 = .ok (.invokevirtual 46, 3) := dk_182 0 46 (dk_at dksX0_even_0 5 rfl rfl)
theorem dX0_even_8 : decode cX0_even 8 = .ok (.i2l, 1) := dk_133 (dk_at dksX0_even_0 8 rfl rfl)
theorem dX0_even_9 : decode cX0_even 9 = .ok (.lastore, 1) := dk_80 (dk_at dksX0_even_0 9 rfl rfl)
theorem dX0_even_10 : decode cX0_even 10 = .ok (.goto 11, 3) := dk_167 0 11 (dk_at dksX0_even_0 10 rfl rfl)
theorem dX0_even_13 : decode cX0_even 13 = .ok (.astore 4, 2) := dk_58 4 (dk_at dksX0_even_0 13 rfl rfl)
theorem dX0_even_15 : decode cX0_even 15 = .ok (.iconst 1, 1) := dk_4 (dk_at dksX0_even_0 15 rfl rfl)
theorem dX0_even_16 : decode cX0_even 16 = .ok (.ireturn, 1) := dk_172 (dk_at dksX0_even_0 16 rfl rfl)
theorem dX0_even_17 : decode cX0_even 17 = .ok (.astore 4, 2) := dk_58 4 (dk_at dksX0_even_0 17 rfl rfl)
theorem dX0_even_19 : decode cX0_even 19 = .ok (.iconst 2, 1) := dk_5 (dk_at dksX0_even_0 19 rfl rfl)
theorem dX0_even_20 : decode cX0_even 20 = .ok (.ireturn, 1) := dk_172 (dk_at dksX0_even_0 20 rfl rfl)
theorem dX0_even_21 : decode cX0_even 21 = .ok (.iconst 0, 1) := dk_3 (dk_at dksX0_even_0 21 rfl rfl)
theorem dX0_even_22 : decode cX0_even 22 = .ok (.ireturn, 1) := dk_172 (dk_at dksX0_even_0 22 rfl rfl)
abbrev cX0_leave : ByteArray := method_13_code
def yX0_leave : MethodName := ⟨RX0, "leave", "(LBloomclock;II[J)I"⟩
def dkwX0_leave_0 : List UInt8 := [45, 3, 42, 27, 28, 182, 0, 49, 133, 80, 167, 0, 11, 58, 4, 4, 172, 58, 4, 5, 172, 3, 172]
abbrev dktX0_leave_0 : List UInt8 := dkwX0_leave_0 ++ []
theorem dksX0_leave_0 : cX0_leave.data.toList.drop 0 = dktX0_leave_0 := by decide +kernel
theorem dX0_leave_0 : decode cX0_leave 0 = .ok (.aload_n 3, 1) := dk_45 (dk_at dksX0_leave_0 0 rfl rfl)
theorem dX0_leave_1 : decode cX0_leave 1 = .ok (.iconst 0, 1) := dk_3 (dk_at dksX0_leave_0 1 rfl rfl)
theorem dX0_leave_2 : decode cX0_leave 2 = .ok (.aload_n 0, 1) := dk_42 (dk_at dksX0_leave_0 2 rfl rfl)
theorem dX0_leave_3 : decode cX0_leave 3 = .ok (.iload_n 1, 1) := dk_27 (dk_at dksX0_leave_0 3 rfl rfl)
theorem dX0_leave_4 : decode cX0_leave 4 = .ok (.iload_n 2, 1) := dk_28 (dk_at dksX0_leave_0 4 rfl rfl)
theorem dX0_leave_5 : decode cX0_leave 5 = .ok (.invokevirtual 49, 3) := dk_182 0 49 (dk_at dksX0_leave_0 5 rfl rfl)
theorem dX0_leave_8 : decode cX0_leave 8 = .ok (.i2l, 1) := dk_133 (dk_at dksX0_leave_0 8 rfl rfl)
theorem dX0_leave_9 : decode cX0_leave 9 = .ok (.lastore, 1) := dk_80 (dk_at dksX0_leave_0 9 rfl rfl)
theorem dX0_leave_10 : decode cX0_leave 10 = .ok (.goto 11, 3) := dk_167 0 11 (dk_at dksX0_leave_0 10 rfl rfl)
theorem dX0_leave_13 : decode cX0_leave 13 = .ok (.astore 4, 2) := dk_58 4 (dk_at dksX0_leave_0 13 rfl rfl)
theorem dX0_leave_15 : decode cX0_leave 15 = .ok (.iconst 1, 1) := dk_4 (dk_at dksX0_leave_0 15 rfl rfl)
theorem dX0_leave_16 : decode cX0_leave 16 = .ok (.ireturn, 1) := dk_172 (dk_at dksX0_leave_0 16 rfl rfl)
theorem dX0_leave_17 : decode cX0_leave 17 = .ok (.astore 4, 2) := dk_58 4 (dk_at dksX0_leave_0 17 rfl rfl)
theorem dX0_leave_19 : decode cX0_leave 19 = .ok (.iconst 2, 1) := dk_5 (dk_at dksX0_leave_0 19 rfl rfl)
theorem dX0_leave_20 : decode cX0_leave 20 = .ok (.ireturn, 1) := dk_172 (dk_at dksX0_leave_0 20 rfl rfl)
theorem dX0_leave_21 : decode cX0_leave 21 = .ok (.iconst 0, 1) := dk_3 (dk_at dksX0_leave_0 21 rfl rfl)
theorem dX0_leave_22 : decode cX0_leave 22 = .ok (.ireturn, 1) := dk_172 (dk_at dksX0_leave_0 22 rfl rfl)
abbrev cX0_order : ByteArray := method_14_code
def yX0_order : MethodName := ⟨RX0, "order", "(LBloomclock;IIIIIII[J)I"⟩
def dkwX0_order_1 : List UInt8 := [58, 9, 4, 172, 58, 9, 5, 172, 58, 9, 6, 172, 3, 172]
abbrev dktX0_order_1 : List UInt8 := dkwX0_order_1 ++ []
def dkwX0_order_0 : List UInt8 := [25, 8, 3, 42, 27, 28, 29, 21, 4, 21, 5, 21, 6, 21, 7, 182, 0, 52, 133, 80, 167, 0, 15]
abbrev dktX0_order_0 : List UInt8 := dkwX0_order_0 ++ dktX0_order_1
theorem dksX0_order_0 : cX0_order.data.toList.drop 0 = dktX0_order_0 := by decide +kernel
theorem dksX0_order_1 : cX0_order.data.toList.drop 23 = dktX0_order_1 := dk_seg dksX0_order_0 23 rfl rfl
theorem dX0_order_0 : decode cX0_order 0 = .ok (.aload 8, 2) := dk_25 8 (dk_at dksX0_order_0 0 rfl rfl)
theorem dX0_order_2 : decode cX0_order 2 = .ok (.iconst 0, 1) := dk_3 (dk_at dksX0_order_0 2 rfl rfl)
theorem dX0_order_3 : decode cX0_order 3 = .ok (.aload_n 0, 1) := dk_42 (dk_at dksX0_order_0 3 rfl rfl)
theorem dX0_order_4 : decode cX0_order 4 = .ok (.iload_n 1, 1) := dk_27 (dk_at dksX0_order_0 4 rfl rfl)
theorem dX0_order_5 : decode cX0_order 5 = .ok (.iload_n 2, 1) := dk_28 (dk_at dksX0_order_0 5 rfl rfl)
theorem dX0_order_6 : decode cX0_order 6 = .ok (.iload_n 3, 1) := dk_29 (dk_at dksX0_order_0 6 rfl rfl)
theorem dX0_order_7 : decode cX0_order 7 = .ok (.iload 4, 2) := dk_21 4 (dk_at dksX0_order_0 7 rfl rfl)
theorem dX0_order_9 : decode cX0_order 9 = .ok (.iload 5, 2) := dk_21 5 (dk_at dksX0_order_0 9 rfl rfl)
theorem dX0_order_11 : decode cX0_order 11 = .ok (.iload 6, 2) := dk_21 6 (dk_at dksX0_order_0 11 rfl rfl)
theorem dX0_order_13 : decode cX0_order 13 = .ok (.iload 7, 2) := dk_21 7 (dk_at dksX0_order_0 13 rfl rfl)
theorem dX0_order_15 : decode cX0_order 15 = .ok (.invokevirtual 52, 3) := dk_182 0 52 (dk_at dksX0_order_0 15 rfl rfl)
theorem dX0_order_18 : decode cX0_order 18 = .ok (.i2l, 1) := dk_133 (dk_at dksX0_order_0 18 rfl rfl)
theorem dX0_order_19 : decode cX0_order 19 = .ok (.lastore, 1) := dk_80 (dk_at dksX0_order_0 19 rfl rfl)
theorem dX0_order_20 : decode cX0_order 20 = .ok (.goto 15, 3) := dk_167 0 15 (dk_at dksX0_order_0 20 rfl rfl)
theorem dX0_order_23 : decode cX0_order 23 = .ok (.astore 9, 2) := dk_58 9 (dk_at dksX0_order_1 0 rfl rfl)
theorem dX0_order_25 : decode cX0_order 25 = .ok (.iconst 1, 1) := dk_4 (dk_at dksX0_order_1 2 rfl rfl)
theorem dX0_order_26 : decode cX0_order 26 = .ok (.ireturn, 1) := dk_172 (dk_at dksX0_order_1 3 rfl rfl)
theorem dX0_order_27 : decode cX0_order 27 = .ok (.astore 9, 2) := dk_58 9 (dk_at dksX0_order_1 4 rfl rfl)
theorem dX0_order_29 : decode cX0_order 29 = .ok (.iconst 2, 1) := dk_5 (dk_at dksX0_order_1 6 rfl rfl)
theorem dX0_order_30 : decode cX0_order 30 = .ok (.ireturn, 1) := dk_172 (dk_at dksX0_order_1 7 rfl rfl)
theorem dX0_order_31 : decode cX0_order 31 = .ok (.astore 9, 2) := dk_58 9 (dk_at dksX0_order_1 8 rfl rfl)
theorem dX0_order_33 : decode cX0_order 33 = .ok (.iconst 3, 1) := dk_6 (dk_at dksX0_order_1 10 rfl rfl)
theorem dX0_order_34 : decode cX0_order 34 = .ok (.ireturn, 1) := dk_172 (dk_at dksX0_order_1 11 rfl rfl)
theorem dX0_order_35 : decode cX0_order 35 = .ok (.iconst 0, 1) := dk_3 (dk_at dksX0_order_1 12 rfl rfl)
theorem dX0_order_36 : decode cX0_order 36 = .ok (.ireturn, 1) := dk_172 (dk_at dksX0_order_1 13 rfl rfl)
abbrev cX0_clock : ByteArray := method_15_code
def yX0_clock : MethodName := ⟨RX0, "clock", "(LBloomclock;[J)I"⟩
def dkwX0_clock_0 : List UInt8 := [43, 3, 42, 182, 0, 56, 133, 80, 167, 0, 6, 77, 4, 172, 3, 172]
abbrev dktX0_clock_0 : List UInt8 := dkwX0_clock_0 ++ []
theorem dksX0_clock_0 : cX0_clock.data.toList.drop 0 = dktX0_clock_0 := by decide +kernel
theorem dX0_clock_0 : decode cX0_clock 0 = .ok (.aload_n 1, 1) := dk_43 (dk_at dksX0_clock_0 0 rfl rfl)
theorem dX0_clock_1 : decode cX0_clock 1 = .ok (.iconst 0, 1) := dk_3 (dk_at dksX0_clock_0 1 rfl rfl)
theorem dX0_clock_2 : decode cX0_clock 2 = .ok (.aload_n 0, 1) := dk_42 (dk_at dksX0_clock_0 2 rfl rfl)
theorem dX0_clock_3 : decode cX0_clock 3 = .ok (.invokevirtual 56, 3) := dk_182 0 56 (dk_at dksX0_clock_0 3 rfl rfl)
theorem dX0_clock_6 : decode cX0_clock 6 = .ok (.i2l, 1) := dk_133 (dk_at dksX0_clock_0 6 rfl rfl)
theorem dX0_clock_7 : decode cX0_clock 7 = .ok (.lastore, 1) := dk_80 (dk_at dksX0_clock_0 7 rfl rfl)
theorem dX0_clock_8 : decode cX0_clock 8 = .ok (.goto 6, 3) := dk_167 0 6 (dk_at dksX0_clock_0 8 rfl rfl)
theorem dX0_clock_11 : decode cX0_clock 11 = .ok (.astore_n 2, 1) := dk_77 (dk_at dksX0_clock_0 11 rfl rfl)
theorem dX0_clock_12 : decode cX0_clock 12 = .ok (.iconst 1, 1) := dk_4 (dk_at dksX0_clock_0 12 rfl rfl)
theorem dX0_clock_13 : decode cX0_clock 13 = .ok (.ireturn, 1) := dk_172 (dk_at dksX0_clock_0 13 rfl rfl)
theorem dX0_clock_14 : decode cX0_clock 14 = .ok (.iconst 0, 1) := dk_3 (dk_at dksX0_clock_0 14 rfl rfl)
theorem dX0_clock_15 : decode cX0_clock 15 = .ok (.ireturn, 1) := dk_172 (dk_at dksX0_clock_0 15 rfl rfl)
abbrev cX0_presell : ByteArray := method_16_code
def yX0_presell : MethodName := ⟨RX0, "presell", "(LBloomclock;IIII[J)I"⟩
def dkwX0_presell_1 : List UInt8 := [172, 58, 6, 6, 172, 3, 172]
abbrev dktX0_presell_1 : List UInt8 := dkwX0_presell_1 ++ []
def dkwX0_presell_0 : List UInt8 := [25, 5, 3, 42, 27, 28, 29, 21, 4, 182, 0, 59, 133, 80, 167, 0, 15, 58, 6, 4, 172, 58, 6, 5]
abbrev dktX0_presell_0 : List UInt8 := dkwX0_presell_0 ++ dktX0_presell_1
theorem dksX0_presell_0 : cX0_presell.data.toList.drop 0 = dktX0_presell_0 := by decide +kernel
theorem dksX0_presell_1 : cX0_presell.data.toList.drop 24 = dktX0_presell_1 := dk_seg dksX0_presell_0 24 rfl rfl
theorem dX0_presell_0 : decode cX0_presell 0 = .ok (.aload 5, 2) := dk_25 5 (dk_at dksX0_presell_0 0 rfl rfl)
theorem dX0_presell_2 : decode cX0_presell 2 = .ok (.iconst 0, 1) := dk_3 (dk_at dksX0_presell_0 2 rfl rfl)
theorem dX0_presell_3 : decode cX0_presell 3 = .ok (.aload_n 0, 1) := dk_42 (dk_at dksX0_presell_0 3 rfl rfl)
theorem dX0_presell_4 : decode cX0_presell 4 = .ok (.iload_n 1, 1) := dk_27 (dk_at dksX0_presell_0 4 rfl rfl)
theorem dX0_presell_5 : decode cX0_presell 5 = .ok (.iload_n 2, 1) := dk_28 (dk_at dksX0_presell_0 5 rfl rfl)
theorem dX0_presell_6 : decode cX0_presell 6 = .ok (.iload_n 3, 1) := dk_29 (dk_at dksX0_presell_0 6 rfl rfl)
theorem dX0_presell_7 : decode cX0_presell 7 = .ok (.iload 4, 2) := dk_21 4 (dk_at dksX0_presell_0 7 rfl rfl)
theorem dX0_presell_9 : decode cX0_presell 9 = .ok (.invokevirtual 59, 3) := dk_182 0 59 (dk_at dksX0_presell_0 9 rfl rfl)
theorem dX0_presell_12 : decode cX0_presell 12 = .ok (.i2l, 1) := dk_133 (dk_at dksX0_presell_0 12 rfl rfl)
theorem dX0_presell_13 : decode cX0_presell 13 = .ok (.lastore, 1) := dk_80 (dk_at dksX0_presell_0 13 rfl rfl)
theorem dX0_presell_14 : decode cX0_presell 14 = .ok (.goto 15, 3) := dk_167 0 15 (dk_at dksX0_presell_0 14 rfl rfl)
theorem dX0_presell_17 : decode cX0_presell 17 = .ok (.astore 6, 2) := dk_58 6 (dk_at dksX0_presell_0 17 rfl rfl)
theorem dX0_presell_19 : decode cX0_presell 19 = .ok (.iconst 1, 1) := dk_4 (dk_at dksX0_presell_0 19 rfl rfl)
theorem dX0_presell_20 : decode cX0_presell 20 = .ok (.ireturn, 1) := dk_172 (dk_at dksX0_presell_0 20 rfl rfl)
theorem dX0_presell_21 : decode cX0_presell 21 = .ok (.astore 6, 2) := dk_58 6 (dk_at dksX0_presell_0 21 rfl rfl)
theorem dX0_presell_23 : decode cX0_presell 23 = .ok (.iconst 2, 1) := dk_5 (dk_at dksX0_presell_0 23 rfl rfl)
theorem dX0_presell_24 : decode cX0_presell 24 = .ok (.ireturn, 1) := dk_172 (dk_at dksX0_presell_1 0 rfl rfl)
theorem dX0_presell_25 : decode cX0_presell 25 = .ok (.astore 6, 2) := dk_58 6 (dk_at dksX0_presell_1 1 rfl rfl)
theorem dX0_presell_27 : decode cX0_presell 27 = .ok (.iconst 3, 1) := dk_6 (dk_at dksX0_presell_1 3 rfl rfl)
theorem dX0_presell_28 : decode cX0_presell 28 = .ok (.ireturn, 1) := dk_172 (dk_at dksX0_presell_1 4 rfl rfl)
theorem dX0_presell_29 : decode cX0_presell 29 = .ok (.iconst 0, 1) := dk_3 (dk_at dksX0_presell_1 5 rfl rfl)
theorem dX0_presell_30 : decode cX0_presell 30 = .ok (.ireturn, 1) := dk_172 (dk_at dksX0_presell_1 6 rfl rfl)
abbrev cX0_undo : ByteArray := method_17_code
def yX0_undo : MethodName := ⟨RX0, "undo", "(LBloomclock;[J)I"⟩
def dkwX0_undo_0 : List UInt8 := [43, 3, 42, 182, 0, 63, 133, 80, 167, 0, 6, 77, 4, 172, 3, 172]
abbrev dktX0_undo_0 : List UInt8 := dkwX0_undo_0 ++ []
theorem dksX0_undo_0 : cX0_undo.data.toList.drop 0 = dktX0_undo_0 := by decide +kernel
theorem dX0_undo_0 : decode cX0_undo 0 = .ok (.aload_n 1, 1) := dk_43 (dk_at dksX0_undo_0 0 rfl rfl)
theorem dX0_undo_1 : decode cX0_undo 1 = .ok (.iconst 0, 1) := dk_3 (dk_at dksX0_undo_0 1 rfl rfl)
theorem dX0_undo_2 : decode cX0_undo 2 = .ok (.aload_n 0, 1) := dk_42 (dk_at dksX0_undo_0 2 rfl rfl)
theorem dX0_undo_3 : decode cX0_undo 3 = .ok (.invokevirtual 63, 3) := dk_182 0 63 (dk_at dksX0_undo_0 3 rfl rfl)
theorem dX0_undo_6 : decode cX0_undo 6 = .ok (.i2l, 1) := dk_133 (dk_at dksX0_undo_0 6 rfl rfl)
theorem dX0_undo_7 : decode cX0_undo 7 = .ok (.lastore, 1) := dk_80 (dk_at dksX0_undo_0 7 rfl rfl)
theorem dX0_undo_8 : decode cX0_undo 8 = .ok (.goto 6, 3) := dk_167 0 6 (dk_at dksX0_undo_0 8 rfl rfl)
theorem dX0_undo_11 : decode cX0_undo 11 = .ok (.astore_n 2, 1) := dk_77 (dk_at dksX0_undo_0 11 rfl rfl)
theorem dX0_undo_12 : decode cX0_undo 12 = .ok (.iconst 1, 1) := dk_4 (dk_at dksX0_undo_0 12 rfl rfl)
theorem dX0_undo_13 : decode cX0_undo 13 = .ok (.ireturn, 1) := dk_172 (dk_at dksX0_undo_0 13 rfl rfl)
theorem dX0_undo_14 : decode cX0_undo 14 = .ok (.iconst 0, 1) := dk_3 (dk_at dksX0_undo_0 14 rfl rfl)
theorem dX0_undo_15 : decode cX0_undo 15 = .ok (.ireturn, 1) := dk_172 (dk_at dksX0_undo_0 15 rfl rfl)
abbrev cX0_speed : ByteArray := method_18_code
def yX0_speed : MethodName := ⟨RX0, "speed", "(LBloomclock;I[J)I"⟩
def dkwX0_speed_0 : List UInt8 := [44, 3, 42, 27, 182, 0, 66, 133, 80, 167, 0, 6, 78, 4, 172, 3, 172]
abbrev dktX0_speed_0 : List UInt8 := dkwX0_speed_0 ++ []
theorem dksX0_speed_0 : cX0_speed.data.toList.drop 0 = dktX0_speed_0 := by decide +kernel
theorem dX0_speed_0 : decode cX0_speed 0 = .ok (.aload_n 2, 1) := dk_44 (dk_at dksX0_speed_0 0 rfl rfl)
theorem dX0_speed_1 : decode cX0_speed 1 = .ok (.iconst 0, 1) := dk_3 (dk_at dksX0_speed_0 1 rfl rfl)
theorem dX0_speed_2 : decode cX0_speed 2 = .ok (.aload_n 0, 1) := dk_42 (dk_at dksX0_speed_0 2 rfl rfl)
theorem dX0_speed_3 : decode cX0_speed 3 = .ok (.iload_n 1, 1) := dk_27 (dk_at dksX0_speed_0 3 rfl rfl)
theorem dX0_speed_4 : decode cX0_speed 4 = .ok (.invokevirtual 66, 3) := dk_182 0 66 (dk_at dksX0_speed_0 4 rfl rfl)
theorem dX0_speed_7 : decode cX0_speed 7 = .ok (.i2l, 1) := dk_133 (dk_at dksX0_speed_0 7 rfl rfl)
theorem dX0_speed_8 : decode cX0_speed 8 = .ok (.lastore, 1) := dk_80 (dk_at dksX0_speed_0 8 rfl rfl)
theorem dX0_speed_9 : decode cX0_speed 9 = .ok (.goto 6, 3) := dk_167 0 6 (dk_at dksX0_speed_0 9 rfl rfl)
theorem dX0_speed_12 : decode cX0_speed 12 = .ok (.astore_n 3, 1) := dk_78 (dk_at dksX0_speed_0 12 rfl rfl)
theorem dX0_speed_13 : decode cX0_speed 13 = .ok (.iconst 1, 1) := dk_4 (dk_at dksX0_speed_0 13 rfl rfl)
theorem dX0_speed_14 : decode cX0_speed 14 = .ok (.ireturn, 1) := dk_172 (dk_at dksX0_speed_0 14 rfl rfl)
theorem dX0_speed_15 : decode cX0_speed 15 = .ok (.iconst 0, 1) := dk_3 (dk_at dksX0_speed_0 15 rfl rfl)
theorem dX0_speed_16 : decode cX0_speed 16 = .ok (.ireturn, 1) := dk_172 (dk_at dksX0_speed_0 16 rfl rfl)
abbrev cX0_bind : ByteArray := method_19_code
def yX0_bind : MethodName := ⟨RX0, "bind", "(LBloomclock;II[J)I"⟩
def dkwX0_bind_0 : List UInt8 := [45, 3, 42, 27, 28, 182, 0, 69, 133, 80, 167, 0, 11, 58, 4, 4, 172, 58, 4, 5, 172, 3, 172]
abbrev dktX0_bind_0 : List UInt8 := dkwX0_bind_0 ++ []
theorem dksX0_bind_0 : cX0_bind.data.toList.drop 0 = dktX0_bind_0 := by decide +kernel
theorem dX0_bind_0 : decode cX0_bind 0 = .ok (.aload_n 3, 1) := dk_45 (dk_at dksX0_bind_0 0 rfl rfl)
theorem dX0_bind_1 : decode cX0_bind 1 = .ok (.iconst 0, 1) := dk_3 (dk_at dksX0_bind_0 1 rfl rfl)
theorem dX0_bind_2 : decode cX0_bind 2 = .ok (.aload_n 0, 1) := dk_42 (dk_at dksX0_bind_0 2 rfl rfl)
theorem dX0_bind_3 : decode cX0_bind 3 = .ok (.iload_n 1, 1) := dk_27 (dk_at dksX0_bind_0 3 rfl rfl)
theorem dX0_bind_4 : decode cX0_bind 4 = .ok (.iload_n 2, 1) := dk_28 (dk_at dksX0_bind_0 4 rfl rfl)
theorem dX0_bind_5 : decode cX0_bind 5 = .ok (.invokevirtual 69, 3) := dk_182 0 69 (dk_at dksX0_bind_0 5 rfl rfl)
theorem dX0_bind_8 : decode cX0_bind 8 = .ok (.i2l, 1) := dk_133 (dk_at dksX0_bind_0 8 rfl rfl)
theorem dX0_bind_9 : decode cX0_bind 9 = .ok (.lastore, 1) := dk_80 (dk_at dksX0_bind_0 9 rfl rfl)
theorem dX0_bind_10 : decode cX0_bind 10 = .ok (.goto 11, 3) := dk_167 0 11 (dk_at dksX0_bind_0 10 rfl rfl)
theorem dX0_bind_13 : decode cX0_bind 13 = .ok (.astore 4, 2) := dk_58 4 (dk_at dksX0_bind_0 13 rfl rfl)
theorem dX0_bind_15 : decode cX0_bind 15 = .ok (.iconst 1, 1) := dk_4 (dk_at dksX0_bind_0 15 rfl rfl)
theorem dX0_bind_16 : decode cX0_bind 16 = .ok (.ireturn, 1) := dk_172 (dk_at dksX0_bind_0 16 rfl rfl)
theorem dX0_bind_17 : decode cX0_bind 17 = .ok (.astore 4, 2) := dk_58 4 (dk_at dksX0_bind_0 17 rfl rfl)
theorem dX0_bind_19 : decode cX0_bind 19 = .ok (.iconst 2, 1) := dk_5 (dk_at dksX0_bind_0 19 rfl rfl)
theorem dX0_bind_20 : decode cX0_bind 20 = .ok (.ireturn, 1) := dk_172 (dk_at dksX0_bind_0 20 rfl rfl)
theorem dX0_bind_21 : decode cX0_bind 21 = .ok (.iconst 0, 1) := dk_3 (dk_at dksX0_bind_0 21 rfl rfl)
theorem dX0_bind_22 : decode cX0_bind 22 = .ok (.ireturn, 1) := dk_172 (dk_at dksX0_bind_0 22 rfl rfl)
abbrev cX0_back : ByteArray := method_20_code
def yX0_back : MethodName := ⟨RX0, "back", "(LBloomclock;II[J)I"⟩
def dkwX0_back_1 : List UInt8 := [172, 3, 172]
abbrev dktX0_back_1 : List UInt8 := dkwX0_back_1 ++ []
def dkwX0_back_0 : List UInt8 := [45, 3, 42, 27, 28, 182, 0, 72, 133, 80, 167, 0, 15, 58, 4, 4, 172, 58, 4, 5, 172, 58, 4, 6]
abbrev dktX0_back_0 : List UInt8 := dkwX0_back_0 ++ dktX0_back_1
theorem dksX0_back_0 : cX0_back.data.toList.drop 0 = dktX0_back_0 := by decide +kernel
theorem dksX0_back_1 : cX0_back.data.toList.drop 24 = dktX0_back_1 := dk_seg dksX0_back_0 24 rfl rfl
theorem dX0_back_0 : decode cX0_back 0 = .ok (.aload_n 3, 1) := dk_45 (dk_at dksX0_back_0 0 rfl rfl)
theorem dX0_back_1 : decode cX0_back 1 = .ok (.iconst 0, 1) := dk_3 (dk_at dksX0_back_0 1 rfl rfl)
theorem dX0_back_2 : decode cX0_back 2 = .ok (.aload_n 0, 1) := dk_42 (dk_at dksX0_back_0 2 rfl rfl)
theorem dX0_back_3 : decode cX0_back 3 = .ok (.iload_n 1, 1) := dk_27 (dk_at dksX0_back_0 3 rfl rfl)
theorem dX0_back_4 : decode cX0_back 4 = .ok (.iload_n 2, 1) := dk_28 (dk_at dksX0_back_0 4 rfl rfl)
theorem dX0_back_5 : decode cX0_back 5 = .ok (.invokevirtual 72, 3) := dk_182 0 72 (dk_at dksX0_back_0 5 rfl rfl)
theorem dX0_back_8 : decode cX0_back 8 = .ok (.i2l, 1) := dk_133 (dk_at dksX0_back_0 8 rfl rfl)
theorem dX0_back_9 : decode cX0_back 9 = .ok (.lastore, 1) := dk_80 (dk_at dksX0_back_0 9 rfl rfl)
theorem dX0_back_10 : decode cX0_back 10 = .ok (.goto 15, 3) := dk_167 0 15 (dk_at dksX0_back_0 10 rfl rfl)
theorem dX0_back_13 : decode cX0_back 13 = .ok (.astore 4, 2) := dk_58 4 (dk_at dksX0_back_0 13 rfl rfl)
theorem dX0_back_15 : decode cX0_back 15 = .ok (.iconst 1, 1) := dk_4 (dk_at dksX0_back_0 15 rfl rfl)
theorem dX0_back_16 : decode cX0_back 16 = .ok (.ireturn, 1) := dk_172 (dk_at dksX0_back_0 16 rfl rfl)
theorem dX0_back_17 : decode cX0_back 17 = .ok (.astore 4, 2) := dk_58 4 (dk_at dksX0_back_0 17 rfl rfl)
theorem dX0_back_19 : decode cX0_back 19 = .ok (.iconst 2, 1) := dk_5 (dk_at dksX0_back_0 19 rfl rfl)
theorem dX0_back_20 : decode cX0_back 20 = .ok (.ireturn, 1) := dk_172 (dk_at dksX0_back_0 20 rfl rfl)
theorem dX0_back_21 : decode cX0_back 21 = .ok (.astore 4, 2) := dk_58 4 (dk_at dksX0_back_0 21 rfl rfl)
theorem dX0_back_23 : decode cX0_back 23 = .ok (.iconst 3, 1) := dk_6 (dk_at dksX0_back_0 23 rfl rfl)
theorem dX0_back_24 : decode cX0_back 24 = .ok (.ireturn, 1) := dk_172 (dk_at dksX0_back_1 0 rfl rfl)
theorem dX0_back_25 : decode cX0_back 25 = .ok (.iconst 0, 1) := dk_3 (dk_at dksX0_back_1 1 rfl rfl)
theorem dX0_back_26 : decode cX0_back 26 = .ok (.ireturn, 1) := dk_172 (dk_at dksX0_back_1 2 rfl rfl)
abbrev cX0_clear : ByteArray := method_21_code
def yX0_clear : MethodName := ⟨RX0, "clear", "(LBloomclock;IZ[J)I"⟩
def dkwX0_clear_0 : List UInt8 := [45, 3, 42, 27, 28, 182, 0, 75, 133, 80, 167, 0, 11, 58, 4, 4, 172, 58, 4, 5, 172, 3, 172]
abbrev dktX0_clear_0 : List UInt8 := dkwX0_clear_0 ++ []
theorem dksX0_clear_0 : cX0_clear.data.toList.drop 0 = dktX0_clear_0 := by decide +kernel
theorem dX0_clear_0 : decode cX0_clear 0 = .ok (.aload_n 3, 1) := dk_45 (dk_at dksX0_clear_0 0 rfl rfl)
theorem dX0_clear_1 : decode cX0_clear 1 = .ok (.iconst 0, 1) := dk_3 (dk_at dksX0_clear_0 1 rfl rfl)
theorem dX0_clear_2 : decode cX0_clear 2 = .ok (.aload_n 0, 1) := dk_42 (dk_at dksX0_clear_0 2 rfl rfl)
theorem dX0_clear_3 : decode cX0_clear 3 = .ok (.iload_n 1, 1) := dk_27 (dk_at dksX0_clear_0 3 rfl rfl)
theorem dX0_clear_4 : decode cX0_clear 4 = .ok (.iload_n 2, 1) := dk_28 (dk_at dksX0_clear_0 4 rfl rfl)
theorem dX0_clear_5 : decode cX0_clear 5 = .ok (.invokevirtual 75, 3) := dk_182 0 75 (dk_at dksX0_clear_0 5 rfl rfl)
theorem dX0_clear_8 : decode cX0_clear 8 = .ok (.i2l, 1) := dk_133 (dk_at dksX0_clear_0 8 rfl rfl)
theorem dX0_clear_9 : decode cX0_clear 9 = .ok (.lastore, 1) := dk_80 (dk_at dksX0_clear_0 9 rfl rfl)
theorem dX0_clear_10 : decode cX0_clear 10 = .ok (.goto 11, 3) := dk_167 0 11 (dk_at dksX0_clear_0 10 rfl rfl)
theorem dX0_clear_13 : decode cX0_clear 13 = .ok (.astore 4, 2) := dk_58 4 (dk_at dksX0_clear_0 13 rfl rfl)
theorem dX0_clear_15 : decode cX0_clear 15 = .ok (.iconst 1, 1) := dk_4 (dk_at dksX0_clear_0 15 rfl rfl)
theorem dX0_clear_16 : decode cX0_clear 16 = .ok (.ireturn, 1) := dk_172 (dk_at dksX0_clear_0 16 rfl rfl)
theorem dX0_clear_17 : decode cX0_clear 17 = .ok (.astore 4, 2) := dk_58 4 (dk_at dksX0_clear_0 17 rfl rfl)
theorem dX0_clear_19 : decode cX0_clear 19 = .ok (.iconst 2, 1) := dk_5 (dk_at dksX0_clear_0 19 rfl rfl)
theorem dX0_clear_20 : decode cX0_clear 20 = .ok (.ireturn, 1) := dk_172 (dk_at dksX0_clear_0 20 rfl rfl)
theorem dX0_clear_21 : decode cX0_clear 21 = .ok (.iconst 0, 1) := dk_3 (dk_at dksX0_clear_0 21 rfl rfl)
theorem dX0_clear_22 : decode cX0_clear 22 = .ok (.ireturn, 1) := dk_172 (dk_at dksX0_clear_0 22 rfl rfl)
abbrev cX0_vote : ByteArray := method_22_code
def yX0_vote : MethodName := ⟨RX0, "vote", "(LBloomclock;II[J)I"⟩
def dkwX0_vote_0 : List UInt8 := [45, 3, 42, 27, 28, 182, 0, 79, 133, 80, 167, 0, 11, 58, 4, 4, 172, 58, 4, 5, 172, 3, 172]
abbrev dktX0_vote_0 : List UInt8 := dkwX0_vote_0 ++ []
theorem dksX0_vote_0 : cX0_vote.data.toList.drop 0 = dktX0_vote_0 := by decide +kernel
theorem dX0_vote_0 : decode cX0_vote 0 = .ok (.aload_n 3, 1) := dk_45 (dk_at dksX0_vote_0 0 rfl rfl)
theorem dX0_vote_1 : decode cX0_vote 1 = .ok (.iconst 0, 1) := dk_3 (dk_at dksX0_vote_0 1 rfl rfl)
theorem dX0_vote_2 : decode cX0_vote 2 = .ok (.aload_n 0, 1) := dk_42 (dk_at dksX0_vote_0 2 rfl rfl)
theorem dX0_vote_3 : decode cX0_vote 3 = .ok (.iload_n 1, 1) := dk_27 (dk_at dksX0_vote_0 3 rfl rfl)
theorem dX0_vote_4 : decode cX0_vote 4 = .ok (.iload_n 2, 1) := dk_28 (dk_at dksX0_vote_0 4 rfl rfl)
theorem dX0_vote_5 : decode cX0_vote 5 = .ok (.invokevirtual 79, 3) := dk_182 0 79 (dk_at dksX0_vote_0 5 rfl rfl)
theorem dX0_vote_8 : decode cX0_vote 8 = .ok (.i2l, 1) := dk_133 (dk_at dksX0_vote_0 8 rfl rfl)
theorem dX0_vote_9 : decode cX0_vote 9 = .ok (.lastore, 1) := dk_80 (dk_at dksX0_vote_0 9 rfl rfl)
theorem dX0_vote_10 : decode cX0_vote 10 = .ok (.goto 11, 3) := dk_167 0 11 (dk_at dksX0_vote_0 10 rfl rfl)
theorem dX0_vote_13 : decode cX0_vote 13 = .ok (.astore 4, 2) := dk_58 4 (dk_at dksX0_vote_0 13 rfl rfl)
theorem dX0_vote_15 : decode cX0_vote 15 = .ok (.iconst 1, 1) := dk_4 (dk_at dksX0_vote_0 15 rfl rfl)
theorem dX0_vote_16 : decode cX0_vote 16 = .ok (.ireturn, 1) := dk_172 (dk_at dksX0_vote_0 16 rfl rfl)
theorem dX0_vote_17 : decode cX0_vote 17 = .ok (.astore 4, 2) := dk_58 4 (dk_at dksX0_vote_0 17 rfl rfl)
theorem dX0_vote_19 : decode cX0_vote 19 = .ok (.iconst 2, 1) := dk_5 (dk_at dksX0_vote_0 19 rfl rfl)
theorem dX0_vote_20 : decode cX0_vote 20 = .ok (.ireturn, 1) := dk_172 (dk_at dksX0_vote_0 20 rfl rfl)
theorem dX0_vote_21 : decode cX0_vote 21 = .ok (.iconst 0, 1) := dk_3 (dk_at dksX0_vote_0 21 rfl rfl)
theorem dX0_vote_22 : decode cX0_vote 22 = .ok (.ireturn, 1) := dk_172 (dk_at dksX0_vote_0 22 rfl rfl)
abbrev cX0_ofCrop : ByteArray := method_23_code
def yX0_ofCrop : MethodName := ⟨RX0, "ofCrop", "(LBloomclock;II[J)I"⟩
def dkwX0_ofCrop_0 : List UInt8 := [45, 3, 42, 27, 28, 182, 0, 82, 133, 80, 167, 0, 11, 58, 4, 4, 172, 58, 4, 5, 172, 3, 172]
abbrev dktX0_ofCrop_0 : List UInt8 := dkwX0_ofCrop_0 ++ []
theorem dksX0_ofCrop_0 : cX0_ofCrop.data.toList.drop 0 = dktX0_ofCrop_0 := by decide +kernel
theorem dX0_ofCrop_0 : decode cX0_ofCrop 0 = .ok (.aload_n 3, 1) := dk_45 (dk_at dksX0_ofCrop_0 0 rfl rfl)
theorem dX0_ofCrop_1 : decode cX0_ofCrop 1 = .ok (.iconst 0, 1) := dk_3 (dk_at dksX0_ofCrop_0 1 rfl rfl)
theorem dX0_ofCrop_2 : decode cX0_ofCrop 2 = .ok (.aload_n 0, 1) := dk_42 (dk_at dksX0_ofCrop_0 2 rfl rfl)
theorem dX0_ofCrop_3 : decode cX0_ofCrop 3 = .ok (.iload_n 1, 1) := dk_27 (dk_at dksX0_ofCrop_0 3 rfl rfl)
theorem dX0_ofCrop_4 : decode cX0_ofCrop 4 = .ok (.iload_n 2, 1) := dk_28 (dk_at dksX0_ofCrop_0 4 rfl rfl)
theorem dX0_ofCrop_5 : decode cX0_ofCrop 5 = .ok (.invokevirtual 82, 3) := dk_182 0 82 (dk_at dksX0_ofCrop_0 5 rfl rfl)
theorem dX0_ofCrop_8 : decode cX0_ofCrop 8 = .ok (.i2l, 1) := dk_133 (dk_at dksX0_ofCrop_0 8 rfl rfl)
theorem dX0_ofCrop_9 : decode cX0_ofCrop 9 = .ok (.lastore, 1) := dk_80 (dk_at dksX0_ofCrop_0 9 rfl rfl)
theorem dX0_ofCrop_10 : decode cX0_ofCrop 10 = .ok (.goto 11, 3) := dk_167 0 11 (dk_at dksX0_ofCrop_0 10 rfl rfl)
theorem dX0_ofCrop_13 : decode cX0_ofCrop 13 = .ok (.astore 4, 2) := dk_58 4 (dk_at dksX0_ofCrop_0 13 rfl rfl)
theorem dX0_ofCrop_15 : decode cX0_ofCrop 15 = .ok (.iconst 1, 1) := dk_4 (dk_at dksX0_ofCrop_0 15 rfl rfl)
theorem dX0_ofCrop_16 : decode cX0_ofCrop 16 = .ok (.ireturn, 1) := dk_172 (dk_at dksX0_ofCrop_0 16 rfl rfl)
theorem dX0_ofCrop_17 : decode cX0_ofCrop 17 = .ok (.astore 4, 2) := dk_58 4 (dk_at dksX0_ofCrop_0 17 rfl rfl)
theorem dX0_ofCrop_19 : decode cX0_ofCrop 19 = .ok (.iconst 2, 1) := dk_5 (dk_at dksX0_ofCrop_0 19 rfl rfl)
theorem dX0_ofCrop_20 : decode cX0_ofCrop 20 = .ok (.ireturn, 1) := dk_172 (dk_at dksX0_ofCrop_0 20 rfl rfl)
theorem dX0_ofCrop_21 : decode cX0_ofCrop 21 = .ok (.iconst 0, 1) := dk_3 (dk_at dksX0_ofCrop_0 21 rfl rfl)
theorem dX0_ofCrop_22 : decode cX0_ofCrop 22 = .ok (.ireturn, 1) := dk_172 (dk_at dksX0_ofCrop_0 22 rfl rfl)
abbrev cX0_ofLot : ByteArray := method_24_code
def yX0_ofLot : MethodName := ⟨RX0, "ofLot", "(LBloomclock;II[J)I"⟩
def dkwX0_ofLot_0 : List UInt8 := [45, 3, 42, 27, 28, 182, 0, 85, 133, 80, 167, 0, 11, 58, 4, 4, 172, 58, 4, 5, 172, 3, 172]
abbrev dktX0_ofLot_0 : List UInt8 := dkwX0_ofLot_0 ++ []
theorem dksX0_ofLot_0 : cX0_ofLot.data.toList.drop 0 = dktX0_ofLot_0 := by decide +kernel
theorem dX0_ofLot_0 : decode cX0_ofLot 0 = .ok (.aload_n 3, 1) := dk_45 (dk_at dksX0_ofLot_0 0 rfl rfl)
theorem dX0_ofLot_1 : decode cX0_ofLot 1 = .ok (.iconst 0, 1) := dk_3 (dk_at dksX0_ofLot_0 1 rfl rfl)
theorem dX0_ofLot_2 : decode cX0_ofLot 2 = .ok (.aload_n 0, 1) := dk_42 (dk_at dksX0_ofLot_0 2 rfl rfl)
theorem dX0_ofLot_3 : decode cX0_ofLot 3 = .ok (.iload_n 1, 1) := dk_27 (dk_at dksX0_ofLot_0 3 rfl rfl)
theorem dX0_ofLot_4 : decode cX0_ofLot 4 = .ok (.iload_n 2, 1) := dk_28 (dk_at dksX0_ofLot_0 4 rfl rfl)
theorem dX0_ofLot_5 : decode cX0_ofLot 5 = .ok (.invokevirtual 85, 3) := dk_182 0 85 (dk_at dksX0_ofLot_0 5 rfl rfl)
theorem dX0_ofLot_8 : decode cX0_ofLot 8 = .ok (.i2l, 1) := dk_133 (dk_at dksX0_ofLot_0 8 rfl rfl)
theorem dX0_ofLot_9 : decode cX0_ofLot 9 = .ok (.lastore, 1) := dk_80 (dk_at dksX0_ofLot_0 9 rfl rfl)
theorem dX0_ofLot_10 : decode cX0_ofLot 10 = .ok (.goto 11, 3) := dk_167 0 11 (dk_at dksX0_ofLot_0 10 rfl rfl)
theorem dX0_ofLot_13 : decode cX0_ofLot 13 = .ok (.astore 4, 2) := dk_58 4 (dk_at dksX0_ofLot_0 13 rfl rfl)
theorem dX0_ofLot_15 : decode cX0_ofLot 15 = .ok (.iconst 1, 1) := dk_4 (dk_at dksX0_ofLot_0 15 rfl rfl)
theorem dX0_ofLot_16 : decode cX0_ofLot 16 = .ok (.ireturn, 1) := dk_172 (dk_at dksX0_ofLot_0 16 rfl rfl)
theorem dX0_ofLot_17 : decode cX0_ofLot 17 = .ok (.astore 4, 2) := dk_58 4 (dk_at dksX0_ofLot_0 17 rfl rfl)
theorem dX0_ofLot_19 : decode cX0_ofLot 19 = .ok (.iconst 2, 1) := dk_5 (dk_at dksX0_ofLot_0 19 rfl rfl)
theorem dX0_ofLot_20 : decode cX0_ofLot 20 = .ok (.ireturn, 1) := dk_172 (dk_at dksX0_ofLot_0 20 rfl rfl)
theorem dX0_ofLot_21 : decode cX0_ofLot 21 = .ok (.iconst 0, 1) := dk_3 (dk_at dksX0_ofLot_0 21 rfl rfl)
theorem dX0_ofLot_22 : decode cX0_ofLot 22 = .ok (.ireturn, 1) := dk_172 (dk_at dksX0_ofLot_0 22 rfl rfl)
abbrev cX0_ofGrower : ByteArray := method_25_code
def yX0_ofGrower : MethodName := ⟨RX0, "ofGrower", "(LBloomclock;II[J)I"⟩
def dkwX0_ofGrower_0 : List UInt8 := [45, 3, 42, 27, 28, 182, 0, 88, 133, 80, 167, 0, 11, 58, 4, 4, 172, 58, 4, 5, 172, 3, 172]
abbrev dktX0_ofGrower_0 : List UInt8 := dkwX0_ofGrower_0 ++ []
theorem dksX0_ofGrower_0 : cX0_ofGrower.data.toList.drop 0 = dktX0_ofGrower_0 := by decide +kernel
theorem dX0_ofGrower_0 : decode cX0_ofGrower 0 = .ok (.aload_n 3, 1) := dk_45 (dk_at dksX0_ofGrower_0 0 rfl rfl)
theorem dX0_ofGrower_1 : decode cX0_ofGrower 1 = .ok (.iconst 0, 1) := dk_3 (dk_at dksX0_ofGrower_0 1 rfl rfl)
theorem dX0_ofGrower_2 : decode cX0_ofGrower 2 = .ok (.aload_n 0, 1) := dk_42 (dk_at dksX0_ofGrower_0 2 rfl rfl)
theorem dX0_ofGrower_3 : decode cX0_ofGrower 3 = .ok (.iload_n 1, 1) := dk_27 (dk_at dksX0_ofGrower_0 3 rfl rfl)
theorem dX0_ofGrower_4 : decode cX0_ofGrower 4 = .ok (.iload_n 2, 1) := dk_28 (dk_at dksX0_ofGrower_0 4 rfl rfl)
theorem dX0_ofGrower_5 : decode cX0_ofGrower 5 = .ok (.invokevirtual 88, 3) := dk_182 0 88 (dk_at dksX0_ofGrower_0 5 rfl rfl)
theorem dX0_ofGrower_8 : decode cX0_ofGrower 8 = .ok (.i2l, 1) := dk_133 (dk_at dksX0_ofGrower_0 8 rfl rfl)
theorem dX0_ofGrower_9 : decode cX0_ofGrower 9 = .ok (.lastore, 1) := dk_80 (dk_at dksX0_ofGrower_0 9 rfl rfl)
theorem dX0_ofGrower_10 : decode cX0_ofGrower 10 = .ok (.goto 11, 3) := dk_167 0 11 (dk_at dksX0_ofGrower_0 10 rfl rfl)
theorem dX0_ofGrower_13 : decode cX0_ofGrower 13 = .ok (.astore 4, 2) := dk_58 4 (dk_at dksX0_ofGrower_0 13 rfl rfl)
theorem dX0_ofGrower_15 : decode cX0_ofGrower 15 = .ok (.iconst 1, 1) := dk_4 (dk_at dksX0_ofGrower_0 15 rfl rfl)
theorem dX0_ofGrower_16 : decode cX0_ofGrower 16 = .ok (.ireturn, 1) := dk_172 (dk_at dksX0_ofGrower_0 16 rfl rfl)
theorem dX0_ofGrower_17 : decode cX0_ofGrower 17 = .ok (.astore 4, 2) := dk_58 4 (dk_at dksX0_ofGrower_0 17 rfl rfl)
theorem dX0_ofGrower_19 : decode cX0_ofGrower 19 = .ok (.iconst 2, 1) := dk_5 (dk_at dksX0_ofGrower_0 19 rfl rfl)
theorem dX0_ofGrower_20 : decode cX0_ofGrower 20 = .ok (.ireturn, 1) := dk_172 (dk_at dksX0_ofGrower_0 20 rfl rfl)
theorem dX0_ofGrower_21 : decode cX0_ofGrower 21 = .ok (.iconst 0, 1) := dk_3 (dk_at dksX0_ofGrower_0 21 rfl rfl)
theorem dX0_ofGrower_22 : decode cX0_ofGrower 22 = .ok (.ireturn, 1) := dk_172 (dk_at dksX0_ofGrower_0 22 rfl rfl)
abbrev cX0_ofBuyer : ByteArray := method_26_code
def yX0_ofBuyer : MethodName := ⟨RX0, "ofBuyer", "(LBloomclock;II[J)I"⟩
def dkwX0_ofBuyer_0 : List UInt8 := [45, 3, 42, 27, 28, 182, 0, 91, 133, 80, 167, 0, 11, 58, 4, 4, 172, 58, 4, 5, 172, 3, 172]
abbrev dktX0_ofBuyer_0 : List UInt8 := dkwX0_ofBuyer_0 ++ []
theorem dksX0_ofBuyer_0 : cX0_ofBuyer.data.toList.drop 0 = dktX0_ofBuyer_0 := by decide +kernel
theorem dX0_ofBuyer_0 : decode cX0_ofBuyer 0 = .ok (.aload_n 3, 1) := dk_45 (dk_at dksX0_ofBuyer_0 0 rfl rfl)
theorem dX0_ofBuyer_1 : decode cX0_ofBuyer 1 = .ok (.iconst 0, 1) := dk_3 (dk_at dksX0_ofBuyer_0 1 rfl rfl)
theorem dX0_ofBuyer_2 : decode cX0_ofBuyer 2 = .ok (.aload_n 0, 1) := dk_42 (dk_at dksX0_ofBuyer_0 2 rfl rfl)
theorem dX0_ofBuyer_3 : decode cX0_ofBuyer 3 = .ok (.iload_n 1, 1) := dk_27 (dk_at dksX0_ofBuyer_0 3 rfl rfl)
theorem dX0_ofBuyer_4 : decode cX0_ofBuyer 4 = .ok (.iload_n 2, 1) := dk_28 (dk_at dksX0_ofBuyer_0 4 rfl rfl)
theorem dX0_ofBuyer_5 : decode cX0_ofBuyer 5 = .ok (.invokevirtual 91, 3) := dk_182 0 91 (dk_at dksX0_ofBuyer_0 5 rfl rfl)
theorem dX0_ofBuyer_8 : decode cX0_ofBuyer 8 = .ok (.i2l, 1) := dk_133 (dk_at dksX0_ofBuyer_0 8 rfl rfl)
theorem dX0_ofBuyer_9 : decode cX0_ofBuyer 9 = .ok (.lastore, 1) := dk_80 (dk_at dksX0_ofBuyer_0 9 rfl rfl)
theorem dX0_ofBuyer_10 : decode cX0_ofBuyer 10 = .ok (.goto 11, 3) := dk_167 0 11 (dk_at dksX0_ofBuyer_0 10 rfl rfl)
theorem dX0_ofBuyer_13 : decode cX0_ofBuyer 13 = .ok (.astore 4, 2) := dk_58 4 (dk_at dksX0_ofBuyer_0 13 rfl rfl)
theorem dX0_ofBuyer_15 : decode cX0_ofBuyer 15 = .ok (.iconst 1, 1) := dk_4 (dk_at dksX0_ofBuyer_0 15 rfl rfl)
theorem dX0_ofBuyer_16 : decode cX0_ofBuyer 16 = .ok (.ireturn, 1) := dk_172 (dk_at dksX0_ofBuyer_0 16 rfl rfl)
theorem dX0_ofBuyer_17 : decode cX0_ofBuyer 17 = .ok (.astore 4, 2) := dk_58 4 (dk_at dksX0_ofBuyer_0 17 rfl rfl)
theorem dX0_ofBuyer_19 : decode cX0_ofBuyer 19 = .ok (.iconst 2, 1) := dk_5 (dk_at dksX0_ofBuyer_0 19 rfl rfl)
theorem dX0_ofBuyer_20 : decode cX0_ofBuyer 20 = .ok (.ireturn, 1) := dk_172 (dk_at dksX0_ofBuyer_0 20 rfl rfl)
theorem dX0_ofBuyer_21 : decode cX0_ofBuyer 21 = .ok (.iconst 0, 1) := dk_3 (dk_at dksX0_ofBuyer_0 21 rfl rfl)
theorem dX0_ofBuyer_22 : decode cX0_ofBuyer 22 = .ok (.ireturn, 1) := dk_172 (dk_at dksX0_ofBuyer_0 22 rfl rfl)
abbrev cX0_wants : ByteArray := method_27_code
def yX0_wants : MethodName := ⟨RX0, "wants", "(LBloomclock;I[J)I"⟩
def dkwX0_wants_0 : List UInt8 := [44, 3, 42, 27, 182, 0, 94, 133, 80, 167, 0, 6, 78, 4, 172, 3, 172]
abbrev dktX0_wants_0 : List UInt8 := dkwX0_wants_0 ++ []
theorem dksX0_wants_0 : cX0_wants.data.toList.drop 0 = dktX0_wants_0 := by decide +kernel
theorem dX0_wants_0 : decode cX0_wants 0 = .ok (.aload_n 2, 1) := dk_44 (dk_at dksX0_wants_0 0 rfl rfl)
theorem dX0_wants_1 : decode cX0_wants 1 = .ok (.iconst 0, 1) := dk_3 (dk_at dksX0_wants_0 1 rfl rfl)
theorem dX0_wants_2 : decode cX0_wants 2 = .ok (.aload_n 0, 1) := dk_42 (dk_at dksX0_wants_0 2 rfl rfl)
theorem dX0_wants_3 : decode cX0_wants 3 = .ok (.iload_n 1, 1) := dk_27 (dk_at dksX0_wants_0 3 rfl rfl)
theorem dX0_wants_4 : decode cX0_wants 4 = .ok (.invokevirtual 94, 3) := dk_182 0 94 (dk_at dksX0_wants_0 4 rfl rfl)
theorem dX0_wants_7 : decode cX0_wants 7 = .ok (.i2l, 1) := dk_133 (dk_at dksX0_wants_0 7 rfl rfl)
theorem dX0_wants_8 : decode cX0_wants 8 = .ok (.lastore, 1) := dk_80 (dk_at dksX0_wants_0 8 rfl rfl)
theorem dX0_wants_9 : decode cX0_wants 9 = .ok (.goto 6, 3) := dk_167 0 6 (dk_at dksX0_wants_0 9 rfl rfl)
theorem dX0_wants_12 : decode cX0_wants 12 = .ok (.astore_n 3, 1) := dk_78 (dk_at dksX0_wants_0 12 rfl rfl)
theorem dX0_wants_13 : decode cX0_wants 13 = .ok (.iconst 1, 1) := dk_4 (dk_at dksX0_wants_0 13 rfl rfl)
theorem dX0_wants_14 : decode cX0_wants 14 = .ok (.ireturn, 1) := dk_172 (dk_at dksX0_wants_0 14 rfl rfl)
theorem dX0_wants_15 : decode cX0_wants 15 = .ok (.iconst 0, 1) := dk_3 (dk_at dksX0_wants_0 15 rfl rfl)
theorem dX0_wants_16 : decode cX0_wants 16 = .ok (.ireturn, 1) := dk_172 (dk_at dksX0_wants_0 16 rfl rfl)
abbrev cX0_sale : ByteArray := method_28_code
def yX0_sale : MethodName := ⟨RX0, "sale", "(LBloomclock;II[J)I"⟩
def dkwX0_sale_0 : List UInt8 := [45, 3, 42, 27, 28, 182, 0, 97, 133, 80, 167, 0, 11, 58, 4, 4, 172, 58, 4, 5, 172, 3, 172]
abbrev dktX0_sale_0 : List UInt8 := dkwX0_sale_0 ++ []
theorem dksX0_sale_0 : cX0_sale.data.toList.drop 0 = dktX0_sale_0 := by decide +kernel
theorem dX0_sale_0 : decode cX0_sale 0 = .ok (.aload_n 3, 1) := dk_45 (dk_at dksX0_sale_0 0 rfl rfl)
theorem dX0_sale_1 : decode cX0_sale 1 = .ok (.iconst 0, 1) := dk_3 (dk_at dksX0_sale_0 1 rfl rfl)
theorem dX0_sale_2 : decode cX0_sale 2 = .ok (.aload_n 0, 1) := dk_42 (dk_at dksX0_sale_0 2 rfl rfl)
theorem dX0_sale_3 : decode cX0_sale 3 = .ok (.iload_n 1, 1) := dk_27 (dk_at dksX0_sale_0 3 rfl rfl)
theorem dX0_sale_4 : decode cX0_sale 4 = .ok (.iload_n 2, 1) := dk_28 (dk_at dksX0_sale_0 4 rfl rfl)
theorem dX0_sale_5 : decode cX0_sale 5 = .ok (.invokevirtual 97, 3) := dk_182 0 97 (dk_at dksX0_sale_0 5 rfl rfl)
theorem dX0_sale_8 : decode cX0_sale 8 = .ok (.i2l, 1) := dk_133 (dk_at dksX0_sale_0 8 rfl rfl)
theorem dX0_sale_9 : decode cX0_sale 9 = .ok (.lastore, 1) := dk_80 (dk_at dksX0_sale_0 9 rfl rfl)
theorem dX0_sale_10 : decode cX0_sale 10 = .ok (.goto 11, 3) := dk_167 0 11 (dk_at dksX0_sale_0 10 rfl rfl)
theorem dX0_sale_13 : decode cX0_sale 13 = .ok (.astore 4, 2) := dk_58 4 (dk_at dksX0_sale_0 13 rfl rfl)
theorem dX0_sale_15 : decode cX0_sale 15 = .ok (.iconst 1, 1) := dk_4 (dk_at dksX0_sale_0 15 rfl rfl)
theorem dX0_sale_16 : decode cX0_sale 16 = .ok (.ireturn, 1) := dk_172 (dk_at dksX0_sale_0 16 rfl rfl)
theorem dX0_sale_17 : decode cX0_sale 17 = .ok (.astore 4, 2) := dk_58 4 (dk_at dksX0_sale_0 17 rfl rfl)
theorem dX0_sale_19 : decode cX0_sale 19 = .ok (.iconst 2, 1) := dk_5 (dk_at dksX0_sale_0 19 rfl rfl)
theorem dX0_sale_20 : decode cX0_sale 20 = .ok (.ireturn, 1) := dk_172 (dk_at dksX0_sale_0 20 rfl rfl)
theorem dX0_sale_21 : decode cX0_sale 21 = .ok (.iconst 0, 1) := dk_3 (dk_at dksX0_sale_0 21 rfl rfl)
theorem dX0_sale_22 : decode cX0_sale 22 = .ok (.ireturn, 1) := dk_172 (dk_at dksX0_sale_0 22 rfl rfl)
abbrev cX0_row : ByteArray := method_29_code
def yX0_row : MethodName := ⟨RX0, "row", "(LBloomclock;I[J)I"⟩
def dkwX0_row_0 : List UInt8 := [44, 3, 42, 27, 182, 0, 100, 133, 80, 167, 0, 6, 78, 4, 172, 3, 172]
abbrev dktX0_row_0 : List UInt8 := dkwX0_row_0 ++ []
theorem dksX0_row_0 : cX0_row.data.toList.drop 0 = dktX0_row_0 := by decide +kernel
theorem dX0_row_0 : decode cX0_row 0 = .ok (.aload_n 2, 1) := dk_44 (dk_at dksX0_row_0 0 rfl rfl)
theorem dX0_row_1 : decode cX0_row 1 = .ok (.iconst 0, 1) := dk_3 (dk_at dksX0_row_0 1 rfl rfl)
theorem dX0_row_2 : decode cX0_row 2 = .ok (.aload_n 0, 1) := dk_42 (dk_at dksX0_row_0 2 rfl rfl)
theorem dX0_row_3 : decode cX0_row 3 = .ok (.iload_n 1, 1) := dk_27 (dk_at dksX0_row_0 3 rfl rfl)
theorem dX0_row_4 : decode cX0_row 4 = .ok (.invokevirtual 100, 3) := dk_182 0 100 (dk_at dksX0_row_0 4 rfl rfl)
theorem dX0_row_7 : decode cX0_row 7 = .ok (.i2l, 1) := dk_133 (dk_at dksX0_row_0 7 rfl rfl)
theorem dX0_row_8 : decode cX0_row 8 = .ok (.lastore, 1) := dk_80 (dk_at dksX0_row_0 8 rfl rfl)
theorem dX0_row_9 : decode cX0_row 9 = .ok (.goto 6, 3) := dk_167 0 6 (dk_at dksX0_row_0 9 rfl rfl)
theorem dX0_row_12 : decode cX0_row 12 = .ok (.astore_n 3, 1) := dk_78 (dk_at dksX0_row_0 12 rfl rfl)
theorem dX0_row_13 : decode cX0_row 13 = .ok (.iconst 1, 1) := dk_4 (dk_at dksX0_row_0 13 rfl rfl)
theorem dX0_row_14 : decode cX0_row 14 = .ok (.ireturn, 1) := dk_172 (dk_at dksX0_row_0 14 rfl rfl)
theorem dX0_row_15 : decode cX0_row 15 = .ok (.iconst 0, 1) := dk_3 (dk_at dksX0_row_0 15 rfl rfl)
theorem dX0_row_16 : decode cX0_row 16 = .ok (.ireturn, 1) := dk_172 (dk_at dksX0_row_0 16 rfl rfl)
abbrev cX0_many : ByteArray := method_30_code
def yX0_many : MethodName := ⟨RX0, "many", "(LBloomclock;I[J)I"⟩
def dkwX0_many_0 : List UInt8 := [44, 3, 42, 27, 182, 0, 103, 133, 80, 167, 0, 6, 78, 4, 172, 3, 172]
abbrev dktX0_many_0 : List UInt8 := dkwX0_many_0 ++ []
theorem dksX0_many_0 : cX0_many.data.toList.drop 0 = dktX0_many_0 := by decide +kernel
theorem dX0_many_0 : decode cX0_many 0 = .ok (.aload_n 2, 1) := dk_44 (dk_at dksX0_many_0 0 rfl rfl)
theorem dX0_many_1 : decode cX0_many 1 = .ok (.iconst 0, 1) := dk_3 (dk_at dksX0_many_0 1 rfl rfl)
theorem dX0_many_2 : decode cX0_many 2 = .ok (.aload_n 0, 1) := dk_42 (dk_at dksX0_many_0 2 rfl rfl)
theorem dX0_many_3 : decode cX0_many 3 = .ok (.iload_n 1, 1) := dk_27 (dk_at dksX0_many_0 3 rfl rfl)
theorem dX0_many_4 : decode cX0_many 4 = .ok (.invokevirtual 103, 3) := dk_182 0 103 (dk_at dksX0_many_0 4 rfl rfl)
theorem dX0_many_7 : decode cX0_many 7 = .ok (.i2l, 1) := dk_133 (dk_at dksX0_many_0 7 rfl rfl)
theorem dX0_many_8 : decode cX0_many 8 = .ok (.lastore, 1) := dk_80 (dk_at dksX0_many_0 8 rfl rfl)
theorem dX0_many_9 : decode cX0_many 9 = .ok (.goto 6, 3) := dk_167 0 6 (dk_at dksX0_many_0 9 rfl rfl)
theorem dX0_many_12 : decode cX0_many 12 = .ok (.astore_n 3, 1) := dk_78 (dk_at dksX0_many_0 12 rfl rfl)
theorem dX0_many_13 : decode cX0_many 13 = .ok (.iconst 1, 1) := dk_4 (dk_at dksX0_many_0 13 rfl rfl)
theorem dX0_many_14 : decode cX0_many 14 = .ok (.ireturn, 1) := dk_172 (dk_at dksX0_many_0 14 rfl rfl)
theorem dX0_many_15 : decode cX0_many 15 = .ok (.iconst 0, 1) := dk_3 (dk_at dksX0_many_0 15 rfl rfl)
theorem dX0_many_16 : decode cX0_many 16 = .ok (.ireturn, 1) := dk_172 (dk_at dksX0_many_0 16 rfl rfl)
abbrev cX0_wouldFetch : ByteArray := method_31_code
def yX0_wouldFetch : MethodName := ⟨RX0, "wouldFetch", "(LBloomclock;I[J)I"⟩
def dkwX0_wouldFetch_0 : List UInt8 := [44, 3, 42, 27, 182, 0, 106, 133, 80, 167, 0, 6, 78, 4, 172, 3, 172]
abbrev dktX0_wouldFetch_0 : List UInt8 := dkwX0_wouldFetch_0 ++ []
theorem dksX0_wouldFetch_0 : cX0_wouldFetch.data.toList.drop 0 = dktX0_wouldFetch_0 := by decide +kernel
theorem dX0_wouldFetch_0 : decode cX0_wouldFetch 0 = .ok (.aload_n 2, 1) := dk_44 (dk_at dksX0_wouldFetch_0 0 rfl rfl)
theorem dX0_wouldFetch_1 : decode cX0_wouldFetch 1 = .ok (.iconst 0, 1) := dk_3 (dk_at dksX0_wouldFetch_0 1 rfl rfl)
theorem dX0_wouldFetch_2 : decode cX0_wouldFetch 2 = .ok (.aload_n 0, 1) := dk_42 (dk_at dksX0_wouldFetch_0 2 rfl rfl)
theorem dX0_wouldFetch_3 : decode cX0_wouldFetch 3 = .ok (.iload_n 1, 1) := dk_27 (dk_at dksX0_wouldFetch_0 3 rfl rfl)
theorem dX0_wouldFetch_4 : decode cX0_wouldFetch 4 = .ok (.invokevirtual 106, 3) := dk_182 0 106 (dk_at dksX0_wouldFetch_0 4 rfl rfl)
theorem dX0_wouldFetch_7 : decode cX0_wouldFetch 7 = .ok (.i2l, 1) := dk_133 (dk_at dksX0_wouldFetch_0 7 rfl rfl)
theorem dX0_wouldFetch_8 : decode cX0_wouldFetch 8 = .ok (.lastore, 1) := dk_80 (dk_at dksX0_wouldFetch_0 8 rfl rfl)
theorem dX0_wouldFetch_9 : decode cX0_wouldFetch 9 = .ok (.goto 6, 3) := dk_167 0 6 (dk_at dksX0_wouldFetch_0 9 rfl rfl)
theorem dX0_wouldFetch_12 : decode cX0_wouldFetch 12 = .ok (.astore_n 3, 1) := dk_78 (dk_at dksX0_wouldFetch_0 12 rfl rfl)
theorem dX0_wouldFetch_13 : decode cX0_wouldFetch 13 = .ok (.iconst 1, 1) := dk_4 (dk_at dksX0_wouldFetch_0 13 rfl rfl)
theorem dX0_wouldFetch_14 : decode cX0_wouldFetch 14 = .ok (.ireturn, 1) := dk_172 (dk_at dksX0_wouldFetch_0 14 rfl rfl)
theorem dX0_wouldFetch_15 : decode cX0_wouldFetch 15 = .ok (.iconst 0, 1) := dk_3 (dk_at dksX0_wouldFetch_0 15 rfl rfl)
theorem dX0_wouldFetch_16 : decode cX0_wouldFetch 16 = .ok (.ireturn, 1) := dk_172 (dk_at dksX0_wouldFetch_0 16 rfl rfl)
abbrev cX0_bestMinimum : ByteArray := method_32_code
def yX0_bestMinimum : MethodName := ⟨RX0, "bestMinimum", "(LBloomclock;I[J)I"⟩
def dkwX0_bestMinimum_0 : List UInt8 := [44, 3, 42, 27, 182, 0, 109, 133, 80, 167, 0, 6, 78, 4, 172, 3, 172]
abbrev dktX0_bestMinimum_0 : List UInt8 := dkwX0_bestMinimum_0 ++ []
theorem dksX0_bestMinimum_0 : cX0_bestMinimum.data.toList.drop 0 = dktX0_bestMinimum_0 := by decide +kernel
theorem dX0_bestMinimum_0 : decode cX0_bestMinimum 0 = .ok (.aload_n 2, 1) := dk_44 (dk_at dksX0_bestMinimum_0 0 rfl rfl)
theorem dX0_bestMinimum_1 : decode cX0_bestMinimum 1 = .ok (.iconst 0, 1) := dk_3 (dk_at dksX0_bestMinimum_0 1 rfl rfl)
theorem dX0_bestMinimum_2 : decode cX0_bestMinimum 2 = .ok (.aload_n 0, 1) := dk_42 (dk_at dksX0_bestMinimum_0 2 rfl rfl)
theorem dX0_bestMinimum_3 : decode cX0_bestMinimum 3 = .ok (.iload_n 1, 1) := dk_27 (dk_at dksX0_bestMinimum_0 3 rfl rfl)
theorem dX0_bestMinimum_4 : decode cX0_bestMinimum 4 = .ok (.invokevirtual 109, 3) := dk_182 0 109 (dk_at dksX0_bestMinimum_0 4 rfl rfl)
theorem dX0_bestMinimum_7 : decode cX0_bestMinimum 7 = .ok (.i2l, 1) := dk_133 (dk_at dksX0_bestMinimum_0 7 rfl rfl)
theorem dX0_bestMinimum_8 : decode cX0_bestMinimum 8 = .ok (.lastore, 1) := dk_80 (dk_at dksX0_bestMinimum_0 8 rfl rfl)
theorem dX0_bestMinimum_9 : decode cX0_bestMinimum 9 = .ok (.goto 6, 3) := dk_167 0 6 (dk_at dksX0_bestMinimum_0 9 rfl rfl)
theorem dX0_bestMinimum_12 : decode cX0_bestMinimum 12 = .ok (.astore_n 3, 1) := dk_78 (dk_at dksX0_bestMinimum_0 12 rfl rfl)
theorem dX0_bestMinimum_13 : decode cX0_bestMinimum 13 = .ok (.iconst 1, 1) := dk_4 (dk_at dksX0_bestMinimum_0 13 rfl rfl)
theorem dX0_bestMinimum_14 : decode cX0_bestMinimum 14 = .ok (.ireturn, 1) := dk_172 (dk_at dksX0_bestMinimum_0 14 rfl rfl)
theorem dX0_bestMinimum_15 : decode cX0_bestMinimum 15 = .ok (.iconst 0, 1) := dk_3 (dk_at dksX0_bestMinimum_0 15 rfl rfl)
theorem dX0_bestMinimum_16 : decode cX0_bestMinimum 16 = .ok (.ireturn, 1) := dk_172 (dk_at dksX0_bestMinimum_0 16 rfl rfl)
abbrev cX0_readyIn : ByteArray := method_33_code
def yX0_readyIn : MethodName := ⟨RX0, "readyIn", "(LBloomclock;I[J)I"⟩
def dkwX0_readyIn_0 : List UInt8 := [44, 3, 42, 27, 182, 0, 112, 133, 80, 167, 0, 6, 78, 4, 172, 3, 172]
abbrev dktX0_readyIn_0 : List UInt8 := dkwX0_readyIn_0 ++ []
theorem dksX0_readyIn_0 : cX0_readyIn.data.toList.drop 0 = dktX0_readyIn_0 := by decide +kernel
theorem dX0_readyIn_0 : decode cX0_readyIn 0 = .ok (.aload_n 2, 1) := dk_44 (dk_at dksX0_readyIn_0 0 rfl rfl)
theorem dX0_readyIn_1 : decode cX0_readyIn 1 = .ok (.iconst 0, 1) := dk_3 (dk_at dksX0_readyIn_0 1 rfl rfl)
theorem dX0_readyIn_2 : decode cX0_readyIn 2 = .ok (.aload_n 0, 1) := dk_42 (dk_at dksX0_readyIn_0 2 rfl rfl)
theorem dX0_readyIn_3 : decode cX0_readyIn 3 = .ok (.iload_n 1, 1) := dk_27 (dk_at dksX0_readyIn_0 3 rfl rfl)
theorem dX0_readyIn_4 : decode cX0_readyIn 4 = .ok (.invokevirtual 112, 3) := dk_182 0 112 (dk_at dksX0_readyIn_0 4 rfl rfl)
theorem dX0_readyIn_7 : decode cX0_readyIn 7 = .ok (.i2l, 1) := dk_133 (dk_at dksX0_readyIn_0 7 rfl rfl)
theorem dX0_readyIn_8 : decode cX0_readyIn 8 = .ok (.lastore, 1) := dk_80 (dk_at dksX0_readyIn_0 8 rfl rfl)
theorem dX0_readyIn_9 : decode cX0_readyIn 9 = .ok (.goto 6, 3) := dk_167 0 6 (dk_at dksX0_readyIn_0 9 rfl rfl)
theorem dX0_readyIn_12 : decode cX0_readyIn 12 = .ok (.astore_n 3, 1) := dk_78 (dk_at dksX0_readyIn_0 12 rfl rfl)
theorem dX0_readyIn_13 : decode cX0_readyIn 13 = .ok (.iconst 1, 1) := dk_4 (dk_at dksX0_readyIn_0 13 rfl rfl)
theorem dX0_readyIn_14 : decode cX0_readyIn 14 = .ok (.ireturn, 1) := dk_172 (dk_at dksX0_readyIn_0 14 rfl rfl)
theorem dX0_readyIn_15 : decode cX0_readyIn 15 = .ok (.iconst 0, 1) := dk_3 (dk_at dksX0_readyIn_0 15 rfl rfl)
theorem dX0_readyIn_16 : decode cX0_readyIn 16 = .ok (.ireturn, 1) := dk_172 (dk_at dksX0_readyIn_0 16 rfl rfl)
abbrev cX0_lampsFor : ByteArray := method_34_code
def yX0_lampsFor : MethodName := ⟨RX0, "lampsFor", "(LBloomclock;II[J)I"⟩
def dkwX0_lampsFor_0 : List UInt8 := [45, 3, 42, 27, 28, 182, 0, 115, 133, 80, 167, 0, 11, 58, 4, 4, 172, 58, 4, 5, 172, 3, 172]
abbrev dktX0_lampsFor_0 : List UInt8 := dkwX0_lampsFor_0 ++ []
theorem dksX0_lampsFor_0 : cX0_lampsFor.data.toList.drop 0 = dktX0_lampsFor_0 := by decide +kernel
theorem dX0_lampsFor_0 : decode cX0_lampsFor 0 = .ok (.aload_n 3, 1) := dk_45 (dk_at dksX0_lampsFor_0 0 rfl rfl)
theorem dX0_lampsFor_1 : decode cX0_lampsFor 1 = .ok (.iconst 0, 1) := dk_3 (dk_at dksX0_lampsFor_0 1 rfl rfl)
theorem dX0_lampsFor_2 : decode cX0_lampsFor 2 = .ok (.aload_n 0, 1) := dk_42 (dk_at dksX0_lampsFor_0 2 rfl rfl)
theorem dX0_lampsFor_3 : decode cX0_lampsFor 3 = .ok (.iload_n 1, 1) := dk_27 (dk_at dksX0_lampsFor_0 3 rfl rfl)
theorem dX0_lampsFor_4 : decode cX0_lampsFor 4 = .ok (.iload_n 2, 1) := dk_28 (dk_at dksX0_lampsFor_0 4 rfl rfl)
theorem dX0_lampsFor_5 : decode cX0_lampsFor 5 = .ok (.invokevirtual 115, 3) := dk_182 0 115 (dk_at dksX0_lampsFor_0 5 rfl rfl)
theorem dX0_lampsFor_8 : decode cX0_lampsFor 8 = .ok (.i2l, 1) := dk_133 (dk_at dksX0_lampsFor_0 8 rfl rfl)
theorem dX0_lampsFor_9 : decode cX0_lampsFor 9 = .ok (.lastore, 1) := dk_80 (dk_at dksX0_lampsFor_0 9 rfl rfl)
theorem dX0_lampsFor_10 : decode cX0_lampsFor 10 = .ok (.goto 11, 3) := dk_167 0 11 (dk_at dksX0_lampsFor_0 10 rfl rfl)
theorem dX0_lampsFor_13 : decode cX0_lampsFor 13 = .ok (.astore 4, 2) := dk_58 4 (dk_at dksX0_lampsFor_0 13 rfl rfl)
theorem dX0_lampsFor_15 : decode cX0_lampsFor 15 = .ok (.iconst 1, 1) := dk_4 (dk_at dksX0_lampsFor_0 15 rfl rfl)
theorem dX0_lampsFor_16 : decode cX0_lampsFor 16 = .ok (.ireturn, 1) := dk_172 (dk_at dksX0_lampsFor_0 16 rfl rfl)
theorem dX0_lampsFor_17 : decode cX0_lampsFor 17 = .ok (.astore 4, 2) := dk_58 4 (dk_at dksX0_lampsFor_0 17 rfl rfl)
theorem dX0_lampsFor_19 : decode cX0_lampsFor 19 = .ok (.iconst 2, 1) := dk_5 (dk_at dksX0_lampsFor_0 19 rfl rfl)
theorem dX0_lampsFor_20 : decode cX0_lampsFor 20 = .ok (.ireturn, 1) := dk_172 (dk_at dksX0_lampsFor_0 20 rfl rfl)
theorem dX0_lampsFor_21 : decode cX0_lampsFor 21 = .ok (.iconst 0, 1) := dk_3 (dk_at dksX0_lampsFor_0 21 rfl rfl)
theorem dX0_lampsFor_22 : decode cX0_lampsFor 22 = .ok (.ireturn, 1) := dk_172 (dk_at dksX0_lampsFor_0 22 rfl rfl)
theorem q55 : (Jvm.Cond.initialized "BloomclockLaw") ∈ lw_all := lw_g (lw_at lw_m1 0 rfl) rfl
theorem q98 : (Jvm.Cond.classLink "BloomclockLaw" (8 : Nat) "Bloomclock") ∈ lw_all := lw_g (lw_at lw_m1 43 rfl) rfl
theorem q100 : (Jvm.Cond.methodLink "BloomclockLaw" (118 : Nat) ({ cls := "Bloomclock", name := "<init>", desc := "()V" } : Jvm.MethodName)) ∈ lw_all := lw_g (lw_at lw_m1 45 rfl) rfl
theorem q191 : (Jvm.Cond.methodLink "BloomclockLaw" (218 : Nat) ({ cls := "Bloomclock", name := "meanPrice", desc := "()D" } : Jvm.MethodName)) ∈ lw_all := lw_g (lw_at lw_m1 136 rfl) rfl
theorem q195 : (Jvm.Cond.methodLink "BloomclockLaw" (235 : Nat) ({ cls := "Bloomclock", name := "digest", desc := "()J" } : Jvm.MethodName)) ∈ lw_all := lw_g (lw_at lw_m1 140 rfl) rfl
theorem q424 : (Jvm.Cond.methodLink "BloomclockLaw" (122 : Nat) ({ cls := "BloomclockLaw", name := "grower", desc := "(LBloomclock;[J)I" } : Jvm.MethodName)) ∈ lw_all := lw_g (lw_at lw_m2 129 rfl) rfl
theorem q425 : (Jvm.Cond.static ({ cls := "BloomclockLaw", name := "grower", desc := "(LBloomclock;[J)I" } : Jvm.MethodName)) ∈ lw_all := lw_g (lw_at lw_m2 130 rfl) rfl
theorem q426 : (Jvm.Cond.codeWith ({ cls := "BloomclockLaw", name := "grower", desc := "(LBloomclock;[J)I" } : Jvm.MethodName) method_3_code (3 : Nat) (Option.some Jvm.ClassFile.FieldType.int) [((0 : Nat), (8 : Nat), (11 : Nat), (13 : Nat))]) ∈ lw_all := lw_g (lw_at lw_m2 131 rfl) rfl
theorem q427 : (Jvm.Cond.classLink "BloomclockLaw" (13 : Nat) "java/lang/IllegalStateException") ∈ lw_all := lw_g (lw_at lw_m2 132 rfl) rfl
theorem q428 : (Jvm.Cond.methodLink "BloomclockLaw" (7 : Nat) ({ cls := "Bloomclock", name := "grower", desc := "()I" } : Jvm.MethodName)) ∈ lw_all := lw_g (lw_at lw_m2 133 rfl) rfl
theorem q601 : (Jvm.Cond.methodLink "BloomclockLaw" (131 : Nat) ({ cls := "BloomclockLaw", name := "lamps", desc := "(LBloomclock;II[J)I" } : Jvm.MethodName)) ∈ lw_all := lw_g (lw_at lw_m3 66 rfl) rfl
theorem q602 : (Jvm.Cond.static ({ cls := "BloomclockLaw", name := "lamps", desc := "(LBloomclock;II[J)I" } : Jvm.MethodName)) ∈ lw_all := lw_g (lw_at lw_m3 67 rfl) rfl
theorem q603 : (Jvm.Cond.codeWith ({ cls := "BloomclockLaw", name := "lamps", desc := "(LBloomclock;II[J)I" } : Jvm.MethodName) method_4_code (5 : Nat) (Option.some Jvm.ClassFile.FieldType.int) [((0 : Nat), (10 : Nat), (13 : Nat), (19 : Nat)), ((0 : Nat), (10 : Nat), (17 : Nat), (21 : Nat))]) ∈ lw_all := lw_g (lw_at lw_m3 68 rfl) rfl
theorem q604 : (Jvm.Cond.classLink "BloomclockLaw" (19 : Nat) "java/lang/IndexOutOfBoundsException") ∈ lw_all := lw_g (lw_at lw_m3 69 rfl) rfl
theorem q637 : (Jvm.Cond.classLink "BloomclockLaw" (21 : Nat) "java/lang/IllegalArgumentException") ∈ lw_all := lw_g (lw_at lw_m3 102 rfl) rfl
theorem q638 : (Jvm.Cond.methodLink "BloomclockLaw" (15 : Nat) ({ cls := "Bloomclock", name := "lamps", desc := "(II)I" } : Jvm.MethodName)) ∈ lw_all := lw_g (lw_at lw_m3 103 rfl) rfl
theorem q685 : (Jvm.Cond.methodLink "BloomclockLaw" (135 : Nat) ({ cls := "BloomclockLaw", name := "plant", desc := "(LBloomclock;III[J)I" } : Jvm.MethodName)) ∈ lw_all := lw_g (lw_at lw_m3 150 rfl) rfl
theorem q686 : (Jvm.Cond.static ({ cls := "BloomclockLaw", name := "plant", desc := "(LBloomclock;III[J)I" } : Jvm.MethodName)) ∈ lw_all := lw_g (lw_at lw_m3 151 rfl) rfl
theorem q687 : (Jvm.Cond.codeWith ({ cls := "BloomclockLaw", name := "plant", desc := "(LBloomclock;III[J)I" } : Jvm.MethodName) method_5_code (6 : Nat) (Option.some Jvm.ClassFile.FieldType.int) [((0 : Nat), (12 : Nat), (15 : Nat), (19 : Nat)), ((0 : Nat), (12 : Nat), (19 : Nat), (21 : Nat)), ((0 : Nat), (12 : Nat), (23 : Nat), (13 : Nat))]) ∈ lw_all := lw_g (lw_at lw_m3 152 rfl) rfl
theorem q688 : (Jvm.Cond.methodLink "BloomclockLaw" (23 : Nat) ({ cls := "Bloomclock", name := "plant", desc := "(III)I" } : Jvm.MethodName)) ∈ lw_all := lw_g (lw_at lw_m3 153 rfl) rfl
theorem q724 : (Jvm.Cond.methodLink "BloomclockLaw" (139 : Nat) ({ cls := "BloomclockLaw", name := "cut", desc := "(LBloomclock;II[J)I" } : Jvm.MethodName)) ∈ lw_all := lw_g (lw_at lw_m3 189 rfl) rfl
theorem q725 : (Jvm.Cond.static ({ cls := "BloomclockLaw", name := "cut", desc := "(LBloomclock;II[J)I" } : Jvm.MethodName)) ∈ lw_all := lw_g (lw_at lw_m3 190 rfl) rfl
theorem q726 : (Jvm.Cond.codeWith ({ cls := "BloomclockLaw", name := "cut", desc := "(LBloomclock;II[J)I" } : Jvm.MethodName) method_6_code (5 : Nat) (Option.some Jvm.ClassFile.FieldType.int) [((0 : Nat), (10 : Nat), (13 : Nat), (19 : Nat)), ((0 : Nat), (10 : Nat), (17 : Nat), (21 : Nat)), ((0 : Nat), (10 : Nat), (21 : Nat), (13 : Nat))]) ∈ lw_all := lw_g (lw_at lw_m3 191 rfl) rfl
theorem q727 : (Jvm.Cond.methodLink "BloomclockLaw" (27 : Nat) ({ cls := "Bloomclock", name := "cut", desc := "(II)I" } : Jvm.MethodName)) ∈ lw_all := lw_g (lw_at lw_m3 192 rfl) rfl
theorem q792 : (Jvm.Cond.methodLink "BloomclockLaw" (142 : Nat) ({ cls := "BloomclockLaw", name := "move", desc := "(LBloomclock;II[J)I" } : Jvm.MethodName)) ∈ lw_all := lw_g (lw_at lw_m4 17 rfl) rfl
theorem q793 : (Jvm.Cond.static ({ cls := "BloomclockLaw", name := "move", desc := "(LBloomclock;II[J)I" } : Jvm.MethodName)) ∈ lw_all := lw_g (lw_at lw_m4 18 rfl) rfl
theorem q794 : (Jvm.Cond.codeWith ({ cls := "BloomclockLaw", name := "move", desc := "(LBloomclock;II[J)I" } : Jvm.MethodName) method_7_code (5 : Nat) (Option.some Jvm.ClassFile.FieldType.int) [((0 : Nat), (10 : Nat), (13 : Nat), (19 : Nat)), ((0 : Nat), (10 : Nat), (17 : Nat), (21 : Nat)), ((0 : Nat), (10 : Nat), (21 : Nat), (13 : Nat))]) ∈ lw_all := lw_g (lw_at lw_m4 19 rfl) rfl
theorem q795 : (Jvm.Cond.methodLink "BloomclockLaw" (30 : Nat) ({ cls := "Bloomclock", name := "move", desc := "(II)I" } : Jvm.MethodName)) ∈ lw_all := lw_g (lw_at lw_m4 20 rfl) rfl
theorem q810 : (Jvm.Cond.methodLink "BloomclockLaw" (145 : Nat) ({ cls := "BloomclockLaw", name := "pass", desc := "(LBloomclock;II[J)I" } : Jvm.MethodName)) ∈ lw_all := lw_g (lw_at lw_m4 35 rfl) rfl
theorem q811 : (Jvm.Cond.static ({ cls := "BloomclockLaw", name := "pass", desc := "(LBloomclock;II[J)I" } : Jvm.MethodName)) ∈ lw_all := lw_g (lw_at lw_m4 36 rfl) rfl
theorem q812 : (Jvm.Cond.codeWith ({ cls := "BloomclockLaw", name := "pass", desc := "(LBloomclock;II[J)I" } : Jvm.MethodName) method_8_code (5 : Nat) (Option.some Jvm.ClassFile.FieldType.int) [((0 : Nat), (10 : Nat), (13 : Nat), (21 : Nat))]) ∈ lw_all := lw_g (lw_at lw_m4 37 rfl) rfl
theorem q813 : (Jvm.Cond.methodLink "BloomclockLaw" (33 : Nat) ({ cls := "Bloomclock", name := "pass", desc := "(II)I" } : Jvm.MethodName)) ∈ lw_all := lw_g (lw_at lw_m4 38 rfl) rfl
theorem q870 : (Jvm.Cond.methodLink "BloomclockLaw" (148 : Nat) ({ cls := "BloomclockLaw", name := "bring", desc := "(LBloomclock;III[J)I" } : Jvm.MethodName)) ∈ lw_all := lw_g (lw_at lw_m4 95 rfl) rfl
theorem q871 : (Jvm.Cond.static ({ cls := "BloomclockLaw", name := "bring", desc := "(LBloomclock;III[J)I" } : Jvm.MethodName)) ∈ lw_all := lw_g (lw_at lw_m4 96 rfl) rfl
theorem q872 : (Jvm.Cond.codeWith ({ cls := "BloomclockLaw", name := "bring", desc := "(LBloomclock;III[J)I" } : Jvm.MethodName) method_9_code (6 : Nat) (Option.some Jvm.ClassFile.FieldType.int) [((0 : Nat), (12 : Nat), (15 : Nat), (19 : Nat)), ((0 : Nat), (12 : Nat), (19 : Nat), (21 : Nat)), ((0 : Nat), (12 : Nat), (23 : Nat), (13 : Nat))]) ∈ lw_all := lw_g (lw_at lw_m4 97 rfl) rfl
theorem q873 : (Jvm.Cond.methodLink "BloomclockLaw" (36 : Nat) ({ cls := "Bloomclock", name := "bring", desc := "(III)I" } : Jvm.MethodName)) ∈ lw_all := lw_g (lw_at lw_m4 98 rfl) rfl
theorem q882 : (Jvm.Cond.methodLink "BloomclockLaw" (151 : Nat) ({ cls := "BloomclockLaw", name := "inspect", desc := "(LBloomclock;I[J)I" } : Jvm.MethodName)) ∈ lw_all := lw_g (lw_at lw_m4 107 rfl) rfl
theorem q883 : (Jvm.Cond.static ({ cls := "BloomclockLaw", name := "inspect", desc := "(LBloomclock;I[J)I" } : Jvm.MethodName)) ∈ lw_all := lw_g (lw_at lw_m4 108 rfl) rfl
theorem q884 : (Jvm.Cond.codeWith ({ cls := "BloomclockLaw", name := "inspect", desc := "(LBloomclock;I[J)I" } : Jvm.MethodName) method_10_code (4 : Nat) (Option.some Jvm.ClassFile.FieldType.int) [((0 : Nat), (9 : Nat), (12 : Nat), (19 : Nat)), ((0 : Nat), (9 : Nat), (15 : Nat), (13 : Nat))]) ∈ lw_all := lw_g (lw_at lw_m4 109 rfl) rfl
theorem q885 : (Jvm.Cond.methodLink "BloomclockLaw" (39 : Nat) ({ cls := "Bloomclock", name := "inspect", desc := "(I)I" } : Jvm.MethodName)) ∈ lw_all := lw_g (lw_at lw_m4 110 rfl) rfl
theorem q895 : (Jvm.Cond.methodLink "BloomclockLaw" (155 : Nat) ({ cls := "BloomclockLaw", name := "buyer", desc := "(LBloomclock;I[J)I" } : Jvm.MethodName)) ∈ lw_all := lw_g (lw_at lw_m4 120 rfl) rfl
theorem q896 : (Jvm.Cond.static ({ cls := "BloomclockLaw", name := "buyer", desc := "(LBloomclock;I[J)I" } : Jvm.MethodName)) ∈ lw_all := lw_g (lw_at lw_m4 121 rfl) rfl
theorem q897 : (Jvm.Cond.codeWith ({ cls := "BloomclockLaw", name := "buyer", desc := "(LBloomclock;I[J)I" } : Jvm.MethodName) method_11_code (4 : Nat) (Option.some Jvm.ClassFile.FieldType.int) [((0 : Nat), (9 : Nat), (12 : Nat), (21 : Nat)), ((0 : Nat), (9 : Nat), (15 : Nat), (13 : Nat))]) ∈ lw_all := lw_g (lw_at lw_m4 122 rfl) rfl
theorem q898 : (Jvm.Cond.methodLink "BloomclockLaw" (43 : Nat) ({ cls := "Bloomclock", name := "buyer", desc := "(I)I" } : Jvm.MethodName)) ∈ lw_all := lw_g (lw_at lw_m4 123 rfl) rfl
theorem q935 : (Jvm.Cond.methodLink "BloomclockLaw" (158 : Nat) ({ cls := "BloomclockLaw", name := "even", desc := "(LBloomclock;II[J)I" } : Jvm.MethodName)) ∈ lw_all := lw_g (lw_at lw_m4 160 rfl) rfl
theorem q936 : (Jvm.Cond.static ({ cls := "BloomclockLaw", name := "even", desc := "(LBloomclock;II[J)I" } : Jvm.MethodName)) ∈ lw_all := lw_g (lw_at lw_m4 161 rfl) rfl
theorem q937 : (Jvm.Cond.codeWith ({ cls := "BloomclockLaw", name := "even", desc := "(LBloomclock;II[J)I" } : Jvm.MethodName) method_12_code (5 : Nat) (Option.some Jvm.ClassFile.FieldType.int) [((0 : Nat), (10 : Nat), (13 : Nat), (19 : Nat)), ((0 : Nat), (10 : Nat), (17 : Nat), (21 : Nat))]) ∈ lw_all := lw_g (lw_at lw_m4 162 rfl) rfl
theorem q938 : (Jvm.Cond.methodLink "BloomclockLaw" (46 : Nat) ({ cls := "Bloomclock", name := "even", desc := "(II)I" } : Jvm.MethodName)) ∈ lw_all := lw_g (lw_at lw_m4 163 rfl) rfl
theorem q946 : (Jvm.Cond.methodLink "BloomclockLaw" (161 : Nat) ({ cls := "BloomclockLaw", name := "leave", desc := "(LBloomclock;II[J)I" } : Jvm.MethodName)) ∈ lw_all := lw_g (lw_at lw_m4 171 rfl) rfl
theorem q947 : (Jvm.Cond.static ({ cls := "BloomclockLaw", name := "leave", desc := "(LBloomclock;II[J)I" } : Jvm.MethodName)) ∈ lw_all := lw_g (lw_at lw_m4 172 rfl) rfl
theorem q948 : (Jvm.Cond.codeWith ({ cls := "BloomclockLaw", name := "leave", desc := "(LBloomclock;II[J)I" } : Jvm.MethodName) method_13_code (5 : Nat) (Option.some Jvm.ClassFile.FieldType.int) [((0 : Nat), (10 : Nat), (13 : Nat), (19 : Nat)), ((0 : Nat), (10 : Nat), (17 : Nat), (21 : Nat))]) ∈ lw_all := lw_g (lw_at lw_m4 173 rfl) rfl
theorem q949 : (Jvm.Cond.methodLink "BloomclockLaw" (49 : Nat) ({ cls := "Bloomclock", name := "leave", desc := "(II)I" } : Jvm.MethodName)) ∈ lw_all := lw_g (lw_at lw_m4 174 rfl) rfl
theorem q953 : (Jvm.Cond.methodLink "BloomclockLaw" (164 : Nat) ({ cls := "BloomclockLaw", name := "order", desc := "(LBloomclock;IIIIIII[J)I" } : Jvm.MethodName)) ∈ lw_all := lw_g (lw_at lw_m4 178 rfl) rfl
theorem q954 : (Jvm.Cond.static ({ cls := "BloomclockLaw", name := "order", desc := "(LBloomclock;IIIIIII[J)I" } : Jvm.MethodName)) ∈ lw_all := lw_g (lw_at lw_m4 179 rfl) rfl
theorem q955 : (Jvm.Cond.codeWith ({ cls := "BloomclockLaw", name := "order", desc := "(LBloomclock;IIIIIII[J)I" } : Jvm.MethodName) method_14_code (10 : Nat) (Option.some Jvm.ClassFile.FieldType.int) [((0 : Nat), (20 : Nat), (23 : Nat), (19 : Nat)), ((0 : Nat), (20 : Nat), (27 : Nat), (21 : Nat)), ((0 : Nat), (20 : Nat), (31 : Nat), (13 : Nat))]) ∈ lw_all := lw_g (lw_at lw_m4 180 rfl) rfl
theorem q956 : (Jvm.Cond.methodLink "BloomclockLaw" (52 : Nat) ({ cls := "Bloomclock", name := "order", desc := "(IIIIIII)I" } : Jvm.MethodName)) ∈ lw_all := lw_g (lw_at lw_m4 181 rfl) rfl
theorem q991 : (Jvm.Cond.methodLink "BloomclockLaw" (168 : Nat) ({ cls := "BloomclockLaw", name := "clock", desc := "(LBloomclock;[J)I" } : Jvm.MethodName)) ∈ lw_all := lw_g (lw_at lw_m4 216 rfl) rfl
theorem q992 : (Jvm.Cond.static ({ cls := "BloomclockLaw", name := "clock", desc := "(LBloomclock;[J)I" } : Jvm.MethodName)) ∈ lw_all := lw_g (lw_at lw_m4 217 rfl) rfl
theorem q993 : (Jvm.Cond.codeWith ({ cls := "BloomclockLaw", name := "clock", desc := "(LBloomclock;[J)I" } : Jvm.MethodName) method_15_code (3 : Nat) (Option.some Jvm.ClassFile.FieldType.int) [((0 : Nat), (8 : Nat), (11 : Nat), (13 : Nat))]) ∈ lw_all := lw_g (lw_at lw_m4 218 rfl) rfl
theorem q994 : (Jvm.Cond.methodLink "BloomclockLaw" (56 : Nat) ({ cls := "Bloomclock", name := "clock", desc := "()I" } : Jvm.MethodName)) ∈ lw_all := lw_g (lw_at lw_m4 219 rfl) rfl
theorem q1069 : (Jvm.Cond.methodLink "BloomclockLaw" (171 : Nat) ({ cls := "BloomclockLaw", name := "presell", desc := "(LBloomclock;IIII[J)I" } : Jvm.MethodName)) ∈ lw_all := lw_g (lw_at lw_m5 54 rfl) rfl
theorem q1070 : (Jvm.Cond.static ({ cls := "BloomclockLaw", name := "presell", desc := "(LBloomclock;IIII[J)I" } : Jvm.MethodName)) ∈ lw_all := lw_g (lw_at lw_m5 55 rfl) rfl
theorem q1071 : (Jvm.Cond.codeWith ({ cls := "BloomclockLaw", name := "presell", desc := "(LBloomclock;IIII[J)I" } : Jvm.MethodName) method_16_code (7 : Nat) (Option.some Jvm.ClassFile.FieldType.int) [((0 : Nat), (14 : Nat), (17 : Nat), (19 : Nat)), ((0 : Nat), (14 : Nat), (21 : Nat), (21 : Nat)), ((0 : Nat), (14 : Nat), (25 : Nat), (13 : Nat))]) ∈ lw_all := lw_g (lw_at lw_m5 56 rfl) rfl
theorem q1072 : (Jvm.Cond.methodLink "BloomclockLaw" (59 : Nat) ({ cls := "Bloomclock", name := "presell", desc := "(IIII)I" } : Jvm.MethodName)) ∈ lw_all := lw_g (lw_at lw_m5 57 rfl) rfl
theorem q1076 : (Jvm.Cond.methodLink "BloomclockLaw" (175 : Nat) ({ cls := "BloomclockLaw", name := "undo", desc := "(LBloomclock;[J)I" } : Jvm.MethodName)) ∈ lw_all := lw_g (lw_at lw_m5 61 rfl) rfl
theorem q1077 : (Jvm.Cond.static ({ cls := "BloomclockLaw", name := "undo", desc := "(LBloomclock;[J)I" } : Jvm.MethodName)) ∈ lw_all := lw_g (lw_at lw_m5 62 rfl) rfl
theorem q1078 : (Jvm.Cond.codeWith ({ cls := "BloomclockLaw", name := "undo", desc := "(LBloomclock;[J)I" } : Jvm.MethodName) method_17_code (3 : Nat) (Option.some Jvm.ClassFile.FieldType.int) [((0 : Nat), (8 : Nat), (11 : Nat), (13 : Nat))]) ∈ lw_all := lw_g (lw_at lw_m5 63 rfl) rfl
theorem q1079 : (Jvm.Cond.methodLink "BloomclockLaw" (63 : Nat) ({ cls := "Bloomclock", name := "undo", desc := "()I" } : Jvm.MethodName)) ∈ lw_all := lw_g (lw_at lw_m5 64 rfl) rfl
theorem q1089 : (Jvm.Cond.methodLink "BloomclockLaw" (178 : Nat) ({ cls := "BloomclockLaw", name := "speed", desc := "(LBloomclock;I[J)I" } : Jvm.MethodName)) ∈ lw_all := lw_g (lw_at lw_m5 74 rfl) rfl
theorem q1090 : (Jvm.Cond.static ({ cls := "BloomclockLaw", name := "speed", desc := "(LBloomclock;I[J)I" } : Jvm.MethodName)) ∈ lw_all := lw_g (lw_at lw_m5 75 rfl) rfl
theorem q1091 : (Jvm.Cond.codeWith ({ cls := "BloomclockLaw", name := "speed", desc := "(LBloomclock;I[J)I" } : Jvm.MethodName) method_18_code (4 : Nat) (Option.some Jvm.ClassFile.FieldType.int) [((0 : Nat), (9 : Nat), (12 : Nat), (21 : Nat))]) ∈ lw_all := lw_g (lw_at lw_m5 76 rfl) rfl
theorem q1092 : (Jvm.Cond.methodLink "BloomclockLaw" (66 : Nat) ({ cls := "Bloomclock", name := "speed", desc := "(I)I" } : Jvm.MethodName)) ∈ lw_all := lw_g (lw_at lw_m5 77 rfl) rfl
theorem q1096 : (Jvm.Cond.methodLink "BloomclockLaw" (181 : Nat) ({ cls := "BloomclockLaw", name := "bind", desc := "(LBloomclock;II[J)I" } : Jvm.MethodName)) ∈ lw_all := lw_g (lw_at lw_m5 81 rfl) rfl
theorem q1097 : (Jvm.Cond.static ({ cls := "BloomclockLaw", name := "bind", desc := "(LBloomclock;II[J)I" } : Jvm.MethodName)) ∈ lw_all := lw_g (lw_at lw_m5 82 rfl) rfl
theorem q1098 : (Jvm.Cond.codeWith ({ cls := "BloomclockLaw", name := "bind", desc := "(LBloomclock;II[J)I" } : Jvm.MethodName) method_19_code (5 : Nat) (Option.some Jvm.ClassFile.FieldType.int) [((0 : Nat), (10 : Nat), (13 : Nat), (19 : Nat)), ((0 : Nat), (10 : Nat), (17 : Nat), (21 : Nat))]) ∈ lw_all := lw_g (lw_at lw_m5 83 rfl) rfl
theorem q1099 : (Jvm.Cond.methodLink "BloomclockLaw" (69 : Nat) ({ cls := "Bloomclock", name := "bind", desc := "(II)I" } : Jvm.MethodName)) ∈ lw_all := lw_g (lw_at lw_m5 84 rfl) rfl
theorem q1108 : (Jvm.Cond.methodLink "BloomclockLaw" (184 : Nat) ({ cls := "BloomclockLaw", name := "back", desc := "(LBloomclock;II[J)I" } : Jvm.MethodName)) ∈ lw_all := lw_g (lw_at lw_m5 93 rfl) rfl
theorem q1109 : (Jvm.Cond.static ({ cls := "BloomclockLaw", name := "back", desc := "(LBloomclock;II[J)I" } : Jvm.MethodName)) ∈ lw_all := lw_g (lw_at lw_m5 94 rfl) rfl
theorem q1110 : (Jvm.Cond.codeWith ({ cls := "BloomclockLaw", name := "back", desc := "(LBloomclock;II[J)I" } : Jvm.MethodName) method_20_code (5 : Nat) (Option.some Jvm.ClassFile.FieldType.int) [((0 : Nat), (10 : Nat), (13 : Nat), (19 : Nat)), ((0 : Nat), (10 : Nat), (17 : Nat), (21 : Nat)), ((0 : Nat), (10 : Nat), (21 : Nat), (13 : Nat))]) ∈ lw_all := lw_g (lw_at lw_m5 95 rfl) rfl
theorem q1111 : (Jvm.Cond.methodLink "BloomclockLaw" (72 : Nat) ({ cls := "Bloomclock", name := "back", desc := "(II)I" } : Jvm.MethodName)) ∈ lw_all := lw_g (lw_at lw_m5 96 rfl) rfl
theorem q1115 : (Jvm.Cond.methodLink "BloomclockLaw" (187 : Nat) ({ cls := "BloomclockLaw", name := "clear", desc := "(LBloomclock;IZ[J)I" } : Jvm.MethodName)) ∈ lw_all := lw_g (lw_at lw_m5 100 rfl) rfl
theorem q1116 : (Jvm.Cond.static ({ cls := "BloomclockLaw", name := "clear", desc := "(LBloomclock;IZ[J)I" } : Jvm.MethodName)) ∈ lw_all := lw_g (lw_at lw_m5 101 rfl) rfl
theorem q1117 : (Jvm.Cond.codeWith ({ cls := "BloomclockLaw", name := "clear", desc := "(LBloomclock;IZ[J)I" } : Jvm.MethodName) method_21_code (5 : Nat) (Option.some Jvm.ClassFile.FieldType.int) [((0 : Nat), (10 : Nat), (13 : Nat), (19 : Nat)), ((0 : Nat), (10 : Nat), (17 : Nat), (13 : Nat))]) ∈ lw_all := lw_g (lw_at lw_m5 102 rfl) rfl
theorem q1118 : (Jvm.Cond.methodLink "BloomclockLaw" (75 : Nat) ({ cls := "Bloomclock", name := "clear", desc := "(IZ)I" } : Jvm.MethodName)) ∈ lw_all := lw_g (lw_at lw_m5 103 rfl) rfl
theorem q1122 : (Jvm.Cond.methodLink "BloomclockLaw" (191 : Nat) ({ cls := "BloomclockLaw", name := "vote", desc := "(LBloomclock;II[J)I" } : Jvm.MethodName)) ∈ lw_all := lw_g (lw_at lw_m5 107 rfl) rfl
theorem q1123 : (Jvm.Cond.static ({ cls := "BloomclockLaw", name := "vote", desc := "(LBloomclock;II[J)I" } : Jvm.MethodName)) ∈ lw_all := lw_g (lw_at lw_m5 108 rfl) rfl
theorem q1124 : (Jvm.Cond.codeWith ({ cls := "BloomclockLaw", name := "vote", desc := "(LBloomclock;II[J)I" } : Jvm.MethodName) method_22_code (5 : Nat) (Option.some Jvm.ClassFile.FieldType.int) [((0 : Nat), (10 : Nat), (13 : Nat), (19 : Nat)), ((0 : Nat), (10 : Nat), (17 : Nat), (21 : Nat))]) ∈ lw_all := lw_g (lw_at lw_m5 109 rfl) rfl
theorem q1125 : (Jvm.Cond.methodLink "BloomclockLaw" (79 : Nat) ({ cls := "Bloomclock", name := "vote", desc := "(II)I" } : Jvm.MethodName)) ∈ lw_all := lw_g (lw_at lw_m5 110 rfl) rfl
theorem q1129 : (Jvm.Cond.methodLink "BloomclockLaw" (194 : Nat) ({ cls := "BloomclockLaw", name := "ofCrop", desc := "(LBloomclock;II[J)I" } : Jvm.MethodName)) ∈ lw_all := lw_g (lw_at lw_m5 114 rfl) rfl
theorem q1130 : (Jvm.Cond.static ({ cls := "BloomclockLaw", name := "ofCrop", desc := "(LBloomclock;II[J)I" } : Jvm.MethodName)) ∈ lw_all := lw_g (lw_at lw_m5 115 rfl) rfl
theorem q1131 : (Jvm.Cond.codeWith ({ cls := "BloomclockLaw", name := "ofCrop", desc := "(LBloomclock;II[J)I" } : Jvm.MethodName) method_23_code (5 : Nat) (Option.some Jvm.ClassFile.FieldType.int) [((0 : Nat), (10 : Nat), (13 : Nat), (19 : Nat)), ((0 : Nat), (10 : Nat), (17 : Nat), (21 : Nat))]) ∈ lw_all := lw_g (lw_at lw_m5 116 rfl) rfl
theorem q1132 : (Jvm.Cond.methodLink "BloomclockLaw" (82 : Nat) ({ cls := "Bloomclock", name := "ofCrop", desc := "(II)I" } : Jvm.MethodName)) ∈ lw_all := lw_g (lw_at lw_m5 117 rfl) rfl
theorem q1136 : (Jvm.Cond.methodLink "BloomclockLaw" (197 : Nat) ({ cls := "BloomclockLaw", name := "ofLot", desc := "(LBloomclock;II[J)I" } : Jvm.MethodName)) ∈ lw_all := lw_g (lw_at lw_m5 121 rfl) rfl
theorem q1137 : (Jvm.Cond.static ({ cls := "BloomclockLaw", name := "ofLot", desc := "(LBloomclock;II[J)I" } : Jvm.MethodName)) ∈ lw_all := lw_g (lw_at lw_m5 122 rfl) rfl
theorem q1138 : (Jvm.Cond.codeWith ({ cls := "BloomclockLaw", name := "ofLot", desc := "(LBloomclock;II[J)I" } : Jvm.MethodName) method_24_code (5 : Nat) (Option.some Jvm.ClassFile.FieldType.int) [((0 : Nat), (10 : Nat), (13 : Nat), (19 : Nat)), ((0 : Nat), (10 : Nat), (17 : Nat), (21 : Nat))]) ∈ lw_all := lw_g (lw_at lw_m5 123 rfl) rfl
theorem q1139 : (Jvm.Cond.methodLink "BloomclockLaw" (85 : Nat) ({ cls := "Bloomclock", name := "ofLot", desc := "(II)I" } : Jvm.MethodName)) ∈ lw_all := lw_g (lw_at lw_m5 124 rfl) rfl
theorem q1143 : (Jvm.Cond.methodLink "BloomclockLaw" (200 : Nat) ({ cls := "BloomclockLaw", name := "ofGrower", desc := "(LBloomclock;II[J)I" } : Jvm.MethodName)) ∈ lw_all := lw_g (lw_at lw_m5 128 rfl) rfl
theorem q1144 : (Jvm.Cond.static ({ cls := "BloomclockLaw", name := "ofGrower", desc := "(LBloomclock;II[J)I" } : Jvm.MethodName)) ∈ lw_all := lw_g (lw_at lw_m5 129 rfl) rfl
theorem q1145 : (Jvm.Cond.codeWith ({ cls := "BloomclockLaw", name := "ofGrower", desc := "(LBloomclock;II[J)I" } : Jvm.MethodName) method_25_code (5 : Nat) (Option.some Jvm.ClassFile.FieldType.int) [((0 : Nat), (10 : Nat), (13 : Nat), (19 : Nat)), ((0 : Nat), (10 : Nat), (17 : Nat), (21 : Nat))]) ∈ lw_all := lw_g (lw_at lw_m5 130 rfl) rfl
theorem q1146 : (Jvm.Cond.methodLink "BloomclockLaw" (88 : Nat) ({ cls := "Bloomclock", name := "ofGrower", desc := "(II)I" } : Jvm.MethodName)) ∈ lw_all := lw_g (lw_at lw_m5 131 rfl) rfl
theorem q1150 : (Jvm.Cond.methodLink "BloomclockLaw" (203 : Nat) ({ cls := "BloomclockLaw", name := "ofBuyer", desc := "(LBloomclock;II[J)I" } : Jvm.MethodName)) ∈ lw_all := lw_g (lw_at lw_m5 135 rfl) rfl
theorem q1151 : (Jvm.Cond.static ({ cls := "BloomclockLaw", name := "ofBuyer", desc := "(LBloomclock;II[J)I" } : Jvm.MethodName)) ∈ lw_all := lw_g (lw_at lw_m5 136 rfl) rfl
theorem q1152 : (Jvm.Cond.codeWith ({ cls := "BloomclockLaw", name := "ofBuyer", desc := "(LBloomclock;II[J)I" } : Jvm.MethodName) method_26_code (5 : Nat) (Option.some Jvm.ClassFile.FieldType.int) [((0 : Nat), (10 : Nat), (13 : Nat), (19 : Nat)), ((0 : Nat), (10 : Nat), (17 : Nat), (21 : Nat))]) ∈ lw_all := lw_g (lw_at lw_m5 137 rfl) rfl
theorem q1153 : (Jvm.Cond.methodLink "BloomclockLaw" (91 : Nat) ({ cls := "Bloomclock", name := "ofBuyer", desc := "(II)I" } : Jvm.MethodName)) ∈ lw_all := lw_g (lw_at lw_m5 138 rfl) rfl
theorem q1157 : (Jvm.Cond.methodLink "BloomclockLaw" (206 : Nat) ({ cls := "BloomclockLaw", name := "wants", desc := "(LBloomclock;I[J)I" } : Jvm.MethodName)) ∈ lw_all := lw_g (lw_at lw_m5 142 rfl) rfl
theorem q1158 : (Jvm.Cond.static ({ cls := "BloomclockLaw", name := "wants", desc := "(LBloomclock;I[J)I" } : Jvm.MethodName)) ∈ lw_all := lw_g (lw_at lw_m5 143 rfl) rfl
theorem q1159 : (Jvm.Cond.codeWith ({ cls := "BloomclockLaw", name := "wants", desc := "(LBloomclock;I[J)I" } : Jvm.MethodName) method_27_code (4 : Nat) (Option.some Jvm.ClassFile.FieldType.int) [((0 : Nat), (9 : Nat), (12 : Nat), (19 : Nat))]) ∈ lw_all := lw_g (lw_at lw_m5 144 rfl) rfl
theorem q1160 : (Jvm.Cond.methodLink "BloomclockLaw" (94 : Nat) ({ cls := "Bloomclock", name := "wants", desc := "(I)I" } : Jvm.MethodName)) ∈ lw_all := lw_g (lw_at lw_m5 145 rfl) rfl
theorem q1164 : (Jvm.Cond.methodLink "BloomclockLaw" (209 : Nat) ({ cls := "BloomclockLaw", name := "sale", desc := "(LBloomclock;II[J)I" } : Jvm.MethodName)) ∈ lw_all := lw_g (lw_at lw_m5 149 rfl) rfl
theorem q1165 : (Jvm.Cond.static ({ cls := "BloomclockLaw", name := "sale", desc := "(LBloomclock;II[J)I" } : Jvm.MethodName)) ∈ lw_all := lw_g (lw_at lw_m5 150 rfl) rfl
theorem q1166 : (Jvm.Cond.codeWith ({ cls := "BloomclockLaw", name := "sale", desc := "(LBloomclock;II[J)I" } : Jvm.MethodName) method_28_code (5 : Nat) (Option.some Jvm.ClassFile.FieldType.int) [((0 : Nat), (10 : Nat), (13 : Nat), (19 : Nat)), ((0 : Nat), (10 : Nat), (17 : Nat), (21 : Nat))]) ∈ lw_all := lw_g (lw_at lw_m5 151 rfl) rfl
theorem q1167 : (Jvm.Cond.methodLink "BloomclockLaw" (97 : Nat) ({ cls := "Bloomclock", name := "sale", desc := "(II)I" } : Jvm.MethodName)) ∈ lw_all := lw_g (lw_at lw_m5 152 rfl) rfl
theorem q1171 : (Jvm.Cond.methodLink "BloomclockLaw" (212 : Nat) ({ cls := "BloomclockLaw", name := "row", desc := "(LBloomclock;I[J)I" } : Jvm.MethodName)) ∈ lw_all := lw_g (lw_at lw_m5 156 rfl) rfl
theorem q1172 : (Jvm.Cond.static ({ cls := "BloomclockLaw", name := "row", desc := "(LBloomclock;I[J)I" } : Jvm.MethodName)) ∈ lw_all := lw_g (lw_at lw_m5 157 rfl) rfl
theorem q1173 : (Jvm.Cond.codeWith ({ cls := "BloomclockLaw", name := "row", desc := "(LBloomclock;I[J)I" } : Jvm.MethodName) method_29_code (4 : Nat) (Option.some Jvm.ClassFile.FieldType.int) [((0 : Nat), (9 : Nat), (12 : Nat), (21 : Nat))]) ∈ lw_all := lw_g (lw_at lw_m5 158 rfl) rfl
theorem q1174 : (Jvm.Cond.methodLink "BloomclockLaw" (100 : Nat) ({ cls := "Bloomclock", name := "row", desc := "(I)I" } : Jvm.MethodName)) ∈ lw_all := lw_g (lw_at lw_m5 159 rfl) rfl
theorem q1178 : (Jvm.Cond.methodLink "BloomclockLaw" (215 : Nat) ({ cls := "BloomclockLaw", name := "many", desc := "(LBloomclock;I[J)I" } : Jvm.MethodName)) ∈ lw_all := lw_g (lw_at lw_m5 163 rfl) rfl
theorem q1179 : (Jvm.Cond.static ({ cls := "BloomclockLaw", name := "many", desc := "(LBloomclock;I[J)I" } : Jvm.MethodName)) ∈ lw_all := lw_g (lw_at lw_m5 164 rfl) rfl
theorem q1180 : (Jvm.Cond.codeWith ({ cls := "BloomclockLaw", name := "many", desc := "(LBloomclock;I[J)I" } : Jvm.MethodName) method_30_code (4 : Nat) (Option.some Jvm.ClassFile.FieldType.int) [((0 : Nat), (9 : Nat), (12 : Nat), (21 : Nat))]) ∈ lw_all := lw_g (lw_at lw_m5 165 rfl) rfl
theorem q1181 : (Jvm.Cond.methodLink "BloomclockLaw" (103 : Nat) ({ cls := "Bloomclock", name := "many", desc := "(I)I" } : Jvm.MethodName)) ∈ lw_all := lw_g (lw_at lw_m5 166 rfl) rfl
theorem q1185 : (Jvm.Cond.methodLink "BloomclockLaw" (223 : Nat) ({ cls := "BloomclockLaw", name := "wouldFetch", desc := "(LBloomclock;I[J)I" } : Jvm.MethodName)) ∈ lw_all := lw_g (lw_at lw_m5 170 rfl) rfl
theorem q1186 : (Jvm.Cond.static ({ cls := "BloomclockLaw", name := "wouldFetch", desc := "(LBloomclock;I[J)I" } : Jvm.MethodName)) ∈ lw_all := lw_g (lw_at lw_m5 171 rfl) rfl
theorem q1187 : (Jvm.Cond.codeWith ({ cls := "BloomclockLaw", name := "wouldFetch", desc := "(LBloomclock;I[J)I" } : Jvm.MethodName) method_31_code (4 : Nat) (Option.some Jvm.ClassFile.FieldType.int) [((0 : Nat), (9 : Nat), (12 : Nat), (19 : Nat))]) ∈ lw_all := lw_g (lw_at lw_m5 172 rfl) rfl
theorem q1188 : (Jvm.Cond.methodLink "BloomclockLaw" (106 : Nat) ({ cls := "Bloomclock", name := "wouldFetch", desc := "(I)I" } : Jvm.MethodName)) ∈ lw_all := lw_g (lw_at lw_m5 173 rfl) rfl
theorem q1192 : (Jvm.Cond.methodLink "BloomclockLaw" (226 : Nat) ({ cls := "BloomclockLaw", name := "bestMinimum", desc := "(LBloomclock;I[J)I" } : Jvm.MethodName)) ∈ lw_all := lw_g (lw_at lw_m5 177 rfl) rfl
theorem q1193 : (Jvm.Cond.static ({ cls := "BloomclockLaw", name := "bestMinimum", desc := "(LBloomclock;I[J)I" } : Jvm.MethodName)) ∈ lw_all := lw_g (lw_at lw_m5 178 rfl) rfl
theorem q1194 : (Jvm.Cond.codeWith ({ cls := "BloomclockLaw", name := "bestMinimum", desc := "(LBloomclock;I[J)I" } : Jvm.MethodName) method_32_code (4 : Nat) (Option.some Jvm.ClassFile.FieldType.int) [((0 : Nat), (9 : Nat), (12 : Nat), (19 : Nat))]) ∈ lw_all := lw_g (lw_at lw_m5 179 rfl) rfl
theorem q1195 : (Jvm.Cond.methodLink "BloomclockLaw" (109 : Nat) ({ cls := "Bloomclock", name := "bestMinimum", desc := "(I)I" } : Jvm.MethodName)) ∈ lw_all := lw_g (lw_at lw_m5 180 rfl) rfl
theorem q1199 : (Jvm.Cond.methodLink "BloomclockLaw" (229 : Nat) ({ cls := "BloomclockLaw", name := "readyIn", desc := "(LBloomclock;I[J)I" } : Jvm.MethodName)) ∈ lw_all := lw_g (lw_at lw_m5 184 rfl) rfl
theorem q1200 : (Jvm.Cond.static ({ cls := "BloomclockLaw", name := "readyIn", desc := "(LBloomclock;I[J)I" } : Jvm.MethodName)) ∈ lw_all := lw_g (lw_at lw_m5 185 rfl) rfl
theorem q1201 : (Jvm.Cond.codeWith ({ cls := "BloomclockLaw", name := "readyIn", desc := "(LBloomclock;I[J)I" } : Jvm.MethodName) method_33_code (4 : Nat) (Option.some Jvm.ClassFile.FieldType.int) [((0 : Nat), (9 : Nat), (12 : Nat), (19 : Nat))]) ∈ lw_all := lw_g (lw_at lw_m5 186 rfl) rfl
theorem q1202 : (Jvm.Cond.methodLink "BloomclockLaw" (112 : Nat) ({ cls := "Bloomclock", name := "readyIn", desc := "(I)I" } : Jvm.MethodName)) ∈ lw_all := lw_g (lw_at lw_m5 187 rfl) rfl
theorem q1206 : (Jvm.Cond.methodLink "BloomclockLaw" (232 : Nat) ({ cls := "BloomclockLaw", name := "lampsFor", desc := "(LBloomclock;II[J)I" } : Jvm.MethodName)) ∈ lw_all := lw_g (lw_at lw_m5 191 rfl) rfl
theorem q1207 : (Jvm.Cond.static ({ cls := "BloomclockLaw", name := "lampsFor", desc := "(LBloomclock;II[J)I" } : Jvm.MethodName)) ∈ lw_all := lw_g (lw_at lw_m5 192 rfl) rfl
theorem q1208 : (Jvm.Cond.codeWith ({ cls := "BloomclockLaw", name := "lampsFor", desc := "(LBloomclock;II[J)I" } : Jvm.MethodName) method_34_code (5 : Nat) (Option.some Jvm.ClassFile.FieldType.int) [((0 : Nat), (10 : Nat), (13 : Nat), (19 : Nat)), ((0 : Nat), (10 : Nat), (17 : Nat), (21 : Nat))]) ∈ lw_all := lw_g (lw_at lw_m5 193 rfl) rfl
theorem q1209 : (Jvm.Cond.methodLink "BloomclockLaw" (115 : Nat) ({ cls := "Bloomclock", name := "lampsFor", desc := "(II)I" } : Jvm.MethodName)) ∈ lw_all := lw_g (lw_at lw_m5 194 rfl) rfl
theorem q1213 : (Jvm.Cond.classLink "BloomclockLaw" (119 : Nat) "BloomclockModel") ∈ lw_all := lw_g (lw_at lw_m5 198 rfl) rfl
theorem q1215 : (Jvm.Cond.methodLink "BloomclockLaw" (121 : Nat) ({ cls := "BloomclockModel", name := "<init>", desc := "()V" } : Jvm.MethodName)) ∈ lw_all := lw_g (lw_at lw_m5 200 rfl) rfl
theorem q1279 : (Jvm.Cond.methodLink "BloomclockLaw" (128 : Nat) ({ cls := "BloomclockModel", name := "thrown", desc := "()I" } : Jvm.MethodName)) ∈ lw_all := lw_g (lw_at lw_m6 24 rfl) rfl
theorem q1283 : (Jvm.Cond.methodLink "BloomclockLaw" (127 : Nat) ({ cls := "BloomclockModel", name := "grower", desc := "()I" } : Jvm.MethodName)) ∈ lw_all := lw_g (lw_at lw_m6 28 rfl) rfl
theorem q1326 : (Jvm.Cond.methodLink "BloomclockLaw" (134 : Nat) ({ cls := "BloomclockModel", name := "lamps", desc := "(II)I" } : Jvm.MethodName)) ∈ lw_all := lw_g (lw_at lw_m6 71 rfl) rfl
theorem q1338 : (Jvm.Cond.methodLink "BloomclockLaw" (138 : Nat) ({ cls := "BloomclockModel", name := "plant", desc := "(III)I" } : Jvm.MethodName)) ∈ lw_all := lw_g (lw_at lw_m6 83 rfl) rfl
theorem q1379 : (Jvm.Cond.methodLink "BloomclockLaw" (141 : Nat) ({ cls := "BloomclockModel", name := "cut", desc := "(II)I" } : Jvm.MethodName)) ∈ lw_all := lw_g (lw_at lw_m6 124 rfl) rfl
theorem q1446 : (Jvm.Cond.methodLink "BloomclockLaw" (144 : Nat) ({ cls := "BloomclockModel", name := "move", desc := "(II)I" } : Jvm.MethodName)) ∈ lw_all := lw_g (lw_at lw_m6 191 rfl) rfl
theorem q1454 : (Jvm.Cond.methodLink "BloomclockLaw" (147 : Nat) ({ cls := "BloomclockModel", name := "pass", desc := "(II)I" } : Jvm.MethodName)) ∈ lw_all := lw_g (lw_at lw_m6 199 rfl) rfl
theorem q1533 : (Jvm.Cond.methodLink "BloomclockLaw" (150 : Nat) ({ cls := "BloomclockModel", name := "bring", desc := "(III)I" } : Jvm.MethodName)) ∈ lw_all := lw_g (lw_at lw_m7 38 rfl) rfl
theorem q1569 : (Jvm.Cond.methodLink "BloomclockLaw" (154 : Nat) ({ cls := "BloomclockModel", name := "inspect", desc := "(I)I" } : Jvm.MethodName)) ∈ lw_all := lw_g (lw_at lw_m7 74 rfl) rfl
theorem q1574 : (Jvm.Cond.methodLink "BloomclockLaw" (157 : Nat) ({ cls := "BloomclockModel", name := "buyer", desc := "(I)I" } : Jvm.MethodName)) ∈ lw_all := lw_g (lw_at lw_m7 79 rfl) rfl
theorem q1612 : (Jvm.Cond.methodLink "BloomclockLaw" (160 : Nat) ({ cls := "BloomclockModel", name := "even", desc := "(II)I" } : Jvm.MethodName)) ∈ lw_all := lw_g (lw_at lw_m7 117 rfl) rfl
theorem q1620 : (Jvm.Cond.methodLink "BloomclockLaw" (163 : Nat) ({ cls := "BloomclockModel", name := "leave", desc := "(II)I" } : Jvm.MethodName)) ∈ lw_all := lw_g (lw_at lw_m7 125 rfl) rfl
theorem q1624 : (Jvm.Cond.methodLink "BloomclockLaw" (167 : Nat) ({ cls := "BloomclockModel", name := "order", desc := "(IIIIIII)I" } : Jvm.MethodName)) ∈ lw_all := lw_g (lw_at lw_m7 129 rfl) rfl
theorem q1661 : (Jvm.Cond.methodLink "BloomclockLaw" (170 : Nat) ({ cls := "BloomclockModel", name := "clock", desc := "()I" } : Jvm.MethodName)) ∈ lw_all := lw_g (lw_at lw_m7 166 rfl) rfl
theorem q1839 : (Jvm.Cond.methodLink "BloomclockLaw" (174 : Nat) ({ cls := "BloomclockModel", name := "presell", desc := "(IIII)I" } : Jvm.MethodName)) ∈ lw_all := lw_g (lw_at lw_m8 104 rfl) rfl
theorem q1843 : (Jvm.Cond.methodLink "BloomclockLaw" (177 : Nat) ({ cls := "BloomclockModel", name := "undo", desc := "()I" } : Jvm.MethodName)) ∈ lw_all := lw_g (lw_at lw_m8 108 rfl) rfl
theorem q1898 : (Jvm.Cond.methodLink "BloomclockLaw" (180 : Nat) ({ cls := "BloomclockModel", name := "speed", desc := "(I)I" } : Jvm.MethodName)) ∈ lw_all := lw_g (lw_at lw_m8 163 rfl) rfl
theorem q1902 : (Jvm.Cond.methodLink "BloomclockLaw" (183 : Nat) ({ cls := "BloomclockModel", name := "bind", desc := "(II)I" } : Jvm.MethodName)) ∈ lw_all := lw_g (lw_at lw_m8 167 rfl) rfl
theorem q1911 : (Jvm.Cond.methodLink "BloomclockLaw" (186 : Nat) ({ cls := "BloomclockModel", name := "back", desc := "(II)I" } : Jvm.MethodName)) ∈ lw_all := lw_g (lw_at lw_m8 176 rfl) rfl
theorem q1915 : (Jvm.Cond.methodLink "BloomclockLaw" (190 : Nat) ({ cls := "BloomclockModel", name := "clear", desc := "(IZ)I" } : Jvm.MethodName)) ∈ lw_all := lw_g (lw_at lw_m8 180 rfl) rfl
theorem q1919 : (Jvm.Cond.methodLink "BloomclockLaw" (193 : Nat) ({ cls := "BloomclockModel", name := "vote", desc := "(II)I" } : Jvm.MethodName)) ∈ lw_all := lw_g (lw_at lw_m8 184 rfl) rfl
theorem q1923 : (Jvm.Cond.methodLink "BloomclockLaw" (196 : Nat) ({ cls := "BloomclockModel", name := "ofCrop", desc := "(II)I" } : Jvm.MethodName)) ∈ lw_all := lw_g (lw_at lw_m8 188 rfl) rfl
theorem q1931 : (Jvm.Cond.methodLink "BloomclockLaw" (199 : Nat) ({ cls := "BloomclockModel", name := "ofLot", desc := "(II)I" } : Jvm.MethodName)) ∈ lw_all := lw_g (lw_at lw_m8 196 rfl) rfl
theorem q1939 : (Jvm.Cond.methodLink "BloomclockLaw" (202 : Nat) ({ cls := "BloomclockModel", name := "ofGrower", desc := "(II)I" } : Jvm.MethodName)) ∈ lw_all := lw_g (lw_at lw_m8 204 rfl) rfl
theorem q1952 : (Jvm.Cond.methodLink "BloomclockLaw" (205 : Nat) ({ cls := "BloomclockModel", name := "ofBuyer", desc := "(II)I" } : Jvm.MethodName)) ∈ lw_all := lw_g (lw_at lw_m8 217 rfl) rfl
theorem q1960 : (Jvm.Cond.methodLink "BloomclockLaw" (208 : Nat) ({ cls := "BloomclockModel", name := "wants", desc := "(I)I" } : Jvm.MethodName)) ∈ lw_all := lw_g (lw_at lw_m8 225 rfl) rfl
theorem q1964 : (Jvm.Cond.methodLink "BloomclockLaw" (211 : Nat) ({ cls := "BloomclockModel", name := "sale", desc := "(II)I" } : Jvm.MethodName)) ∈ lw_all := lw_g (lw_at lw_m8 229 rfl) rfl
theorem q1972 : (Jvm.Cond.methodLink "BloomclockLaw" (214 : Nat) ({ cls := "BloomclockModel", name := "row", desc := "(I)I" } : Jvm.MethodName)) ∈ lw_all := lw_g (lw_at lw_m8 237 rfl) rfl
theorem q1980 : (Jvm.Cond.methodLink "BloomclockLaw" (217 : Nat) ({ cls := "BloomclockModel", name := "many", desc := "(I)I" } : Jvm.MethodName)) ∈ lw_all := lw_g (lw_at lw_m9 5 rfl) rfl
theorem q1988 : (Jvm.Cond.methodLink "BloomclockLaw" (222 : Nat) ({ cls := "BloomclockModel", name := "meanPrice", desc := "()D" } : Jvm.MethodName)) ∈ lw_all := lw_g (lw_at lw_m9 13 rfl) rfl
theorem q1992 : (Jvm.Cond.methodLink "BloomclockLaw" (225 : Nat) ({ cls := "BloomclockModel", name := "wouldFetch", desc := "(I)I" } : Jvm.MethodName)) ∈ lw_all := lw_g (lw_at lw_m9 17 rfl) rfl
theorem q2000 : (Jvm.Cond.methodLink "BloomclockLaw" (228 : Nat) ({ cls := "BloomclockModel", name := "bestMinimum", desc := "(I)I" } : Jvm.MethodName)) ∈ lw_all := lw_g (lw_at lw_m9 25 rfl) rfl
theorem q2012 : (Jvm.Cond.methodLink "BloomclockLaw" (231 : Nat) ({ cls := "BloomclockModel", name := "readyIn", desc := "(I)I" } : Jvm.MethodName)) ∈ lw_all := lw_g (lw_at lw_m9 37 rfl) rfl
theorem q2021 : (Jvm.Cond.methodLink "BloomclockLaw" (234 : Nat) ({ cls := "BloomclockModel", name := "lampsFor", desc := "(II)I" } : Jvm.MethodName)) ∈ lw_all := lw_g (lw_at lw_m9 46 rfl) rfl
theorem q2030 : (Jvm.Cond.methodLink "BloomclockLaw" (239 : Nat) ({ cls := "BloomclockModel", name := "digest", desc := "()J" } : Jvm.MethodName)) ∈ lw_all := lw_g (lw_at lw_m9 55 rfl) rfl
/-! the law's own entry -/
set_option maxRecDepth 100000
abbrev cL_law : ByteArray := code
def dkwL_law_97 : List UInt8 := [172]
abbrev dktL_law_97 : List UInt8 := dkwL_law_97 ++ []
def dkwL_law_96 : List UInt8 := [167, 0, 17, 43, 182, 0, 235, 44, 182, 0, 239, 148, 153, 0, 5, 3, 172, 132, 4, 8, 167, 246, 209, 4]
abbrev dktL_law_96 : List UInt8 := dkwL_law_96 ++ dktL_law_97
def dkwL_law_95 : List UInt8 := [159, 0, 5, 3, 172, 21, 5, 154, 0, 15, 45, 3, 47, 21, 6, 133, 148, 153, 0, 5, 3, 172]
abbrev dktL_law_95 : List UInt8 := dkwL_law_95 ++ dktL_law_96
def dkwL_law_94 : List UInt8 := [21, 4, 4, 96, 46, 42, 21, 4, 5, 96, 46, 182, 0, 234, 54, 6, 44, 182, 0, 128, 21, 5]
abbrev dktL_law_94 : List UInt8 := dkwL_law_94 ++ dktL_law_95
def dkwL_law_93 : List UInt8 := [167, 0, 85, 43, 42, 21, 4, 4, 96, 46, 42, 21, 4, 5, 96, 46, 45, 184, 0, 232, 54, 5, 44, 42]
abbrev dktL_law_93 : List UInt8 := dkwL_law_93 ++ dktL_law_94
def dkwL_law_92 : List UInt8 := [21, 5, 159, 0, 5, 3, 172, 21, 5, 154, 0, 15, 45, 3, 47, 21, 6, 133, 148, 153, 0, 5, 3, 172]
abbrev dktL_law_92 : List UInt8 := dkwL_law_92 ++ dktL_law_93
def dkwL_law_91 : List UInt8 := [46, 45, 184, 0, 229, 54, 5, 44, 42, 21, 4, 4, 96, 46, 182, 0, 231, 54, 6, 44, 182, 0, 128]
abbrev dktL_law_91 : List UInt8 := dkwL_law_91 ++ dktL_law_92
def dkwL_law_90 : List UInt8 := [154, 0, 15, 45, 3, 47, 21, 6, 133, 148, 153, 0, 5, 3, 172, 167, 0, 141, 43, 42, 21, 4, 4, 96]
abbrev dktL_law_90 : List UInt8 := dkwL_law_90 ++ dktL_law_91
def dkwL_law_89 : List UInt8 := [21, 4, 4, 96, 46, 182, 0, 228, 54, 6, 44, 182, 0, 128, 21, 5, 159, 0, 5, 3, 172, 21, 5]
abbrev dktL_law_89 : List UInt8 := dkwL_law_89 ++ dktL_law_90
def dkwL_law_88 : List UInt8 := [153, 0, 5, 3, 172, 167, 0, 197, 43, 42, 21, 4, 4, 96, 46, 45, 184, 0, 226, 54, 5, 44, 42]
abbrev dktL_law_88 : List UInt8 := dkwL_law_88 ++ dktL_law_89
def dkwL_law_87 : List UInt8 := [182, 0, 128, 21, 5, 159, 0, 5, 3, 172, 21, 5, 154, 0, 15, 45, 3, 47, 21, 6, 133, 148]
abbrev dktL_law_87 : List UInt8 := dkwL_law_87 ++ dktL_law_88
def dkwL_law_86 : List UInt8 := [21, 4, 4, 96, 46, 45, 184, 0, 223, 54, 5, 44, 42, 21, 4, 4, 96, 46, 182, 0, 225, 54, 6, 44]
abbrev dktL_law_86 : List UInt8 := dkwL_law_86 ++ dktL_law_87
def dkwL_law_85 : List UInt8 := [24, 5, 24, 5, 151, 153, 0, 11, 24, 7, 24, 7, 151, 154, 0, 5, 3, 172, 167, 0, 253, 43, 42]
abbrev dktL_law_85 : List UInt8 := dkwL_law_85 ++ dktL_law_86
def dkwL_law_84 : List UInt8 := [167, 1, 38, 43, 182, 0, 218, 57, 5, 44, 182, 0, 222, 57, 7, 24, 5, 24, 7, 151, 153, 0, 21]
abbrev dktL_law_84 : List UInt8 := dkwL_law_84 ++ dktL_law_85
def dkwL_law_83 : List UInt8 := [21, 5, 159, 0, 5, 3, 172, 21, 5, 154, 0, 15, 45, 3, 47, 21, 6, 133, 148, 153, 0, 5, 3, 172]
abbrev dktL_law_83 : List UInt8 := dkwL_law_83 ++ dktL_law_84
def dkwL_law_82 : List UInt8 := [46, 45, 184, 0, 215, 54, 5, 44, 42, 21, 4, 4, 96, 46, 182, 0, 217, 54, 6, 44, 182, 0, 128]
abbrev dktL_law_82 : List UInt8 := dkwL_law_82 ++ dktL_law_83
def dkwL_law_81 : List UInt8 := [154, 0, 15, 45, 3, 47, 21, 6, 133, 148, 153, 0, 5, 3, 172, 167, 1, 94, 43, 42, 21, 4, 4, 96]
abbrev dktL_law_81 : List UInt8 := dkwL_law_81 ++ dktL_law_82
def dkwL_law_80 : List UInt8 := [21, 4, 4, 96, 46, 182, 0, 214, 54, 6, 44, 182, 0, 128, 21, 5, 159, 0, 5, 3, 172, 21, 5]
abbrev dktL_law_80 : List UInt8 := dkwL_law_80 ++ dktL_law_81
def dkwL_law_79 : List UInt8 := [148, 153, 0, 5, 3, 172, 167, 1, 150, 43, 42, 21, 4, 4, 96, 46, 45, 184, 0, 212, 54, 5, 44, 42]
abbrev dktL_law_79 : List UInt8 := dkwL_law_79 ++ dktL_law_80
def dkwL_law_78 : List UInt8 := [54, 6, 44, 182, 0, 128, 21, 5, 159, 0, 5, 3, 172, 21, 5, 154, 0, 15, 45, 3, 47, 21, 6, 133]
abbrev dktL_law_78 : List UInt8 := dkwL_law_78 ++ dktL_law_79
def dkwL_law_77 : List UInt8 := [46, 45, 184, 0, 209, 54, 5, 44, 42, 21, 4, 4, 96, 46, 42, 21, 4, 5, 96, 46, 182, 0, 211]
abbrev dktL_law_77 : List UInt8 := dkwL_law_77 ++ dktL_law_78
def dkwL_law_76 : List UInt8 := [21, 6, 133, 148, 153, 0, 5, 3, 172, 167, 1, 218, 43, 42, 21, 4, 4, 96, 46, 42, 21, 4, 5, 96]
abbrev dktL_law_76 : List UInt8 := dkwL_law_76 ++ dktL_law_77
def dkwL_law_75 : List UInt8 := [182, 0, 208, 54, 6, 44, 182, 0, 128, 21, 5, 159, 0, 5, 3, 172, 21, 5, 154, 0, 15, 45, 3, 47]
abbrev dktL_law_75 : List UInt8 := dkwL_law_75 ++ dktL_law_76
def dkwL_law_74 : List UInt8 := [167, 2, 18, 43, 42, 21, 4, 4, 96, 46, 45, 184, 0, 206, 54, 5, 44, 42, 21, 4, 4, 96, 46]
abbrev dktL_law_74 : List UInt8 := dkwL_law_74 ++ dktL_law_75
def dkwL_law_73 : List UInt8 := [159, 0, 5, 3, 172, 21, 5, 154, 0, 15, 45, 3, 47, 21, 6, 133, 148, 153, 0, 5, 3, 172]
abbrev dktL_law_73 : List UInt8 := dkwL_law_73 ++ dktL_law_74
def dkwL_law_72 : List UInt8 := [21, 4, 4, 96, 46, 42, 21, 4, 5, 96, 46, 182, 0, 205, 54, 6, 44, 182, 0, 128, 21, 5]
abbrev dktL_law_72 : List UInt8 := dkwL_law_72 ++ dktL_law_73
def dkwL_law_71 : List UInt8 := [167, 2, 86, 43, 42, 21, 4, 4, 96, 46, 42, 21, 4, 5, 96, 46, 45, 184, 0, 203, 54, 5, 44, 42]
abbrev dktL_law_71 : List UInt8 := dkwL_law_71 ++ dktL_law_72
def dkwL_law_70 : List UInt8 := [159, 0, 5, 3, 172, 21, 5, 154, 0, 15, 45, 3, 47, 21, 6, 133, 148, 153, 0, 5, 3, 172]
abbrev dktL_law_70 : List UInt8 := dkwL_law_70 ++ dktL_law_71
def dkwL_law_69 : List UInt8 := [21, 4, 4, 96, 46, 42, 21, 4, 5, 96, 46, 182, 0, 202, 54, 6, 44, 182, 0, 128, 21, 5]
abbrev dktL_law_69 : List UInt8 := dkwL_law_69 ++ dktL_law_70
def dkwL_law_68 : List UInt8 := [167, 2, 154, 43, 42, 21, 4, 4, 96, 46, 42, 21, 4, 5, 96, 46, 45, 184, 0, 200, 54, 5, 44, 42]
abbrev dktL_law_68 : List UInt8 := dkwL_law_68 ++ dktL_law_69
def dkwL_law_67 : List UInt8 := [159, 0, 5, 3, 172, 21, 5, 154, 0, 15, 45, 3, 47, 21, 6, 133, 148, 153, 0, 5, 3, 172]
abbrev dktL_law_67 : List UInt8 := dkwL_law_67 ++ dktL_law_68
def dkwL_law_66 : List UInt8 := [21, 4, 4, 96, 46, 42, 21, 4, 5, 96, 46, 182, 0, 199, 54, 6, 44, 182, 0, 128, 21, 5]
abbrev dktL_law_66 : List UInt8 := dkwL_law_66 ++ dktL_law_67
def dkwL_law_65 : List UInt8 := [167, 2, 222, 43, 42, 21, 4, 4, 96, 46, 42, 21, 4, 5, 96, 46, 45, 184, 0, 197, 54, 5, 44, 42]
abbrev dktL_law_65 : List UInt8 := dkwL_law_65 ++ dktL_law_66
def dkwL_law_64 : List UInt8 := [159, 0, 5, 3, 172, 21, 5, 154, 0, 15, 45, 3, 47, 21, 6, 133, 148, 153, 0, 5, 3, 172]
abbrev dktL_law_64 : List UInt8 := dkwL_law_64 ++ dktL_law_65
def dkwL_law_63 : List UInt8 := [21, 4, 4, 96, 46, 42, 21, 4, 5, 96, 46, 182, 0, 196, 54, 6, 44, 182, 0, 128, 21, 5]
abbrev dktL_law_63 : List UInt8 := dkwL_law_63 ++ dktL_law_64
def dkwL_law_62 : List UInt8 := [167, 3, 34, 43, 42, 21, 4, 4, 96, 46, 42, 21, 4, 5, 96, 46, 45, 184, 0, 194, 54, 5, 44, 42]
abbrev dktL_law_62 : List UInt8 := dkwL_law_62 ++ dktL_law_63
def dkwL_law_61 : List UInt8 := [159, 0, 5, 3, 172, 21, 5, 154, 0, 15, 45, 3, 47, 21, 6, 133, 148, 153, 0, 5, 3, 172]
abbrev dktL_law_61 : List UInt8 := dkwL_law_61 ++ dktL_law_62
def dkwL_law_60 : List UInt8 := [21, 4, 4, 96, 46, 42, 21, 4, 5, 96, 46, 182, 0, 193, 54, 6, 44, 182, 0, 128, 21, 5]
abbrev dktL_law_60 : List UInt8 := dkwL_law_60 ++ dktL_law_61
def dkwL_law_59 : List UInt8 := [167, 3, 102, 43, 42, 21, 4, 4, 96, 46, 42, 21, 4, 5, 96, 46, 45, 184, 0, 191, 54, 5, 44, 42]
abbrev dktL_law_59 : List UInt8 := dkwL_law_59 ++ dktL_law_60
def dkwL_law_58 : List UInt8 := [21, 5, 159, 0, 5, 3, 172, 21, 5, 154, 0, 15, 45, 3, 47, 21, 6, 133, 148, 153, 0, 5, 3, 172]
abbrev dktL_law_58 : List UInt8 := dkwL_law_58 ++ dktL_law_59
def dkwL_law_57 : List UInt8 := [42, 21, 4, 5, 96, 46, 153, 0, 7, 4, 167, 0, 4, 3, 182, 0, 190, 54, 6, 44, 182, 0, 128]
abbrev dktL_law_57 : List UInt8 := dkwL_law_57 ++ dktL_law_58
def dkwL_law_56 : List UInt8 := [5, 96, 46, 153, 0, 7, 4, 167, 0, 4, 3, 45, 184, 0, 187, 54, 5, 44, 42, 21, 4, 4, 96, 46]
abbrev dktL_law_56 : List UInt8 := dkwL_law_56 ++ dktL_law_57
def dkwL_law_55 : List UInt8 := [3, 47, 21, 6, 133, 148, 153, 0, 5, 3, 172, 167, 3, 186, 43, 42, 21, 4, 4, 96, 46, 42, 21, 4]
abbrev dktL_law_55 : List UInt8 := dkwL_law_55 ++ dktL_law_56
def dkwL_law_54 : List UInt8 := [96, 46, 182, 0, 186, 54, 6, 44, 182, 0, 128, 21, 5, 159, 0, 5, 3, 172, 21, 5, 154, 0, 15, 45]
abbrev dktL_law_54 : List UInt8 := dkwL_law_54 ++ dktL_law_55
def dkwL_law_53 : List UInt8 := [46, 42, 21, 4, 5, 96, 46, 45, 184, 0, 184, 54, 5, 44, 42, 21, 4, 4, 96, 46, 42, 21, 4, 5]
abbrev dktL_law_53 : List UInt8 := dkwL_law_53 ++ dktL_law_54
def dkwL_law_52 : List UInt8 := [154, 0, 15, 45, 3, 47, 21, 6, 133, 148, 153, 0, 5, 3, 172, 167, 3, 254, 43, 42, 21, 4, 4, 96]
abbrev dktL_law_52 : List UInt8 := dkwL_law_52 ++ dktL_law_53
def dkwL_law_51 : List UInt8 := [42, 21, 4, 5, 96, 46, 182, 0, 183, 54, 6, 44, 182, 0, 128, 21, 5, 159, 0, 5, 3, 172, 21, 5]
abbrev dktL_law_51 : List UInt8 := dkwL_law_51 ++ dktL_law_52
def dkwL_law_50 : List UInt8 := [21, 4, 4, 96, 46, 42, 21, 4, 5, 96, 46, 45, 184, 0, 181, 54, 5, 44, 42, 21, 4, 4, 96, 46]
abbrev dktL_law_50 : List UInt8 := dkwL_law_50 ++ dktL_law_51
def dkwL_law_49 : List UInt8 := [172, 21, 5, 154, 0, 15, 45, 3, 47, 21, 6, 133, 148, 153, 0, 5, 3, 172, 167, 4, 66, 43, 42]
abbrev dktL_law_49 : List UInt8 := dkwL_law_49 ++ dktL_law_50
def dkwL_law_48 : List UInt8 := [54, 5, 44, 42, 21, 4, 4, 96, 46, 182, 0, 180, 54, 6, 44, 182, 0, 128, 21, 5, 159, 0, 5, 3]
abbrev dktL_law_48 : List UInt8 := dkwL_law_48 ++ dktL_law_49
def dkwL_law_47 : List UInt8 := [21, 6, 133, 148, 153, 0, 5, 3, 172, 167, 4, 122, 43, 42, 21, 4, 4, 96, 46, 45, 184, 0, 178]
abbrev dktL_law_47 : List UInt8 := dkwL_law_47 ++ dktL_law_48
def dkwL_law_46 : List UInt8 := [182, 0, 177, 54, 6, 44, 182, 0, 128, 21, 5, 159, 0, 5, 3, 172, 21, 5, 154, 0, 15, 45, 3, 47]
abbrev dktL_law_46 : List UInt8 := dkwL_law_46 ++ dktL_law_47
def dkwL_law_45 : List UInt8 := [45, 3, 47, 21, 6, 133, 148, 153, 0, 5, 3, 172, 167, 4, 166, 43, 45, 184, 0, 175, 54, 5, 44]
abbrev dktL_law_45 : List UInt8 := dkwL_law_45 ++ dktL_law_46
def dkwL_law_44 : List UInt8 := [7, 96, 46, 182, 0, 174, 54, 6, 44, 182, 0, 128, 21, 5, 159, 0, 5, 3, 172, 21, 5, 154, 0, 15]
abbrev dktL_law_44 : List UInt8 := dkwL_law_44 ++ dktL_law_45
def dkwL_law_43 : List UInt8 := [54, 5, 44, 42, 21, 4, 4, 96, 46, 42, 21, 4, 5, 96, 46, 42, 21, 4, 6, 96, 46, 42, 21, 4]
abbrev dktL_law_43 : List UInt8 := dkwL_law_43 ++ dktL_law_44
def dkwL_law_42 : List UInt8 := [46, 42, 21, 4, 5, 96, 46, 42, 21, 4, 6, 96, 46, 42, 21, 4, 7, 96, 46, 45, 184, 0, 171]
abbrev dktL_law_42 : List UInt8 := dkwL_law_42 ++ dktL_law_43
def dkwL_law_41 : List UInt8 := [154, 0, 15, 45, 3, 47, 21, 6, 133, 148, 153, 0, 5, 3, 172, 167, 5, 2, 43, 42, 21, 4, 4, 96]
abbrev dktL_law_41 : List UInt8 := dkwL_law_41 ++ dktL_law_42
def dkwL_law_40 : List UInt8 := [184, 0, 168, 54, 5, 44, 182, 0, 170, 54, 6, 44, 182, 0, 128, 21, 5, 159, 0, 5, 3, 172, 21, 5]
abbrev dktL_law_40 : List UInt8 := dkwL_law_40 ++ dktL_law_41
def dkwL_law_39 : List UInt8 := [172, 21, 5, 154, 0, 15, 45, 3, 47, 21, 6, 133, 148, 153, 0, 5, 3, 172, 167, 5, 46, 43, 45]
abbrev dktL_law_39 : List UInt8 := dkwL_law_39 ++ dktL_law_40
def dkwL_law_38 : List UInt8 := [96, 46, 42, 21, 4, 16, 7, 96, 46, 182, 0, 167, 54, 6, 44, 182, 0, 128, 21, 5, 159, 0, 5, 3]
abbrev dktL_law_38 : List UInt8 := dkwL_law_38 ++ dktL_law_39
def dkwL_law_37 : List UInt8 := [46, 42, 21, 4, 6, 96, 46, 42, 21, 4, 7, 96, 46, 42, 21, 4, 8, 96, 46, 42, 21, 4, 16, 6]
abbrev dktL_law_37 : List UInt8 := dkwL_law_37 ++ dktL_law_38
def dkwL_law_36 : List UInt8 := [21, 4, 16, 7, 96, 46, 45, 184, 0, 164, 54, 5, 44, 42, 21, 4, 4, 96, 46, 42, 21, 4, 5, 96]
abbrev dktL_law_36 : List UInt8 := dkwL_law_36 ++ dktL_law_37
def dkwL_law_35 : List UInt8 := [6, 96, 46, 42, 21, 4, 7, 96, 46, 42, 21, 4, 8, 96, 46, 42, 21, 4, 16, 6, 96, 46, 42]
abbrev dktL_law_35 : List UInt8 := dkwL_law_35 ++ dktL_law_36
def dkwL_law_34 : List UInt8 := [153, 0, 5, 3, 172, 167, 5, 178, 43, 42, 21, 4, 4, 96, 46, 42, 21, 4, 5, 96, 46, 42, 21, 4]
abbrev dktL_law_34 : List UInt8 := dkwL_law_34 ++ dktL_law_35
def dkwL_law_33 : List UInt8 := [182, 0, 128, 21, 5, 159, 0, 5, 3, 172, 21, 5, 154, 0, 15, 45, 3, 47, 21, 6, 133, 148]
abbrev dktL_law_33 : List UInt8 := dkwL_law_33 ++ dktL_law_34
def dkwL_law_32 : List UInt8 := [184, 0, 161, 54, 5, 44, 42, 21, 4, 4, 96, 46, 42, 21, 4, 5, 96, 46, 182, 0, 163, 54, 6, 44]
abbrev dktL_law_32 : List UInt8 := dkwL_law_32 ++ dktL_law_33
def dkwL_law_31 : List UInt8 := [153, 0, 5, 3, 172, 167, 5, 246, 43, 42, 21, 4, 4, 96, 46, 42, 21, 4, 5, 96, 46, 45]
abbrev dktL_law_31 : List UInt8 := dkwL_law_31 ++ dktL_law_32
def dkwL_law_30 : List UInt8 := [182, 0, 128, 21, 5, 159, 0, 5, 3, 172, 21, 5, 154, 0, 15, 45, 3, 47, 21, 6, 133, 148]
abbrev dktL_law_30 : List UInt8 := dkwL_law_30 ++ dktL_law_31
def dkwL_law_29 : List UInt8 := [184, 0, 158, 54, 5, 44, 42, 21, 4, 4, 96, 46, 42, 21, 4, 5, 96, 46, 182, 0, 160, 54, 6, 44]
abbrev dktL_law_29 : List UInt8 := dkwL_law_29 ++ dktL_law_30
def dkwL_law_28 : List UInt8 := [153, 0, 5, 3, 172, 167, 6, 58, 43, 42, 21, 4, 4, 96, 46, 42, 21, 4, 5, 96, 46, 45]
abbrev dktL_law_28 : List UInt8 := dkwL_law_28 ++ dktL_law_29
def dkwL_law_27 : List UInt8 := [182, 0, 128, 21, 5, 159, 0, 5, 3, 172, 21, 5, 154, 0, 15, 45, 3, 47, 21, 6, 133, 148]
abbrev dktL_law_27 : List UInt8 := dkwL_law_27 ++ dktL_law_28
def dkwL_law_26 : List UInt8 := [21, 4, 4, 96, 46, 45, 184, 0, 155, 54, 5, 44, 42, 21, 4, 4, 96, 46, 182, 0, 157, 54, 6, 44]
abbrev dktL_law_26 : List UInt8 := dkwL_law_26 ++ dktL_law_27
def dkwL_law_25 : List UInt8 := [172, 21, 5, 154, 0, 15, 45, 3, 47, 21, 6, 133, 148, 153, 0, 5, 3, 172, 167, 6, 114, 43, 42]
abbrev dktL_law_25 : List UInt8 := dkwL_law_25 ++ dktL_law_26
def dkwL_law_24 : List UInt8 := [54, 5, 44, 42, 21, 4, 4, 96, 46, 182, 0, 154, 54, 6, 44, 182, 0, 128, 21, 5, 159, 0, 5, 3]
abbrev dktL_law_24 : List UInt8 := dkwL_law_24 ++ dktL_law_25
def dkwL_law_23 : List UInt8 := [21, 6, 133, 148, 153, 0, 5, 3, 172, 167, 6, 170, 43, 42, 21, 4, 4, 96, 46, 45, 184, 0, 151]
abbrev dktL_law_23 : List UInt8 := dkwL_law_23 ++ dktL_law_24
def dkwL_law_22 : List UInt8 := [182, 0, 150, 54, 6, 44, 182, 0, 128, 21, 5, 159, 0, 5, 3, 172, 21, 5, 154, 0, 15, 45, 3, 47]
abbrev dktL_law_22 : List UInt8 := dkwL_law_22 ++ dktL_law_23
def dkwL_law_21 : List UInt8 := [184, 0, 148, 54, 5, 44, 42, 21, 4, 4, 96, 46, 42, 21, 4, 5, 96, 46, 42, 21, 4, 6, 96, 46]
abbrev dktL_law_21 : List UInt8 := dkwL_law_21 ++ dktL_law_22
def dkwL_law_20 : List UInt8 := [167, 6, 250, 43, 42, 21, 4, 4, 96, 46, 42, 21, 4, 5, 96, 46, 42, 21, 4, 6, 96, 46, 45]
abbrev dktL_law_20 : List UInt8 := dkwL_law_20 ++ dktL_law_21
def dkwL_law_19 : List UInt8 := [159, 0, 5, 3, 172, 21, 5, 154, 0, 15, 45, 3, 47, 21, 6, 133, 148, 153, 0, 5, 3, 172]
abbrev dktL_law_19 : List UInt8 := dkwL_law_19 ++ dktL_law_20
def dkwL_law_18 : List UInt8 := [21, 4, 4, 96, 46, 42, 21, 4, 5, 96, 46, 182, 0, 147, 54, 6, 44, 182, 0, 128, 21, 5]
abbrev dktL_law_18 : List UInt8 := dkwL_law_18 ++ dktL_law_19
def dkwL_law_17 : List UInt8 := [167, 7, 62, 43, 42, 21, 4, 4, 96, 46, 42, 21, 4, 5, 96, 46, 45, 184, 0, 145, 54, 5, 44, 42]
abbrev dktL_law_17 : List UInt8 := dkwL_law_17 ++ dktL_law_18
def dkwL_law_16 : List UInt8 := [159, 0, 5, 3, 172, 21, 5, 154, 0, 15, 45, 3, 47, 21, 6, 133, 148, 153, 0, 5, 3, 172]
abbrev dktL_law_16 : List UInt8 := dkwL_law_16 ++ dktL_law_17
def dkwL_law_15 : List UInt8 := [21, 4, 4, 96, 46, 42, 21, 4, 5, 96, 46, 182, 0, 144, 54, 6, 44, 182, 0, 128, 21, 5]
abbrev dktL_law_15 : List UInt8 := dkwL_law_15 ++ dktL_law_16
def dkwL_law_14 : List UInt8 := [167, 7, 130, 43, 42, 21, 4, 4, 96, 46, 42, 21, 4, 5, 96, 46, 45, 184, 0, 142, 54, 5, 44, 42]
abbrev dktL_law_14 : List UInt8 := dkwL_law_14 ++ dktL_law_15
def dkwL_law_13 : List UInt8 := [159, 0, 5, 3, 172, 21, 5, 154, 0, 15, 45, 3, 47, 21, 6, 133, 148, 153, 0, 5, 3, 172]
abbrev dktL_law_13 : List UInt8 := dkwL_law_13 ++ dktL_law_14
def dkwL_law_12 : List UInt8 := [21, 4, 4, 96, 46, 42, 21, 4, 5, 96, 46, 182, 0, 141, 54, 6, 44, 182, 0, 128, 21, 5]
abbrev dktL_law_12 : List UInt8 := dkwL_law_12 ++ dktL_law_13
def dkwL_law_11 : List UInt8 := [167, 7, 198, 43, 42, 21, 4, 4, 96, 46, 42, 21, 4, 5, 96, 46, 45, 184, 0, 139, 54, 5, 44, 42]
abbrev dktL_law_11 : List UInt8 := dkwL_law_11 ++ dktL_law_12
def dkwL_law_10 : List UInt8 := [21, 5, 159, 0, 5, 3, 172, 21, 5, 154, 0, 15, 45, 3, 47, 21, 6, 133, 148, 153, 0, 5, 3, 172]
abbrev dktL_law_10 : List UInt8 := dkwL_law_10 ++ dktL_law_11
def dkwL_law_9 : List UInt8 := [96, 46, 42, 21, 4, 5, 96, 46, 42, 21, 4, 6, 96, 46, 182, 0, 138, 54, 6, 44, 182, 0, 128]
abbrev dktL_law_9 : List UInt8 := dkwL_law_9 ++ dktL_law_10
def dkwL_law_8 : List UInt8 := [46, 42, 21, 4, 5, 96, 46, 42, 21, 4, 6, 96, 46, 45, 184, 0, 135, 54, 5, 44, 42, 21, 4, 4]
abbrev dktL_law_8 : List UInt8 := dkwL_law_8 ++ dktL_law_9
def dkwL_law_7 : List UInt8 := [154, 0, 15, 45, 3, 47, 21, 6, 133, 148, 153, 0, 5, 3, 172, 167, 8, 22, 43, 42, 21, 4, 4, 96]
abbrev dktL_law_7 : List UInt8 := dkwL_law_7 ++ dktL_law_8
def dkwL_law_6 : List UInt8 := [21, 4, 5, 96, 46, 182, 0, 134, 54, 6, 44, 182, 0, 128, 21, 5, 159, 0, 5, 3, 172, 21, 5]
abbrev dktL_law_6 : List UInt8 := dkwL_law_6 ++ dktL_law_7
def dkwL_law_5 : List UInt8 := [4, 96, 46, 42, 21, 4, 5, 96, 46, 45, 184, 0, 131, 54, 5, 44, 42, 21, 4, 4, 96, 46, 42]
abbrev dktL_law_5 : List UInt8 := dkwL_law_5 ++ dktL_law_6
def dkwL_law_4 : List UInt8 := [21, 5, 154, 0, 15, 45, 3, 47, 21, 6, 133, 148, 153, 0, 5, 3, 172, 167, 8, 90, 43, 42, 21, 4]
abbrev dktL_law_4 : List UInt8 := dkwL_law_4 ++ dktL_law_5
def dkwL_law_3 : List UInt8 := [43, 45, 184, 0, 122, 54, 5, 44, 182, 0, 127, 54, 6, 44, 182, 0, 128, 21, 5, 159, 0, 5, 3, 172]
abbrev dktL_law_3 : List UInt8 := dkwL_law_3 ++ dktL_law_4
def dkwL_law_2 : List UInt8 := [170, 0, 0, 0, 0, 0, 9, 27, 0, 0, 0, 0, 0, 0, 0, 33, 0, 0, 0, 152, 0, 0, 0, 196, 0, 0, 1, 8, 0, 0, 1, 88, 0, 0, 1, 156, 0, 0, 1, 224, 0, 0, 2, 36, 0, 0, 2, 116, 0, 0, 2, 172, 0, 0, 2, 228, 0, 0, 3, 40, 0, 0, 3, 108, 0, 0, 3, 240, 0, 0, 4, 28, 0, 0, 4, 120, 0, 0, 4, 164, 0, 0, 4, 220, 0, 0, 5, 32, 0, 0, 5, 100, 0, 0, 5, 184, 0, 0, 5, 252, 0, 0, 6, 64, 0, 0, 6, 132, 0, 0, 6, 200, 0, 0, 7, 12, 0, 0, 7, 68, 0, 0, 7, 136, 0, 0, 7, 192, 0, 0, 7, 248, 0, 0, 8, 33, 0, 0, 8, 89, 0, 0, 8, 145, 0, 0, 8, 201, 0, 0, 9, 13]
abbrev dktL_law_2 : List UInt8 := dkwL_law_2 ++ dktL_law_3
def dkwL_law_1 : List UInt8 := [21, 4, 42, 190, 16, 8, 100, 163, 9, 43, 42, 21, 4, 46, 16, 63, 126]
abbrev dktL_law_1 : List UInt8 := dkwL_law_1 ++ dktL_law_2
def dkwL_law_0 : List UInt8 := [187, 0, 8, 89, 183, 0, 118, 76, 187, 0, 119, 89, 183, 0, 121, 77, 4, 188, 11, 78, 3, 54, 4]
abbrev dktL_law_0 : List UInt8 := dkwL_law_0 ++ dktL_law_1
theorem dksL_law_0 : cL_law.data.toList.drop 0 = dktL_law_0 := by decide +kernel
theorem dksL_law_1 : cL_law.data.toList.drop 23 = dktL_law_1 := dk_seg dksL_law_0 23 rfl rfl
theorem dksL_law_2 : cL_law.data.toList.drop 40 = dktL_law_2 := dk_seg dksL_law_1 17 rfl rfl
theorem dksL_law_3 : cL_law.data.toList.drop 192 = dktL_law_3 := dk_seg dksL_law_2 152 rfl rfl
theorem dksL_law_4 : cL_law.data.toList.drop 216 = dktL_law_4 := dk_seg dksL_law_3 24 rfl rfl
theorem dksL_law_5 : cL_law.data.toList.drop 240 = dktL_law_5 := dk_seg dksL_law_4 24 rfl rfl
theorem dksL_law_6 : cL_law.data.toList.drop 263 = dktL_law_6 := dk_seg dksL_law_5 23 rfl rfl
theorem dksL_law_7 : cL_law.data.toList.drop 286 = dktL_law_7 := dk_seg dksL_law_6 23 rfl rfl
theorem dksL_law_8 : cL_law.data.toList.drop 310 = dktL_law_8 := dk_seg dksL_law_7 24 rfl rfl
theorem dksL_law_9 : cL_law.data.toList.drop 334 = dktL_law_9 := dk_seg dksL_law_8 24 rfl rfl
theorem dksL_law_10 : cL_law.data.toList.drop 357 = dktL_law_10 := dk_seg dksL_law_9 23 rfl rfl
theorem dksL_law_11 : cL_law.data.toList.drop 381 = dktL_law_11 := dk_seg dksL_law_10 24 rfl rfl
theorem dksL_law_12 : cL_law.data.toList.drop 405 = dktL_law_12 := dk_seg dksL_law_11 24 rfl rfl
theorem dksL_law_13 : cL_law.data.toList.drop 427 = dktL_law_13 := dk_seg dksL_law_12 22 rfl rfl
theorem dksL_law_14 : cL_law.data.toList.drop 449 = dktL_law_14 := dk_seg dksL_law_13 22 rfl rfl
theorem dksL_law_15 : cL_law.data.toList.drop 473 = dktL_law_15 := dk_seg dksL_law_14 24 rfl rfl
theorem dksL_law_16 : cL_law.data.toList.drop 495 = dktL_law_16 := dk_seg dksL_law_15 22 rfl rfl
theorem dksL_law_17 : cL_law.data.toList.drop 517 = dktL_law_17 := dk_seg dksL_law_16 22 rfl rfl
theorem dksL_law_18 : cL_law.data.toList.drop 541 = dktL_law_18 := dk_seg dksL_law_17 24 rfl rfl
theorem dksL_law_19 : cL_law.data.toList.drop 563 = dktL_law_19 := dk_seg dksL_law_18 22 rfl rfl
theorem dksL_law_20 : cL_law.data.toList.drop 585 = dktL_law_20 := dk_seg dksL_law_19 22 rfl rfl
theorem dksL_law_21 : cL_law.data.toList.drop 608 = dktL_law_21 := dk_seg dksL_law_20 23 rfl rfl
theorem dksL_law_22 : cL_law.data.toList.drop 632 = dktL_law_22 := dk_seg dksL_law_21 24 rfl rfl
theorem dksL_law_23 : cL_law.data.toList.drop 656 = dktL_law_23 := dk_seg dksL_law_22 24 rfl rfl
theorem dksL_law_24 : cL_law.data.toList.drop 679 = dktL_law_24 := dk_seg dksL_law_23 23 rfl rfl
theorem dksL_law_25 : cL_law.data.toList.drop 703 = dktL_law_25 := dk_seg dksL_law_24 24 rfl rfl
theorem dksL_law_26 : cL_law.data.toList.drop 726 = dktL_law_26 := dk_seg dksL_law_25 23 rfl rfl
theorem dksL_law_27 : cL_law.data.toList.drop 750 = dktL_law_27 := dk_seg dksL_law_26 24 rfl rfl
theorem dksL_law_28 : cL_law.data.toList.drop 772 = dktL_law_28 := dk_seg dksL_law_27 22 rfl rfl
theorem dksL_law_29 : cL_law.data.toList.drop 794 = dktL_law_29 := dk_seg dksL_law_28 22 rfl rfl
theorem dksL_law_30 : cL_law.data.toList.drop 818 = dktL_law_30 := dk_seg dksL_law_29 24 rfl rfl
theorem dksL_law_31 : cL_law.data.toList.drop 840 = dktL_law_31 := dk_seg dksL_law_30 22 rfl rfl
theorem dksL_law_32 : cL_law.data.toList.drop 862 = dktL_law_32 := dk_seg dksL_law_31 22 rfl rfl
theorem dksL_law_33 : cL_law.data.toList.drop 886 = dktL_law_33 := dk_seg dksL_law_32 24 rfl rfl
theorem dksL_law_34 : cL_law.data.toList.drop 908 = dktL_law_34 := dk_seg dksL_law_33 22 rfl rfl
theorem dksL_law_35 : cL_law.data.toList.drop 932 = dktL_law_35 := dk_seg dksL_law_34 24 rfl rfl
theorem dksL_law_36 : cL_law.data.toList.drop 955 = dktL_law_36 := dk_seg dksL_law_35 23 rfl rfl
theorem dksL_law_37 : cL_law.data.toList.drop 979 = dktL_law_37 := dk_seg dksL_law_36 24 rfl rfl
theorem dksL_law_38 : cL_law.data.toList.drop 1003 = dktL_law_38 := dk_seg dksL_law_37 24 rfl rfl
theorem dksL_law_39 : cL_law.data.toList.drop 1027 = dktL_law_39 := dk_seg dksL_law_38 24 rfl rfl
theorem dksL_law_40 : cL_law.data.toList.drop 1050 = dktL_law_40 := dk_seg dksL_law_39 23 rfl rfl
theorem dksL_law_41 : cL_law.data.toList.drop 1074 = dktL_law_41 := dk_seg dksL_law_40 24 rfl rfl
theorem dksL_law_42 : cL_law.data.toList.drop 1098 = dktL_law_42 := dk_seg dksL_law_41 24 rfl rfl
theorem dksL_law_43 : cL_law.data.toList.drop 1121 = dktL_law_43 := dk_seg dksL_law_42 23 rfl rfl
theorem dksL_law_44 : cL_law.data.toList.drop 1145 = dktL_law_44 := dk_seg dksL_law_43 24 rfl rfl
theorem dksL_law_45 : cL_law.data.toList.drop 1169 = dktL_law_45 := dk_seg dksL_law_44 24 rfl rfl
theorem dksL_law_46 : cL_law.data.toList.drop 1192 = dktL_law_46 := dk_seg dksL_law_45 23 rfl rfl
theorem dksL_law_47 : cL_law.data.toList.drop 1216 = dktL_law_47 := dk_seg dksL_law_46 24 rfl rfl
theorem dksL_law_48 : cL_law.data.toList.drop 1239 = dktL_law_48 := dk_seg dksL_law_47 23 rfl rfl
theorem dksL_law_49 : cL_law.data.toList.drop 1263 = dktL_law_49 := dk_seg dksL_law_48 24 rfl rfl
theorem dksL_law_50 : cL_law.data.toList.drop 1286 = dktL_law_50 := dk_seg dksL_law_49 23 rfl rfl
theorem dksL_law_51 : cL_law.data.toList.drop 1310 = dktL_law_51 := dk_seg dksL_law_50 24 rfl rfl
theorem dksL_law_52 : cL_law.data.toList.drop 1334 = dktL_law_52 := dk_seg dksL_law_51 24 rfl rfl
theorem dksL_law_53 : cL_law.data.toList.drop 1358 = dktL_law_53 := dk_seg dksL_law_52 24 rfl rfl
theorem dksL_law_54 : cL_law.data.toList.drop 1382 = dktL_law_54 := dk_seg dksL_law_53 24 rfl rfl
theorem dksL_law_55 : cL_law.data.toList.drop 1406 = dktL_law_55 := dk_seg dksL_law_54 24 rfl rfl
theorem dksL_law_56 : cL_law.data.toList.drop 1430 = dktL_law_56 := dk_seg dksL_law_55 24 rfl rfl
theorem dksL_law_57 : cL_law.data.toList.drop 1454 = dktL_law_57 := dk_seg dksL_law_56 24 rfl rfl
theorem dksL_law_58 : cL_law.data.toList.drop 1477 = dktL_law_58 := dk_seg dksL_law_57 23 rfl rfl
theorem dksL_law_59 : cL_law.data.toList.drop 1501 = dktL_law_59 := dk_seg dksL_law_58 24 rfl rfl
theorem dksL_law_60 : cL_law.data.toList.drop 1525 = dktL_law_60 := dk_seg dksL_law_59 24 rfl rfl
theorem dksL_law_61 : cL_law.data.toList.drop 1547 = dktL_law_61 := dk_seg dksL_law_60 22 rfl rfl
theorem dksL_law_62 : cL_law.data.toList.drop 1569 = dktL_law_62 := dk_seg dksL_law_61 22 rfl rfl
theorem dksL_law_63 : cL_law.data.toList.drop 1593 = dktL_law_63 := dk_seg dksL_law_62 24 rfl rfl
theorem dksL_law_64 : cL_law.data.toList.drop 1615 = dktL_law_64 := dk_seg dksL_law_63 22 rfl rfl
theorem dksL_law_65 : cL_law.data.toList.drop 1637 = dktL_law_65 := dk_seg dksL_law_64 22 rfl rfl
theorem dksL_law_66 : cL_law.data.toList.drop 1661 = dktL_law_66 := dk_seg dksL_law_65 24 rfl rfl
theorem dksL_law_67 : cL_law.data.toList.drop 1683 = dktL_law_67 := dk_seg dksL_law_66 22 rfl rfl
theorem dksL_law_68 : cL_law.data.toList.drop 1705 = dktL_law_68 := dk_seg dksL_law_67 22 rfl rfl
theorem dksL_law_69 : cL_law.data.toList.drop 1729 = dktL_law_69 := dk_seg dksL_law_68 24 rfl rfl
theorem dksL_law_70 : cL_law.data.toList.drop 1751 = dktL_law_70 := dk_seg dksL_law_69 22 rfl rfl
theorem dksL_law_71 : cL_law.data.toList.drop 1773 = dktL_law_71 := dk_seg dksL_law_70 22 rfl rfl
theorem dksL_law_72 : cL_law.data.toList.drop 1797 = dktL_law_72 := dk_seg dksL_law_71 24 rfl rfl
theorem dksL_law_73 : cL_law.data.toList.drop 1819 = dktL_law_73 := dk_seg dksL_law_72 22 rfl rfl
theorem dksL_law_74 : cL_law.data.toList.drop 1841 = dktL_law_74 := dk_seg dksL_law_73 22 rfl rfl
theorem dksL_law_75 : cL_law.data.toList.drop 1864 = dktL_law_75 := dk_seg dksL_law_74 23 rfl rfl
theorem dksL_law_76 : cL_law.data.toList.drop 1888 = dktL_law_76 := dk_seg dksL_law_75 24 rfl rfl
theorem dksL_law_77 : cL_law.data.toList.drop 1912 = dktL_law_77 := dk_seg dksL_law_76 24 rfl rfl
theorem dksL_law_78 : cL_law.data.toList.drop 1935 = dktL_law_78 := dk_seg dksL_law_77 23 rfl rfl
theorem dksL_law_79 : cL_law.data.toList.drop 1959 = dktL_law_79 := dk_seg dksL_law_78 24 rfl rfl
theorem dksL_law_80 : cL_law.data.toList.drop 1983 = dktL_law_80 := dk_seg dksL_law_79 24 rfl rfl
theorem dksL_law_81 : cL_law.data.toList.drop 2006 = dktL_law_81 := dk_seg dksL_law_80 23 rfl rfl
theorem dksL_law_82 : cL_law.data.toList.drop 2030 = dktL_law_82 := dk_seg dksL_law_81 24 rfl rfl
theorem dksL_law_83 : cL_law.data.toList.drop 2053 = dktL_law_83 := dk_seg dksL_law_82 23 rfl rfl
theorem dksL_law_84 : cL_law.data.toList.drop 2077 = dktL_law_84 := dk_seg dksL_law_83 24 rfl rfl
theorem dksL_law_85 : cL_law.data.toList.drop 2100 = dktL_law_85 := dk_seg dksL_law_84 23 rfl rfl
theorem dksL_law_86 : cL_law.data.toList.drop 2123 = dktL_law_86 := dk_seg dksL_law_85 23 rfl rfl
theorem dksL_law_87 : cL_law.data.toList.drop 2147 = dktL_law_87 := dk_seg dksL_law_86 24 rfl rfl
theorem dksL_law_88 : cL_law.data.toList.drop 2169 = dktL_law_88 := dk_seg dksL_law_87 22 rfl rfl
theorem dksL_law_89 : cL_law.data.toList.drop 2192 = dktL_law_89 := dk_seg dksL_law_88 23 rfl rfl
theorem dksL_law_90 : cL_law.data.toList.drop 2215 = dktL_law_90 := dk_seg dksL_law_89 23 rfl rfl
theorem dksL_law_91 : cL_law.data.toList.drop 2239 = dktL_law_91 := dk_seg dksL_law_90 24 rfl rfl
theorem dksL_law_92 : cL_law.data.toList.drop 2262 = dktL_law_92 := dk_seg dksL_law_91 23 rfl rfl
theorem dksL_law_93 : cL_law.data.toList.drop 2286 = dktL_law_93 := dk_seg dksL_law_92 24 rfl rfl
theorem dksL_law_94 : cL_law.data.toList.drop 2310 = dktL_law_94 := dk_seg dksL_law_93 24 rfl rfl
theorem dksL_law_95 : cL_law.data.toList.drop 2332 = dktL_law_95 := dk_seg dksL_law_94 22 rfl rfl
theorem dksL_law_96 : cL_law.data.toList.drop 2354 = dktL_law_96 := dk_seg dksL_law_95 22 rfl rfl
theorem dksL_law_97 : cL_law.data.toList.drop 2378 = dktL_law_97 := dk_seg dksL_law_96 24 rfl rfl
theorem dL_law_0 : decode cL_law 0 = .ok (.new 8, 3) := dk_187 0 8 (dk_at dksL_law_0 0 rfl rfl)
theorem dL_law_3 : decode cL_law 3 = .ok (.dup, 1) := dk_89 (dk_at dksL_law_0 3 rfl rfl)
theorem dL_law_4 : decode cL_law 4 = .ok (.invokespecial 118, 3) := dk_183 0 118 (dk_at dksL_law_0 4 rfl rfl)
theorem dL_law_7 : decode cL_law 7 = .ok (.astore_n 1, 1) := dk_76 (dk_at dksL_law_0 7 rfl rfl)
theorem dL_law_8 : decode cL_law 8 = .ok (.new 119, 3) := dk_187 0 119 (dk_at dksL_law_0 8 rfl rfl)
theorem dL_law_11 : decode cL_law 11 = .ok (.dup, 1) := dk_89 (dk_at dksL_law_0 11 rfl rfl)
theorem dL_law_12 : decode cL_law 12 = .ok (.invokespecial 121, 3) := dk_183 0 121 (dk_at dksL_law_0 12 rfl rfl)
theorem dL_law_15 : decode cL_law 15 = .ok (.astore_n 2, 1) := dk_77 (dk_at dksL_law_0 15 rfl rfl)
theorem dL_law_16 : decode cL_law 16 = .ok (.iconst 1, 1) := dk_4 (dk_at dksL_law_0 16 rfl rfl)
theorem dL_law_17 : decode cL_law 17 = .ok (.newarray .long, 2) := dk_188_11 (dk_at dksL_law_0 17 rfl rfl)
theorem dL_law_19 : decode cL_law 19 = .ok (.astore_n 3, 1) := dk_78 (dk_at dksL_law_0 19 rfl rfl)
theorem dL_law_20 : decode cL_law 20 = .ok (.iconst 0, 1) := dk_3 (dk_at dksL_law_0 20 rfl rfl)
theorem dL_law_21 : decode cL_law 21 = .ok (.istore 4, 2) := dk_54 4 (dk_at dksL_law_0 21 rfl rfl)
theorem dL_law_23 : decode cL_law 23 = .ok (.iload 4, 2) := dk_21 4 (dk_at dksL_law_1 0 rfl rfl)
theorem dL_law_25 : decode cL_law 25 = .ok (.aload_n 0, 1) := dk_42 (dk_at dksL_law_1 2 rfl rfl)
theorem dL_law_26 : decode cL_law 26 = .ok (.arraylength, 1) := dk_190 (dk_at dksL_law_1 3 rfl rfl)
theorem dL_law_27 : decode cL_law 27 = .ok (.bipush 8, 2) := dk_16 8 (dk_at dksL_law_1 4 rfl rfl)
theorem dL_law_29 : decode cL_law 29 = .ok (.isub, 1) := dk_100 (dk_at dksL_law_1 6 rfl rfl)
theorem dL_law_30 : decode cL_law 30 = .ok (.if_icmp .gt 2347, 3) := dk_163 9 43 (dk_at dksL_law_1 7 rfl rfl)
theorem dL_law_33 : decode cL_law 33 = .ok (.aload_n 0, 1) := dk_42 (dk_at dksL_law_1 10 rfl rfl)
theorem dL_law_34 : decode cL_law 34 = .ok (.iload 4, 2) := dk_21 4 (dk_at dksL_law_1 11 rfl rfl)
theorem dL_law_36 : decode cL_law 36 = .ok (.iaload, 1) := dk_46 (dk_at dksL_law_1 13 rfl rfl)
theorem dL_law_37 : decode cL_law 37 = .ok (.bipush 63, 2) := dk_16 63 (dk_at dksL_law_1 14 rfl rfl)
theorem dL_law_39 : decode cL_law 39 = .ok (.iand, 1) := dk_126 (dk_at dksL_law_1 16 rfl rfl)
theorem dL_law_40 : decode cL_law 40 = .ok (.tableswitch 2331 0 33 #[152, 196, 264, 344, 412, 480, 548, 628, 684, 740, 808, 876, 1008, 1052, 1144, 1188, 1244, 1312, 1380, 1464, 1532, 1600, 1668, 1736, 1804, 1860, 1928, 1984, 2040, 2081, 2137, 2193, 2249, 2317], 152) := by decide +kernel
theorem dL_law_192 : decode cL_law 192 = .ok (.aload_n 1, 1) := dk_43 (dk_at dksL_law_3 0 rfl rfl)
theorem dL_law_193 : decode cL_law 193 = .ok (.aload_n 3, 1) := dk_45 (dk_at dksL_law_3 1 rfl rfl)
theorem dL_law_194 : decode cL_law 194 = .ok (.invokestatic 122, 3) := dk_184 0 122 (dk_at dksL_law_3 2 rfl rfl)
theorem dL_law_197 : decode cL_law 197 = .ok (.istore 5, 2) := dk_54 5 (dk_at dksL_law_3 5 rfl rfl)
theorem dL_law_199 : decode cL_law 199 = .ok (.aload_n 2, 1) := dk_44 (dk_at dksL_law_3 7 rfl rfl)
theorem dL_law_200 : decode cL_law 200 = .ok (.invokevirtual 127, 3) := dk_182 0 127 (dk_at dksL_law_3 8 rfl rfl)
theorem dL_law_203 : decode cL_law 203 = .ok (.istore 6, 2) := dk_54 6 (dk_at dksL_law_3 11 rfl rfl)
theorem dL_law_205 : decode cL_law 205 = .ok (.aload_n 2, 1) := dk_44 (dk_at dksL_law_3 13 rfl rfl)
theorem dL_law_206 : decode cL_law 206 = .ok (.invokevirtual 128, 3) := dk_182 0 128 (dk_at dksL_law_3 14 rfl rfl)
theorem dL_law_209 : decode cL_law 209 = .ok (.iload 5, 2) := dk_21 5 (dk_at dksL_law_3 17 rfl rfl)
theorem dL_law_211 : decode cL_law 211 = .ok (.if_icmp .eq 5, 3) := dk_159 0 5 (dk_at dksL_law_3 19 rfl rfl)
theorem dL_law_214 : decode cL_law 214 = .ok (.iconst 0, 1) := dk_3 (dk_at dksL_law_3 22 rfl rfl)
theorem dL_law_215 : decode cL_law 215 = .ok (.ireturn, 1) := dk_172 (dk_at dksL_law_3 23 rfl rfl)
theorem dL_law_216 : decode cL_law 216 = .ok (.iload 5, 2) := dk_21 5 (dk_at dksL_law_4 0 rfl rfl)
theorem dL_law_218 : decode cL_law 218 = .ok (.ifCond .ne 15, 3) := dk_154 0 15 (dk_at dksL_law_4 2 rfl rfl)
theorem dL_law_221 : decode cL_law 221 = .ok (.aload_n 3, 1) := dk_45 (dk_at dksL_law_4 5 rfl rfl)
theorem dL_law_222 : decode cL_law 222 = .ok (.iconst 0, 1) := dk_3 (dk_at dksL_law_4 6 rfl rfl)
theorem dL_law_223 : decode cL_law 223 = .ok (.laload, 1) := dk_47 (dk_at dksL_law_4 7 rfl rfl)
theorem dL_law_224 : decode cL_law 224 = .ok (.iload 6, 2) := dk_21 6 (dk_at dksL_law_4 8 rfl rfl)
theorem dL_law_226 : decode cL_law 226 = .ok (.i2l, 1) := dk_133 (dk_at dksL_law_4 10 rfl rfl)
theorem dL_law_227 : decode cL_law 227 = .ok (.lcmp, 1) := dk_148 (dk_at dksL_law_4 11 rfl rfl)
theorem dL_law_228 : decode cL_law 228 = .ok (.ifCond .eq 5, 3) := dk_153 0 5 (dk_at dksL_law_4 12 rfl rfl)
theorem dL_law_231 : decode cL_law 231 = .ok (.iconst 0, 1) := dk_3 (dk_at dksL_law_4 15 rfl rfl)
theorem dL_law_232 : decode cL_law 232 = .ok (.ireturn, 1) := dk_172 (dk_at dksL_law_4 16 rfl rfl)
theorem dL_law_233 : decode cL_law 233 = .ok (.goto 2138, 3) := dk_167 8 90 (dk_at dksL_law_4 17 rfl rfl)
theorem dL_law_236 : decode cL_law 236 = .ok (.aload_n 1, 1) := dk_43 (dk_at dksL_law_4 20 rfl rfl)
theorem dL_law_237 : decode cL_law 237 = .ok (.aload_n 0, 1) := dk_42 (dk_at dksL_law_4 21 rfl rfl)
theorem dL_law_238 : decode cL_law 238 = .ok (.iload 4, 2) := dk_21 4 (dk_at dksL_law_4 22 rfl rfl)
theorem dL_law_240 : decode cL_law 240 = .ok (.iconst 1, 1) := dk_4 (dk_at dksL_law_5 0 rfl rfl)
theorem dL_law_241 : decode cL_law 241 = .ok (.iadd, 1) := dk_96 (dk_at dksL_law_5 1 rfl rfl)
theorem dL_law_242 : decode cL_law 242 = .ok (.iaload, 1) := dk_46 (dk_at dksL_law_5 2 rfl rfl)
theorem dL_law_243 : decode cL_law 243 = .ok (.aload_n 0, 1) := dk_42 (dk_at dksL_law_5 3 rfl rfl)
theorem dL_law_244 : decode cL_law 244 = .ok (.iload 4, 2) := dk_21 4 (dk_at dksL_law_5 4 rfl rfl)
theorem dL_law_246 : decode cL_law 246 = .ok (.iconst 2, 1) := dk_5 (dk_at dksL_law_5 6 rfl rfl)
theorem dL_law_247 : decode cL_law 247 = .ok (.iadd, 1) := dk_96 (dk_at dksL_law_5 7 rfl rfl)
theorem dL_law_248 : decode cL_law 248 = .ok (.iaload, 1) := dk_46 (dk_at dksL_law_5 8 rfl rfl)
theorem dL_law_249 : decode cL_law 249 = .ok (.aload_n 3, 1) := dk_45 (dk_at dksL_law_5 9 rfl rfl)
theorem dL_law_250 : decode cL_law 250 = .ok (.invokestatic 131, 3) := dk_184 0 131 (dk_at dksL_law_5 10 rfl rfl)
theorem dL_law_253 : decode cL_law 253 = .ok (.istore 5, 2) := dk_54 5 (dk_at dksL_law_5 13 rfl rfl)
theorem dL_law_255 : decode cL_law 255 = .ok (.aload_n 2, 1) := dk_44 (dk_at dksL_law_5 15 rfl rfl)
theorem dL_law_256 : decode cL_law 256 = .ok (.aload_n 0, 1) := dk_42 (dk_at dksL_law_5 16 rfl rfl)
theorem dL_law_257 : decode cL_law 257 = .ok (.iload 4, 2) := dk_21 4 (dk_at dksL_law_5 17 rfl rfl)
theorem dL_law_259 : decode cL_law 259 = .ok (.iconst 1, 1) := dk_4 (dk_at dksL_law_5 19 rfl rfl)
theorem dL_law_260 : decode cL_law 260 = .ok (.iadd, 1) := dk_96 (dk_at dksL_law_5 20 rfl rfl)
theorem dL_law_261 : decode cL_law 261 = .ok (.iaload, 1) := dk_46 (dk_at dksL_law_5 21 rfl rfl)
theorem dL_law_262 : decode cL_law 262 = .ok (.aload_n 0, 1) := dk_42 (dk_at dksL_law_5 22 rfl rfl)
theorem dL_law_263 : decode cL_law 263 = .ok (.iload 4, 2) := dk_21 4 (dk_at dksL_law_6 0 rfl rfl)
theorem dL_law_265 : decode cL_law 265 = .ok (.iconst 2, 1) := dk_5 (dk_at dksL_law_6 2 rfl rfl)
theorem dL_law_266 : decode cL_law 266 = .ok (.iadd, 1) := dk_96 (dk_at dksL_law_6 3 rfl rfl)
theorem dL_law_267 : decode cL_law 267 = .ok (.iaload, 1) := dk_46 (dk_at dksL_law_6 4 rfl rfl)
theorem dL_law_268 : decode cL_law 268 = .ok (.invokevirtual 134, 3) := dk_182 0 134 (dk_at dksL_law_6 5 rfl rfl)
theorem dL_law_271 : decode cL_law 271 = .ok (.istore 6, 2) := dk_54 6 (dk_at dksL_law_6 8 rfl rfl)
theorem dL_law_273 : decode cL_law 273 = .ok (.aload_n 2, 1) := dk_44 (dk_at dksL_law_6 10 rfl rfl)
theorem dL_law_274 : decode cL_law 274 = .ok (.invokevirtual 128, 3) := dk_182 0 128 (dk_at dksL_law_6 11 rfl rfl)
theorem dL_law_277 : decode cL_law 277 = .ok (.iload 5, 2) := dk_21 5 (dk_at dksL_law_6 14 rfl rfl)
theorem dL_law_279 : decode cL_law 279 = .ok (.if_icmp .eq 5, 3) := dk_159 0 5 (dk_at dksL_law_6 16 rfl rfl)
theorem dL_law_282 : decode cL_law 282 = .ok (.iconst 0, 1) := dk_3 (dk_at dksL_law_6 19 rfl rfl)
theorem dL_law_283 : decode cL_law 283 = .ok (.ireturn, 1) := dk_172 (dk_at dksL_law_6 20 rfl rfl)
theorem dL_law_284 : decode cL_law 284 = .ok (.iload 5, 2) := dk_21 5 (dk_at dksL_law_6 21 rfl rfl)
theorem dL_law_286 : decode cL_law 286 = .ok (.ifCond .ne 15, 3) := dk_154 0 15 (dk_at dksL_law_7 0 rfl rfl)
theorem dL_law_289 : decode cL_law 289 = .ok (.aload_n 3, 1) := dk_45 (dk_at dksL_law_7 3 rfl rfl)
theorem dL_law_290 : decode cL_law 290 = .ok (.iconst 0, 1) := dk_3 (dk_at dksL_law_7 4 rfl rfl)
theorem dL_law_291 : decode cL_law 291 = .ok (.laload, 1) := dk_47 (dk_at dksL_law_7 5 rfl rfl)
theorem dL_law_292 : decode cL_law 292 = .ok (.iload 6, 2) := dk_21 6 (dk_at dksL_law_7 6 rfl rfl)
theorem dL_law_294 : decode cL_law 294 = .ok (.i2l, 1) := dk_133 (dk_at dksL_law_7 8 rfl rfl)
theorem dL_law_295 : decode cL_law 295 = .ok (.lcmp, 1) := dk_148 (dk_at dksL_law_7 9 rfl rfl)
theorem dL_law_296 : decode cL_law 296 = .ok (.ifCond .eq 5, 3) := dk_153 0 5 (dk_at dksL_law_7 10 rfl rfl)
theorem dL_law_299 : decode cL_law 299 = .ok (.iconst 0, 1) := dk_3 (dk_at dksL_law_7 13 rfl rfl)
theorem dL_law_300 : decode cL_law 300 = .ok (.ireturn, 1) := dk_172 (dk_at dksL_law_7 14 rfl rfl)
theorem dL_law_301 : decode cL_law 301 = .ok (.goto 2070, 3) := dk_167 8 22 (dk_at dksL_law_7 15 rfl rfl)
theorem dL_law_304 : decode cL_law 304 = .ok (.aload_n 1, 1) := dk_43 (dk_at dksL_law_7 18 rfl rfl)
theorem dL_law_305 : decode cL_law 305 = .ok (.aload_n 0, 1) := dk_42 (dk_at dksL_law_7 19 rfl rfl)
theorem dL_law_306 : decode cL_law 306 = .ok (.iload 4, 2) := dk_21 4 (dk_at dksL_law_7 20 rfl rfl)
theorem dL_law_308 : decode cL_law 308 = .ok (.iconst 1, 1) := dk_4 (dk_at dksL_law_7 22 rfl rfl)
theorem dL_law_309 : decode cL_law 309 = .ok (.iadd, 1) := dk_96 (dk_at dksL_law_7 23 rfl rfl)
theorem dL_law_310 : decode cL_law 310 = .ok (.iaload, 1) := dk_46 (dk_at dksL_law_8 0 rfl rfl)
theorem dL_law_311 : decode cL_law 311 = .ok (.aload_n 0, 1) := dk_42 (dk_at dksL_law_8 1 rfl rfl)
theorem dL_law_312 : decode cL_law 312 = .ok (.iload 4, 2) := dk_21 4 (dk_at dksL_law_8 2 rfl rfl)
theorem dL_law_314 : decode cL_law 314 = .ok (.iconst 2, 1) := dk_5 (dk_at dksL_law_8 4 rfl rfl)
theorem dL_law_315 : decode cL_law 315 = .ok (.iadd, 1) := dk_96 (dk_at dksL_law_8 5 rfl rfl)
theorem dL_law_316 : decode cL_law 316 = .ok (.iaload, 1) := dk_46 (dk_at dksL_law_8 6 rfl rfl)
theorem dL_law_317 : decode cL_law 317 = .ok (.aload_n 0, 1) := dk_42 (dk_at dksL_law_8 7 rfl rfl)
theorem dL_law_318 : decode cL_law 318 = .ok (.iload 4, 2) := dk_21 4 (dk_at dksL_law_8 8 rfl rfl)
theorem dL_law_320 : decode cL_law 320 = .ok (.iconst 3, 1) := dk_6 (dk_at dksL_law_8 10 rfl rfl)
theorem dL_law_321 : decode cL_law 321 = .ok (.iadd, 1) := dk_96 (dk_at dksL_law_8 11 rfl rfl)
theorem dL_law_322 : decode cL_law 322 = .ok (.iaload, 1) := dk_46 (dk_at dksL_law_8 12 rfl rfl)
theorem dL_law_323 : decode cL_law 323 = .ok (.aload_n 3, 1) := dk_45 (dk_at dksL_law_8 13 rfl rfl)
theorem dL_law_324 : decode cL_law 324 = .ok (.invokestatic 135, 3) := dk_184 0 135 (dk_at dksL_law_8 14 rfl rfl)
theorem dL_law_327 : decode cL_law 327 = .ok (.istore 5, 2) := dk_54 5 (dk_at dksL_law_8 17 rfl rfl)
theorem dL_law_329 : decode cL_law 329 = .ok (.aload_n 2, 1) := dk_44 (dk_at dksL_law_8 19 rfl rfl)
theorem dL_law_330 : decode cL_law 330 = .ok (.aload_n 0, 1) := dk_42 (dk_at dksL_law_8 20 rfl rfl)
theorem dL_law_331 : decode cL_law 331 = .ok (.iload 4, 2) := dk_21 4 (dk_at dksL_law_8 21 rfl rfl)
theorem dL_law_333 : decode cL_law 333 = .ok (.iconst 1, 1) := dk_4 (dk_at dksL_law_8 23 rfl rfl)
theorem dL_law_334 : decode cL_law 334 = .ok (.iadd, 1) := dk_96 (dk_at dksL_law_9 0 rfl rfl)
theorem dL_law_335 : decode cL_law 335 = .ok (.iaload, 1) := dk_46 (dk_at dksL_law_9 1 rfl rfl)
theorem dL_law_336 : decode cL_law 336 = .ok (.aload_n 0, 1) := dk_42 (dk_at dksL_law_9 2 rfl rfl)
theorem dL_law_337 : decode cL_law 337 = .ok (.iload 4, 2) := dk_21 4 (dk_at dksL_law_9 3 rfl rfl)
theorem dL_law_339 : decode cL_law 339 = .ok (.iconst 2, 1) := dk_5 (dk_at dksL_law_9 5 rfl rfl)
theorem dL_law_340 : decode cL_law 340 = .ok (.iadd, 1) := dk_96 (dk_at dksL_law_9 6 rfl rfl)
theorem dL_law_341 : decode cL_law 341 = .ok (.iaload, 1) := dk_46 (dk_at dksL_law_9 7 rfl rfl)
theorem dL_law_342 : decode cL_law 342 = .ok (.aload_n 0, 1) := dk_42 (dk_at dksL_law_9 8 rfl rfl)
theorem dL_law_343 : decode cL_law 343 = .ok (.iload 4, 2) := dk_21 4 (dk_at dksL_law_9 9 rfl rfl)
theorem dL_law_345 : decode cL_law 345 = .ok (.iconst 3, 1) := dk_6 (dk_at dksL_law_9 11 rfl rfl)
theorem dL_law_346 : decode cL_law 346 = .ok (.iadd, 1) := dk_96 (dk_at dksL_law_9 12 rfl rfl)
theorem dL_law_347 : decode cL_law 347 = .ok (.iaload, 1) := dk_46 (dk_at dksL_law_9 13 rfl rfl)
theorem dL_law_348 : decode cL_law 348 = .ok (.invokevirtual 138, 3) := dk_182 0 138 (dk_at dksL_law_9 14 rfl rfl)
theorem dL_law_351 : decode cL_law 351 = .ok (.istore 6, 2) := dk_54 6 (dk_at dksL_law_9 17 rfl rfl)
theorem dL_law_353 : decode cL_law 353 = .ok (.aload_n 2, 1) := dk_44 (dk_at dksL_law_9 19 rfl rfl)
theorem dL_law_354 : decode cL_law 354 = .ok (.invokevirtual 128, 3) := dk_182 0 128 (dk_at dksL_law_9 20 rfl rfl)
theorem dL_law_357 : decode cL_law 357 = .ok (.iload 5, 2) := dk_21 5 (dk_at dksL_law_10 0 rfl rfl)
theorem dL_law_359 : decode cL_law 359 = .ok (.if_icmp .eq 5, 3) := dk_159 0 5 (dk_at dksL_law_10 2 rfl rfl)
theorem dL_law_362 : decode cL_law 362 = .ok (.iconst 0, 1) := dk_3 (dk_at dksL_law_10 5 rfl rfl)
theorem dL_law_363 : decode cL_law 363 = .ok (.ireturn, 1) := dk_172 (dk_at dksL_law_10 6 rfl rfl)
theorem dL_law_364 : decode cL_law 364 = .ok (.iload 5, 2) := dk_21 5 (dk_at dksL_law_10 7 rfl rfl)
theorem dL_law_366 : decode cL_law 366 = .ok (.ifCond .ne 15, 3) := dk_154 0 15 (dk_at dksL_law_10 9 rfl rfl)
theorem dL_law_369 : decode cL_law 369 = .ok (.aload_n 3, 1) := dk_45 (dk_at dksL_law_10 12 rfl rfl)
theorem dL_law_370 : decode cL_law 370 = .ok (.iconst 0, 1) := dk_3 (dk_at dksL_law_10 13 rfl rfl)
theorem dL_law_371 : decode cL_law 371 = .ok (.laload, 1) := dk_47 (dk_at dksL_law_10 14 rfl rfl)
theorem dL_law_372 : decode cL_law 372 = .ok (.iload 6, 2) := dk_21 6 (dk_at dksL_law_10 15 rfl rfl)
theorem dL_law_374 : decode cL_law 374 = .ok (.i2l, 1) := dk_133 (dk_at dksL_law_10 17 rfl rfl)
theorem dL_law_375 : decode cL_law 375 = .ok (.lcmp, 1) := dk_148 (dk_at dksL_law_10 18 rfl rfl)
theorem dL_law_376 : decode cL_law 376 = .ok (.ifCond .eq 5, 3) := dk_153 0 5 (dk_at dksL_law_10 19 rfl rfl)
theorem dL_law_379 : decode cL_law 379 = .ok (.iconst 0, 1) := dk_3 (dk_at dksL_law_10 22 rfl rfl)
theorem dL_law_380 : decode cL_law 380 = .ok (.ireturn, 1) := dk_172 (dk_at dksL_law_10 23 rfl rfl)
theorem dL_law_381 : decode cL_law 381 = .ok (.goto 1990, 3) := dk_167 7 198 (dk_at dksL_law_11 0 rfl rfl)
theorem dL_law_384 : decode cL_law 384 = .ok (.aload_n 1, 1) := dk_43 (dk_at dksL_law_11 3 rfl rfl)
theorem dL_law_385 : decode cL_law 385 = .ok (.aload_n 0, 1) := dk_42 (dk_at dksL_law_11 4 rfl rfl)
theorem dL_law_386 : decode cL_law 386 = .ok (.iload 4, 2) := dk_21 4 (dk_at dksL_law_11 5 rfl rfl)
theorem dL_law_388 : decode cL_law 388 = .ok (.iconst 1, 1) := dk_4 (dk_at dksL_law_11 7 rfl rfl)
theorem dL_law_389 : decode cL_law 389 = .ok (.iadd, 1) := dk_96 (dk_at dksL_law_11 8 rfl rfl)
theorem dL_law_390 : decode cL_law 390 = .ok (.iaload, 1) := dk_46 (dk_at dksL_law_11 9 rfl rfl)
theorem dL_law_391 : decode cL_law 391 = .ok (.aload_n 0, 1) := dk_42 (dk_at dksL_law_11 10 rfl rfl)
theorem dL_law_392 : decode cL_law 392 = .ok (.iload 4, 2) := dk_21 4 (dk_at dksL_law_11 11 rfl rfl)
theorem dL_law_394 : decode cL_law 394 = .ok (.iconst 2, 1) := dk_5 (dk_at dksL_law_11 13 rfl rfl)
theorem dL_law_395 : decode cL_law 395 = .ok (.iadd, 1) := dk_96 (dk_at dksL_law_11 14 rfl rfl)
theorem dL_law_396 : decode cL_law 396 = .ok (.iaload, 1) := dk_46 (dk_at dksL_law_11 15 rfl rfl)
theorem dL_law_397 : decode cL_law 397 = .ok (.aload_n 3, 1) := dk_45 (dk_at dksL_law_11 16 rfl rfl)
theorem dL_law_398 : decode cL_law 398 = .ok (.invokestatic 139, 3) := dk_184 0 139 (dk_at dksL_law_11 17 rfl rfl)
theorem dL_law_401 : decode cL_law 401 = .ok (.istore 5, 2) := dk_54 5 (dk_at dksL_law_11 20 rfl rfl)
theorem dL_law_403 : decode cL_law 403 = .ok (.aload_n 2, 1) := dk_44 (dk_at dksL_law_11 22 rfl rfl)
theorem dL_law_404 : decode cL_law 404 = .ok (.aload_n 0, 1) := dk_42 (dk_at dksL_law_11 23 rfl rfl)
theorem dL_law_405 : decode cL_law 405 = .ok (.iload 4, 2) := dk_21 4 (dk_at dksL_law_12 0 rfl rfl)
theorem dL_law_407 : decode cL_law 407 = .ok (.iconst 1, 1) := dk_4 (dk_at dksL_law_12 2 rfl rfl)
theorem dL_law_408 : decode cL_law 408 = .ok (.iadd, 1) := dk_96 (dk_at dksL_law_12 3 rfl rfl)
theorem dL_law_409 : decode cL_law 409 = .ok (.iaload, 1) := dk_46 (dk_at dksL_law_12 4 rfl rfl)
theorem dL_law_410 : decode cL_law 410 = .ok (.aload_n 0, 1) := dk_42 (dk_at dksL_law_12 5 rfl rfl)
theorem dL_law_411 : decode cL_law 411 = .ok (.iload 4, 2) := dk_21 4 (dk_at dksL_law_12 6 rfl rfl)
theorem dL_law_413 : decode cL_law 413 = .ok (.iconst 2, 1) := dk_5 (dk_at dksL_law_12 8 rfl rfl)
theorem dL_law_414 : decode cL_law 414 = .ok (.iadd, 1) := dk_96 (dk_at dksL_law_12 9 rfl rfl)
theorem dL_law_415 : decode cL_law 415 = .ok (.iaload, 1) := dk_46 (dk_at dksL_law_12 10 rfl rfl)
theorem dL_law_416 : decode cL_law 416 = .ok (.invokevirtual 141, 3) := dk_182 0 141 (dk_at dksL_law_12 11 rfl rfl)
theorem dL_law_419 : decode cL_law 419 = .ok (.istore 6, 2) := dk_54 6 (dk_at dksL_law_12 14 rfl rfl)
theorem dL_law_421 : decode cL_law 421 = .ok (.aload_n 2, 1) := dk_44 (dk_at dksL_law_12 16 rfl rfl)
theorem dL_law_422 : decode cL_law 422 = .ok (.invokevirtual 128, 3) := dk_182 0 128 (dk_at dksL_law_12 17 rfl rfl)
theorem dL_law_425 : decode cL_law 425 = .ok (.iload 5, 2) := dk_21 5 (dk_at dksL_law_12 20 rfl rfl)
theorem dL_law_427 : decode cL_law 427 = .ok (.if_icmp .eq 5, 3) := dk_159 0 5 (dk_at dksL_law_13 0 rfl rfl)
theorem dL_law_430 : decode cL_law 430 = .ok (.iconst 0, 1) := dk_3 (dk_at dksL_law_13 3 rfl rfl)
theorem dL_law_431 : decode cL_law 431 = .ok (.ireturn, 1) := dk_172 (dk_at dksL_law_13 4 rfl rfl)
theorem dL_law_432 : decode cL_law 432 = .ok (.iload 5, 2) := dk_21 5 (dk_at dksL_law_13 5 rfl rfl)
theorem dL_law_434 : decode cL_law 434 = .ok (.ifCond .ne 15, 3) := dk_154 0 15 (dk_at dksL_law_13 7 rfl rfl)
theorem dL_law_437 : decode cL_law 437 = .ok (.aload_n 3, 1) := dk_45 (dk_at dksL_law_13 10 rfl rfl)
theorem dL_law_438 : decode cL_law 438 = .ok (.iconst 0, 1) := dk_3 (dk_at dksL_law_13 11 rfl rfl)
theorem dL_law_439 : decode cL_law 439 = .ok (.laload, 1) := dk_47 (dk_at dksL_law_13 12 rfl rfl)
theorem dL_law_440 : decode cL_law 440 = .ok (.iload 6, 2) := dk_21 6 (dk_at dksL_law_13 13 rfl rfl)
theorem dL_law_442 : decode cL_law 442 = .ok (.i2l, 1) := dk_133 (dk_at dksL_law_13 15 rfl rfl)
theorem dL_law_443 : decode cL_law 443 = .ok (.lcmp, 1) := dk_148 (dk_at dksL_law_13 16 rfl rfl)
theorem dL_law_444 : decode cL_law 444 = .ok (.ifCond .eq 5, 3) := dk_153 0 5 (dk_at dksL_law_13 17 rfl rfl)
theorem dL_law_447 : decode cL_law 447 = .ok (.iconst 0, 1) := dk_3 (dk_at dksL_law_13 20 rfl rfl)
theorem dL_law_448 : decode cL_law 448 = .ok (.ireturn, 1) := dk_172 (dk_at dksL_law_13 21 rfl rfl)
theorem dL_law_449 : decode cL_law 449 = .ok (.goto 1922, 3) := dk_167 7 130 (dk_at dksL_law_14 0 rfl rfl)
theorem dL_law_452 : decode cL_law 452 = .ok (.aload_n 1, 1) := dk_43 (dk_at dksL_law_14 3 rfl rfl)
theorem dL_law_453 : decode cL_law 453 = .ok (.aload_n 0, 1) := dk_42 (dk_at dksL_law_14 4 rfl rfl)
theorem dL_law_454 : decode cL_law 454 = .ok (.iload 4, 2) := dk_21 4 (dk_at dksL_law_14 5 rfl rfl)
theorem dL_law_456 : decode cL_law 456 = .ok (.iconst 1, 1) := dk_4 (dk_at dksL_law_14 7 rfl rfl)
theorem dL_law_457 : decode cL_law 457 = .ok (.iadd, 1) := dk_96 (dk_at dksL_law_14 8 rfl rfl)
theorem dL_law_458 : decode cL_law 458 = .ok (.iaload, 1) := dk_46 (dk_at dksL_law_14 9 rfl rfl)
theorem dL_law_459 : decode cL_law 459 = .ok (.aload_n 0, 1) := dk_42 (dk_at dksL_law_14 10 rfl rfl)
theorem dL_law_460 : decode cL_law 460 = .ok (.iload 4, 2) := dk_21 4 (dk_at dksL_law_14 11 rfl rfl)
theorem dL_law_462 : decode cL_law 462 = .ok (.iconst 2, 1) := dk_5 (dk_at dksL_law_14 13 rfl rfl)
theorem dL_law_463 : decode cL_law 463 = .ok (.iadd, 1) := dk_96 (dk_at dksL_law_14 14 rfl rfl)
theorem dL_law_464 : decode cL_law 464 = .ok (.iaload, 1) := dk_46 (dk_at dksL_law_14 15 rfl rfl)
theorem dL_law_465 : decode cL_law 465 = .ok (.aload_n 3, 1) := dk_45 (dk_at dksL_law_14 16 rfl rfl)
theorem dL_law_466 : decode cL_law 466 = .ok (.invokestatic 142, 3) := dk_184 0 142 (dk_at dksL_law_14 17 rfl rfl)
theorem dL_law_469 : decode cL_law 469 = .ok (.istore 5, 2) := dk_54 5 (dk_at dksL_law_14 20 rfl rfl)
theorem dL_law_471 : decode cL_law 471 = .ok (.aload_n 2, 1) := dk_44 (dk_at dksL_law_14 22 rfl rfl)
theorem dL_law_472 : decode cL_law 472 = .ok (.aload_n 0, 1) := dk_42 (dk_at dksL_law_14 23 rfl rfl)
theorem dL_law_473 : decode cL_law 473 = .ok (.iload 4, 2) := dk_21 4 (dk_at dksL_law_15 0 rfl rfl)
theorem dL_law_475 : decode cL_law 475 = .ok (.iconst 1, 1) := dk_4 (dk_at dksL_law_15 2 rfl rfl)
theorem dL_law_476 : decode cL_law 476 = .ok (.iadd, 1) := dk_96 (dk_at dksL_law_15 3 rfl rfl)
theorem dL_law_477 : decode cL_law 477 = .ok (.iaload, 1) := dk_46 (dk_at dksL_law_15 4 rfl rfl)
theorem dL_law_478 : decode cL_law 478 = .ok (.aload_n 0, 1) := dk_42 (dk_at dksL_law_15 5 rfl rfl)
theorem dL_law_479 : decode cL_law 479 = .ok (.iload 4, 2) := dk_21 4 (dk_at dksL_law_15 6 rfl rfl)
theorem dL_law_481 : decode cL_law 481 = .ok (.iconst 2, 1) := dk_5 (dk_at dksL_law_15 8 rfl rfl)
theorem dL_law_482 : decode cL_law 482 = .ok (.iadd, 1) := dk_96 (dk_at dksL_law_15 9 rfl rfl)
theorem dL_law_483 : decode cL_law 483 = .ok (.iaload, 1) := dk_46 (dk_at dksL_law_15 10 rfl rfl)
theorem dL_law_484 : decode cL_law 484 = .ok (.invokevirtual 144, 3) := dk_182 0 144 (dk_at dksL_law_15 11 rfl rfl)
theorem dL_law_487 : decode cL_law 487 = .ok (.istore 6, 2) := dk_54 6 (dk_at dksL_law_15 14 rfl rfl)
theorem dL_law_489 : decode cL_law 489 = .ok (.aload_n 2, 1) := dk_44 (dk_at dksL_law_15 16 rfl rfl)
theorem dL_law_490 : decode cL_law 490 = .ok (.invokevirtual 128, 3) := dk_182 0 128 (dk_at dksL_law_15 17 rfl rfl)
theorem dL_law_493 : decode cL_law 493 = .ok (.iload 5, 2) := dk_21 5 (dk_at dksL_law_15 20 rfl rfl)
theorem dL_law_495 : decode cL_law 495 = .ok (.if_icmp .eq 5, 3) := dk_159 0 5 (dk_at dksL_law_16 0 rfl rfl)
theorem dL_law_498 : decode cL_law 498 = .ok (.iconst 0, 1) := dk_3 (dk_at dksL_law_16 3 rfl rfl)
theorem dL_law_499 : decode cL_law 499 = .ok (.ireturn, 1) := dk_172 (dk_at dksL_law_16 4 rfl rfl)
theorem dL_law_500 : decode cL_law 500 = .ok (.iload 5, 2) := dk_21 5 (dk_at dksL_law_16 5 rfl rfl)
theorem dL_law_502 : decode cL_law 502 = .ok (.ifCond .ne 15, 3) := dk_154 0 15 (dk_at dksL_law_16 7 rfl rfl)
theorem dL_law_505 : decode cL_law 505 = .ok (.aload_n 3, 1) := dk_45 (dk_at dksL_law_16 10 rfl rfl)
theorem dL_law_506 : decode cL_law 506 = .ok (.iconst 0, 1) := dk_3 (dk_at dksL_law_16 11 rfl rfl)
theorem dL_law_507 : decode cL_law 507 = .ok (.laload, 1) := dk_47 (dk_at dksL_law_16 12 rfl rfl)
theorem dL_law_508 : decode cL_law 508 = .ok (.iload 6, 2) := dk_21 6 (dk_at dksL_law_16 13 rfl rfl)
theorem dL_law_510 : decode cL_law 510 = .ok (.i2l, 1) := dk_133 (dk_at dksL_law_16 15 rfl rfl)
theorem dL_law_511 : decode cL_law 511 = .ok (.lcmp, 1) := dk_148 (dk_at dksL_law_16 16 rfl rfl)
theorem dL_law_512 : decode cL_law 512 = .ok (.ifCond .eq 5, 3) := dk_153 0 5 (dk_at dksL_law_16 17 rfl rfl)
theorem dL_law_515 : decode cL_law 515 = .ok (.iconst 0, 1) := dk_3 (dk_at dksL_law_16 20 rfl rfl)
theorem dL_law_516 : decode cL_law 516 = .ok (.ireturn, 1) := dk_172 (dk_at dksL_law_16 21 rfl rfl)
theorem dL_law_517 : decode cL_law 517 = .ok (.goto 1854, 3) := dk_167 7 62 (dk_at dksL_law_17 0 rfl rfl)
theorem dL_law_520 : decode cL_law 520 = .ok (.aload_n 1, 1) := dk_43 (dk_at dksL_law_17 3 rfl rfl)
theorem dL_law_521 : decode cL_law 521 = .ok (.aload_n 0, 1) := dk_42 (dk_at dksL_law_17 4 rfl rfl)
theorem dL_law_522 : decode cL_law 522 = .ok (.iload 4, 2) := dk_21 4 (dk_at dksL_law_17 5 rfl rfl)
theorem dL_law_524 : decode cL_law 524 = .ok (.iconst 1, 1) := dk_4 (dk_at dksL_law_17 7 rfl rfl)
theorem dL_law_525 : decode cL_law 525 = .ok (.iadd, 1) := dk_96 (dk_at dksL_law_17 8 rfl rfl)
theorem dL_law_526 : decode cL_law 526 = .ok (.iaload, 1) := dk_46 (dk_at dksL_law_17 9 rfl rfl)
theorem dL_law_527 : decode cL_law 527 = .ok (.aload_n 0, 1) := dk_42 (dk_at dksL_law_17 10 rfl rfl)
theorem dL_law_528 : decode cL_law 528 = .ok (.iload 4, 2) := dk_21 4 (dk_at dksL_law_17 11 rfl rfl)
theorem dL_law_530 : decode cL_law 530 = .ok (.iconst 2, 1) := dk_5 (dk_at dksL_law_17 13 rfl rfl)
theorem dL_law_531 : decode cL_law 531 = .ok (.iadd, 1) := dk_96 (dk_at dksL_law_17 14 rfl rfl)
theorem dL_law_532 : decode cL_law 532 = .ok (.iaload, 1) := dk_46 (dk_at dksL_law_17 15 rfl rfl)
theorem dL_law_533 : decode cL_law 533 = .ok (.aload_n 3, 1) := dk_45 (dk_at dksL_law_17 16 rfl rfl)
theorem dL_law_534 : decode cL_law 534 = .ok (.invokestatic 145, 3) := dk_184 0 145 (dk_at dksL_law_17 17 rfl rfl)
theorem dL_law_537 : decode cL_law 537 = .ok (.istore 5, 2) := dk_54 5 (dk_at dksL_law_17 20 rfl rfl)
theorem dL_law_539 : decode cL_law 539 = .ok (.aload_n 2, 1) := dk_44 (dk_at dksL_law_17 22 rfl rfl)
theorem dL_law_540 : decode cL_law 540 = .ok (.aload_n 0, 1) := dk_42 (dk_at dksL_law_17 23 rfl rfl)
theorem dL_law_541 : decode cL_law 541 = .ok (.iload 4, 2) := dk_21 4 (dk_at dksL_law_18 0 rfl rfl)
theorem dL_law_543 : decode cL_law 543 = .ok (.iconst 1, 1) := dk_4 (dk_at dksL_law_18 2 rfl rfl)
theorem dL_law_544 : decode cL_law 544 = .ok (.iadd, 1) := dk_96 (dk_at dksL_law_18 3 rfl rfl)
theorem dL_law_545 : decode cL_law 545 = .ok (.iaload, 1) := dk_46 (dk_at dksL_law_18 4 rfl rfl)
theorem dL_law_546 : decode cL_law 546 = .ok (.aload_n 0, 1) := dk_42 (dk_at dksL_law_18 5 rfl rfl)
theorem dL_law_547 : decode cL_law 547 = .ok (.iload 4, 2) := dk_21 4 (dk_at dksL_law_18 6 rfl rfl)
theorem dL_law_549 : decode cL_law 549 = .ok (.iconst 2, 1) := dk_5 (dk_at dksL_law_18 8 rfl rfl)
theorem dL_law_550 : decode cL_law 550 = .ok (.iadd, 1) := dk_96 (dk_at dksL_law_18 9 rfl rfl)
theorem dL_law_551 : decode cL_law 551 = .ok (.iaload, 1) := dk_46 (dk_at dksL_law_18 10 rfl rfl)
theorem dL_law_552 : decode cL_law 552 = .ok (.invokevirtual 147, 3) := dk_182 0 147 (dk_at dksL_law_18 11 rfl rfl)
theorem dL_law_555 : decode cL_law 555 = .ok (.istore 6, 2) := dk_54 6 (dk_at dksL_law_18 14 rfl rfl)
theorem dL_law_557 : decode cL_law 557 = .ok (.aload_n 2, 1) := dk_44 (dk_at dksL_law_18 16 rfl rfl)
theorem dL_law_558 : decode cL_law 558 = .ok (.invokevirtual 128, 3) := dk_182 0 128 (dk_at dksL_law_18 17 rfl rfl)
theorem dL_law_561 : decode cL_law 561 = .ok (.iload 5, 2) := dk_21 5 (dk_at dksL_law_18 20 rfl rfl)
theorem dL_law_563 : decode cL_law 563 = .ok (.if_icmp .eq 5, 3) := dk_159 0 5 (dk_at dksL_law_19 0 rfl rfl)
theorem dL_law_566 : decode cL_law 566 = .ok (.iconst 0, 1) := dk_3 (dk_at dksL_law_19 3 rfl rfl)
theorem dL_law_567 : decode cL_law 567 = .ok (.ireturn, 1) := dk_172 (dk_at dksL_law_19 4 rfl rfl)
theorem dL_law_568 : decode cL_law 568 = .ok (.iload 5, 2) := dk_21 5 (dk_at dksL_law_19 5 rfl rfl)
theorem dL_law_570 : decode cL_law 570 = .ok (.ifCond .ne 15, 3) := dk_154 0 15 (dk_at dksL_law_19 7 rfl rfl)
theorem dL_law_573 : decode cL_law 573 = .ok (.aload_n 3, 1) := dk_45 (dk_at dksL_law_19 10 rfl rfl)
theorem dL_law_574 : decode cL_law 574 = .ok (.iconst 0, 1) := dk_3 (dk_at dksL_law_19 11 rfl rfl)
theorem dL_law_575 : decode cL_law 575 = .ok (.laload, 1) := dk_47 (dk_at dksL_law_19 12 rfl rfl)
theorem dL_law_576 : decode cL_law 576 = .ok (.iload 6, 2) := dk_21 6 (dk_at dksL_law_19 13 rfl rfl)
theorem dL_law_578 : decode cL_law 578 = .ok (.i2l, 1) := dk_133 (dk_at dksL_law_19 15 rfl rfl)
theorem dL_law_579 : decode cL_law 579 = .ok (.lcmp, 1) := dk_148 (dk_at dksL_law_19 16 rfl rfl)
theorem dL_law_580 : decode cL_law 580 = .ok (.ifCond .eq 5, 3) := dk_153 0 5 (dk_at dksL_law_19 17 rfl rfl)
theorem dL_law_583 : decode cL_law 583 = .ok (.iconst 0, 1) := dk_3 (dk_at dksL_law_19 20 rfl rfl)
theorem dL_law_584 : decode cL_law 584 = .ok (.ireturn, 1) := dk_172 (dk_at dksL_law_19 21 rfl rfl)
theorem dL_law_585 : decode cL_law 585 = .ok (.goto 1786, 3) := dk_167 6 250 (dk_at dksL_law_20 0 rfl rfl)
theorem dL_law_588 : decode cL_law 588 = .ok (.aload_n 1, 1) := dk_43 (dk_at dksL_law_20 3 rfl rfl)
theorem dL_law_589 : decode cL_law 589 = .ok (.aload_n 0, 1) := dk_42 (dk_at dksL_law_20 4 rfl rfl)
theorem dL_law_590 : decode cL_law 590 = .ok (.iload 4, 2) := dk_21 4 (dk_at dksL_law_20 5 rfl rfl)
theorem dL_law_592 : decode cL_law 592 = .ok (.iconst 1, 1) := dk_4 (dk_at dksL_law_20 7 rfl rfl)
theorem dL_law_593 : decode cL_law 593 = .ok (.iadd, 1) := dk_96 (dk_at dksL_law_20 8 rfl rfl)
theorem dL_law_594 : decode cL_law 594 = .ok (.iaload, 1) := dk_46 (dk_at dksL_law_20 9 rfl rfl)
theorem dL_law_595 : decode cL_law 595 = .ok (.aload_n 0, 1) := dk_42 (dk_at dksL_law_20 10 rfl rfl)
theorem dL_law_596 : decode cL_law 596 = .ok (.iload 4, 2) := dk_21 4 (dk_at dksL_law_20 11 rfl rfl)
theorem dL_law_598 : decode cL_law 598 = .ok (.iconst 2, 1) := dk_5 (dk_at dksL_law_20 13 rfl rfl)
theorem dL_law_599 : decode cL_law 599 = .ok (.iadd, 1) := dk_96 (dk_at dksL_law_20 14 rfl rfl)
theorem dL_law_600 : decode cL_law 600 = .ok (.iaload, 1) := dk_46 (dk_at dksL_law_20 15 rfl rfl)
theorem dL_law_601 : decode cL_law 601 = .ok (.aload_n 0, 1) := dk_42 (dk_at dksL_law_20 16 rfl rfl)
theorem dL_law_602 : decode cL_law 602 = .ok (.iload 4, 2) := dk_21 4 (dk_at dksL_law_20 17 rfl rfl)
theorem dL_law_604 : decode cL_law 604 = .ok (.iconst 3, 1) := dk_6 (dk_at dksL_law_20 19 rfl rfl)
theorem dL_law_605 : decode cL_law 605 = .ok (.iadd, 1) := dk_96 (dk_at dksL_law_20 20 rfl rfl)
theorem dL_law_606 : decode cL_law 606 = .ok (.iaload, 1) := dk_46 (dk_at dksL_law_20 21 rfl rfl)
theorem dL_law_607 : decode cL_law 607 = .ok (.aload_n 3, 1) := dk_45 (dk_at dksL_law_20 22 rfl rfl)
theorem dL_law_608 : decode cL_law 608 = .ok (.invokestatic 148, 3) := dk_184 0 148 (dk_at dksL_law_21 0 rfl rfl)
theorem dL_law_611 : decode cL_law 611 = .ok (.istore 5, 2) := dk_54 5 (dk_at dksL_law_21 3 rfl rfl)
theorem dL_law_613 : decode cL_law 613 = .ok (.aload_n 2, 1) := dk_44 (dk_at dksL_law_21 5 rfl rfl)
theorem dL_law_614 : decode cL_law 614 = .ok (.aload_n 0, 1) := dk_42 (dk_at dksL_law_21 6 rfl rfl)
theorem dL_law_615 : decode cL_law 615 = .ok (.iload 4, 2) := dk_21 4 (dk_at dksL_law_21 7 rfl rfl)
theorem dL_law_617 : decode cL_law 617 = .ok (.iconst 1, 1) := dk_4 (dk_at dksL_law_21 9 rfl rfl)
theorem dL_law_618 : decode cL_law 618 = .ok (.iadd, 1) := dk_96 (dk_at dksL_law_21 10 rfl rfl)
theorem dL_law_619 : decode cL_law 619 = .ok (.iaload, 1) := dk_46 (dk_at dksL_law_21 11 rfl rfl)
theorem dL_law_620 : decode cL_law 620 = .ok (.aload_n 0, 1) := dk_42 (dk_at dksL_law_21 12 rfl rfl)
theorem dL_law_621 : decode cL_law 621 = .ok (.iload 4, 2) := dk_21 4 (dk_at dksL_law_21 13 rfl rfl)
theorem dL_law_623 : decode cL_law 623 = .ok (.iconst 2, 1) := dk_5 (dk_at dksL_law_21 15 rfl rfl)
theorem dL_law_624 : decode cL_law 624 = .ok (.iadd, 1) := dk_96 (dk_at dksL_law_21 16 rfl rfl)
theorem dL_law_625 : decode cL_law 625 = .ok (.iaload, 1) := dk_46 (dk_at dksL_law_21 17 rfl rfl)
theorem dL_law_626 : decode cL_law 626 = .ok (.aload_n 0, 1) := dk_42 (dk_at dksL_law_21 18 rfl rfl)
theorem dL_law_627 : decode cL_law 627 = .ok (.iload 4, 2) := dk_21 4 (dk_at dksL_law_21 19 rfl rfl)
theorem dL_law_629 : decode cL_law 629 = .ok (.iconst 3, 1) := dk_6 (dk_at dksL_law_21 21 rfl rfl)
theorem dL_law_630 : decode cL_law 630 = .ok (.iadd, 1) := dk_96 (dk_at dksL_law_21 22 rfl rfl)
theorem dL_law_631 : decode cL_law 631 = .ok (.iaload, 1) := dk_46 (dk_at dksL_law_21 23 rfl rfl)
theorem dL_law_632 : decode cL_law 632 = .ok (.invokevirtual 150, 3) := dk_182 0 150 (dk_at dksL_law_22 0 rfl rfl)
theorem dL_law_635 : decode cL_law 635 = .ok (.istore 6, 2) := dk_54 6 (dk_at dksL_law_22 3 rfl rfl)
theorem dL_law_637 : decode cL_law 637 = .ok (.aload_n 2, 1) := dk_44 (dk_at dksL_law_22 5 rfl rfl)
theorem dL_law_638 : decode cL_law 638 = .ok (.invokevirtual 128, 3) := dk_182 0 128 (dk_at dksL_law_22 6 rfl rfl)
theorem dL_law_641 : decode cL_law 641 = .ok (.iload 5, 2) := dk_21 5 (dk_at dksL_law_22 9 rfl rfl)
theorem dL_law_643 : decode cL_law 643 = .ok (.if_icmp .eq 5, 3) := dk_159 0 5 (dk_at dksL_law_22 11 rfl rfl)
theorem dL_law_646 : decode cL_law 646 = .ok (.iconst 0, 1) := dk_3 (dk_at dksL_law_22 14 rfl rfl)
theorem dL_law_647 : decode cL_law 647 = .ok (.ireturn, 1) := dk_172 (dk_at dksL_law_22 15 rfl rfl)
theorem dL_law_648 : decode cL_law 648 = .ok (.iload 5, 2) := dk_21 5 (dk_at dksL_law_22 16 rfl rfl)
theorem dL_law_650 : decode cL_law 650 = .ok (.ifCond .ne 15, 3) := dk_154 0 15 (dk_at dksL_law_22 18 rfl rfl)
theorem dL_law_653 : decode cL_law 653 = .ok (.aload_n 3, 1) := dk_45 (dk_at dksL_law_22 21 rfl rfl)
theorem dL_law_654 : decode cL_law 654 = .ok (.iconst 0, 1) := dk_3 (dk_at dksL_law_22 22 rfl rfl)
theorem dL_law_655 : decode cL_law 655 = .ok (.laload, 1) := dk_47 (dk_at dksL_law_22 23 rfl rfl)
theorem dL_law_656 : decode cL_law 656 = .ok (.iload 6, 2) := dk_21 6 (dk_at dksL_law_23 0 rfl rfl)
theorem dL_law_658 : decode cL_law 658 = .ok (.i2l, 1) := dk_133 (dk_at dksL_law_23 2 rfl rfl)
theorem dL_law_659 : decode cL_law 659 = .ok (.lcmp, 1) := dk_148 (dk_at dksL_law_23 3 rfl rfl)
theorem dL_law_660 : decode cL_law 660 = .ok (.ifCond .eq 5, 3) := dk_153 0 5 (dk_at dksL_law_23 4 rfl rfl)
theorem dL_law_663 : decode cL_law 663 = .ok (.iconst 0, 1) := dk_3 (dk_at dksL_law_23 7 rfl rfl)
theorem dL_law_664 : decode cL_law 664 = .ok (.ireturn, 1) := dk_172 (dk_at dksL_law_23 8 rfl rfl)
theorem dL_law_665 : decode cL_law 665 = .ok (.goto 1706, 3) := dk_167 6 170 (dk_at dksL_law_23 9 rfl rfl)
theorem dL_law_668 : decode cL_law 668 = .ok (.aload_n 1, 1) := dk_43 (dk_at dksL_law_23 12 rfl rfl)
theorem dL_law_669 : decode cL_law 669 = .ok (.aload_n 0, 1) := dk_42 (dk_at dksL_law_23 13 rfl rfl)
theorem dL_law_670 : decode cL_law 670 = .ok (.iload 4, 2) := dk_21 4 (dk_at dksL_law_23 14 rfl rfl)
theorem dL_law_672 : decode cL_law 672 = .ok (.iconst 1, 1) := dk_4 (dk_at dksL_law_23 16 rfl rfl)
theorem dL_law_673 : decode cL_law 673 = .ok (.iadd, 1) := dk_96 (dk_at dksL_law_23 17 rfl rfl)
theorem dL_law_674 : decode cL_law 674 = .ok (.iaload, 1) := dk_46 (dk_at dksL_law_23 18 rfl rfl)
theorem dL_law_675 : decode cL_law 675 = .ok (.aload_n 3, 1) := dk_45 (dk_at dksL_law_23 19 rfl rfl)
theorem dL_law_676 : decode cL_law 676 = .ok (.invokestatic 151, 3) := dk_184 0 151 (dk_at dksL_law_23 20 rfl rfl)
theorem dL_law_679 : decode cL_law 679 = .ok (.istore 5, 2) := dk_54 5 (dk_at dksL_law_24 0 rfl rfl)
theorem dL_law_681 : decode cL_law 681 = .ok (.aload_n 2, 1) := dk_44 (dk_at dksL_law_24 2 rfl rfl)
theorem dL_law_682 : decode cL_law 682 = .ok (.aload_n 0, 1) := dk_42 (dk_at dksL_law_24 3 rfl rfl)
theorem dL_law_683 : decode cL_law 683 = .ok (.iload 4, 2) := dk_21 4 (dk_at dksL_law_24 4 rfl rfl)
theorem dL_law_685 : decode cL_law 685 = .ok (.iconst 1, 1) := dk_4 (dk_at dksL_law_24 6 rfl rfl)
theorem dL_law_686 : decode cL_law 686 = .ok (.iadd, 1) := dk_96 (dk_at dksL_law_24 7 rfl rfl)
theorem dL_law_687 : decode cL_law 687 = .ok (.iaload, 1) := dk_46 (dk_at dksL_law_24 8 rfl rfl)
theorem dL_law_688 : decode cL_law 688 = .ok (.invokevirtual 154, 3) := dk_182 0 154 (dk_at dksL_law_24 9 rfl rfl)
theorem dL_law_691 : decode cL_law 691 = .ok (.istore 6, 2) := dk_54 6 (dk_at dksL_law_24 12 rfl rfl)
theorem dL_law_693 : decode cL_law 693 = .ok (.aload_n 2, 1) := dk_44 (dk_at dksL_law_24 14 rfl rfl)
theorem dL_law_694 : decode cL_law 694 = .ok (.invokevirtual 128, 3) := dk_182 0 128 (dk_at dksL_law_24 15 rfl rfl)
theorem dL_law_697 : decode cL_law 697 = .ok (.iload 5, 2) := dk_21 5 (dk_at dksL_law_24 18 rfl rfl)
theorem dL_law_699 : decode cL_law 699 = .ok (.if_icmp .eq 5, 3) := dk_159 0 5 (dk_at dksL_law_24 20 rfl rfl)
theorem dL_law_702 : decode cL_law 702 = .ok (.iconst 0, 1) := dk_3 (dk_at dksL_law_24 23 rfl rfl)
theorem dL_law_703 : decode cL_law 703 = .ok (.ireturn, 1) := dk_172 (dk_at dksL_law_25 0 rfl rfl)
theorem dL_law_704 : decode cL_law 704 = .ok (.iload 5, 2) := dk_21 5 (dk_at dksL_law_25 1 rfl rfl)
theorem dL_law_706 : decode cL_law 706 = .ok (.ifCond .ne 15, 3) := dk_154 0 15 (dk_at dksL_law_25 3 rfl rfl)
theorem dL_law_709 : decode cL_law 709 = .ok (.aload_n 3, 1) := dk_45 (dk_at dksL_law_25 6 rfl rfl)
theorem dL_law_710 : decode cL_law 710 = .ok (.iconst 0, 1) := dk_3 (dk_at dksL_law_25 7 rfl rfl)
theorem dL_law_711 : decode cL_law 711 = .ok (.laload, 1) := dk_47 (dk_at dksL_law_25 8 rfl rfl)
theorem dL_law_712 : decode cL_law 712 = .ok (.iload 6, 2) := dk_21 6 (dk_at dksL_law_25 9 rfl rfl)
theorem dL_law_714 : decode cL_law 714 = .ok (.i2l, 1) := dk_133 (dk_at dksL_law_25 11 rfl rfl)
theorem dL_law_715 : decode cL_law 715 = .ok (.lcmp, 1) := dk_148 (dk_at dksL_law_25 12 rfl rfl)
theorem dL_law_716 : decode cL_law 716 = .ok (.ifCond .eq 5, 3) := dk_153 0 5 (dk_at dksL_law_25 13 rfl rfl)
theorem dL_law_719 : decode cL_law 719 = .ok (.iconst 0, 1) := dk_3 (dk_at dksL_law_25 16 rfl rfl)
theorem dL_law_720 : decode cL_law 720 = .ok (.ireturn, 1) := dk_172 (dk_at dksL_law_25 17 rfl rfl)
theorem dL_law_721 : decode cL_law 721 = .ok (.goto 1650, 3) := dk_167 6 114 (dk_at dksL_law_25 18 rfl rfl)
theorem dL_law_724 : decode cL_law 724 = .ok (.aload_n 1, 1) := dk_43 (dk_at dksL_law_25 21 rfl rfl)
theorem dL_law_725 : decode cL_law 725 = .ok (.aload_n 0, 1) := dk_42 (dk_at dksL_law_25 22 rfl rfl)
theorem dL_law_726 : decode cL_law 726 = .ok (.iload 4, 2) := dk_21 4 (dk_at dksL_law_26 0 rfl rfl)
theorem dL_law_728 : decode cL_law 728 = .ok (.iconst 1, 1) := dk_4 (dk_at dksL_law_26 2 rfl rfl)
theorem dL_law_729 : decode cL_law 729 = .ok (.iadd, 1) := dk_96 (dk_at dksL_law_26 3 rfl rfl)
theorem dL_law_730 : decode cL_law 730 = .ok (.iaload, 1) := dk_46 (dk_at dksL_law_26 4 rfl rfl)
theorem dL_law_731 : decode cL_law 731 = .ok (.aload_n 3, 1) := dk_45 (dk_at dksL_law_26 5 rfl rfl)
theorem dL_law_732 : decode cL_law 732 = .ok (.invokestatic 155, 3) := dk_184 0 155 (dk_at dksL_law_26 6 rfl rfl)
theorem dL_law_735 : decode cL_law 735 = .ok (.istore 5, 2) := dk_54 5 (dk_at dksL_law_26 9 rfl rfl)
theorem dL_law_737 : decode cL_law 737 = .ok (.aload_n 2, 1) := dk_44 (dk_at dksL_law_26 11 rfl rfl)
theorem dL_law_738 : decode cL_law 738 = .ok (.aload_n 0, 1) := dk_42 (dk_at dksL_law_26 12 rfl rfl)
theorem dL_law_739 : decode cL_law 739 = .ok (.iload 4, 2) := dk_21 4 (dk_at dksL_law_26 13 rfl rfl)
theorem dL_law_741 : decode cL_law 741 = .ok (.iconst 1, 1) := dk_4 (dk_at dksL_law_26 15 rfl rfl)
theorem dL_law_742 : decode cL_law 742 = .ok (.iadd, 1) := dk_96 (dk_at dksL_law_26 16 rfl rfl)
theorem dL_law_743 : decode cL_law 743 = .ok (.iaload, 1) := dk_46 (dk_at dksL_law_26 17 rfl rfl)
theorem dL_law_744 : decode cL_law 744 = .ok (.invokevirtual 157, 3) := dk_182 0 157 (dk_at dksL_law_26 18 rfl rfl)
theorem dL_law_747 : decode cL_law 747 = .ok (.istore 6, 2) := dk_54 6 (dk_at dksL_law_26 21 rfl rfl)
theorem dL_law_749 : decode cL_law 749 = .ok (.aload_n 2, 1) := dk_44 (dk_at dksL_law_26 23 rfl rfl)
theorem dL_law_750 : decode cL_law 750 = .ok (.invokevirtual 128, 3) := dk_182 0 128 (dk_at dksL_law_27 0 rfl rfl)
theorem dL_law_753 : decode cL_law 753 = .ok (.iload 5, 2) := dk_21 5 (dk_at dksL_law_27 3 rfl rfl)
theorem dL_law_755 : decode cL_law 755 = .ok (.if_icmp .eq 5, 3) := dk_159 0 5 (dk_at dksL_law_27 5 rfl rfl)
theorem dL_law_758 : decode cL_law 758 = .ok (.iconst 0, 1) := dk_3 (dk_at dksL_law_27 8 rfl rfl)
theorem dL_law_759 : decode cL_law 759 = .ok (.ireturn, 1) := dk_172 (dk_at dksL_law_27 9 rfl rfl)
theorem dL_law_760 : decode cL_law 760 = .ok (.iload 5, 2) := dk_21 5 (dk_at dksL_law_27 10 rfl rfl)
theorem dL_law_762 : decode cL_law 762 = .ok (.ifCond .ne 15, 3) := dk_154 0 15 (dk_at dksL_law_27 12 rfl rfl)
theorem dL_law_765 : decode cL_law 765 = .ok (.aload_n 3, 1) := dk_45 (dk_at dksL_law_27 15 rfl rfl)
theorem dL_law_766 : decode cL_law 766 = .ok (.iconst 0, 1) := dk_3 (dk_at dksL_law_27 16 rfl rfl)
theorem dL_law_767 : decode cL_law 767 = .ok (.laload, 1) := dk_47 (dk_at dksL_law_27 17 rfl rfl)
theorem dL_law_768 : decode cL_law 768 = .ok (.iload 6, 2) := dk_21 6 (dk_at dksL_law_27 18 rfl rfl)
theorem dL_law_770 : decode cL_law 770 = .ok (.i2l, 1) := dk_133 (dk_at dksL_law_27 20 rfl rfl)
theorem dL_law_771 : decode cL_law 771 = .ok (.lcmp, 1) := dk_148 (dk_at dksL_law_27 21 rfl rfl)
theorem dL_law_772 : decode cL_law 772 = .ok (.ifCond .eq 5, 3) := dk_153 0 5 (dk_at dksL_law_28 0 rfl rfl)
theorem dL_law_775 : decode cL_law 775 = .ok (.iconst 0, 1) := dk_3 (dk_at dksL_law_28 3 rfl rfl)
theorem dL_law_776 : decode cL_law 776 = .ok (.ireturn, 1) := dk_172 (dk_at dksL_law_28 4 rfl rfl)
theorem dL_law_777 : decode cL_law 777 = .ok (.goto 1594, 3) := dk_167 6 58 (dk_at dksL_law_28 5 rfl rfl)
theorem dL_law_780 : decode cL_law 780 = .ok (.aload_n 1, 1) := dk_43 (dk_at dksL_law_28 8 rfl rfl)
theorem dL_law_781 : decode cL_law 781 = .ok (.aload_n 0, 1) := dk_42 (dk_at dksL_law_28 9 rfl rfl)
theorem dL_law_782 : decode cL_law 782 = .ok (.iload 4, 2) := dk_21 4 (dk_at dksL_law_28 10 rfl rfl)
theorem dL_law_784 : decode cL_law 784 = .ok (.iconst 1, 1) := dk_4 (dk_at dksL_law_28 12 rfl rfl)
theorem dL_law_785 : decode cL_law 785 = .ok (.iadd, 1) := dk_96 (dk_at dksL_law_28 13 rfl rfl)
theorem dL_law_786 : decode cL_law 786 = .ok (.iaload, 1) := dk_46 (dk_at dksL_law_28 14 rfl rfl)
theorem dL_law_787 : decode cL_law 787 = .ok (.aload_n 0, 1) := dk_42 (dk_at dksL_law_28 15 rfl rfl)
theorem dL_law_788 : decode cL_law 788 = .ok (.iload 4, 2) := dk_21 4 (dk_at dksL_law_28 16 rfl rfl)
theorem dL_law_790 : decode cL_law 790 = .ok (.iconst 2, 1) := dk_5 (dk_at dksL_law_28 18 rfl rfl)
theorem dL_law_791 : decode cL_law 791 = .ok (.iadd, 1) := dk_96 (dk_at dksL_law_28 19 rfl rfl)
theorem dL_law_792 : decode cL_law 792 = .ok (.iaload, 1) := dk_46 (dk_at dksL_law_28 20 rfl rfl)
theorem dL_law_793 : decode cL_law 793 = .ok (.aload_n 3, 1) := dk_45 (dk_at dksL_law_28 21 rfl rfl)
theorem dL_law_794 : decode cL_law 794 = .ok (.invokestatic 158, 3) := dk_184 0 158 (dk_at dksL_law_29 0 rfl rfl)
theorem dL_law_797 : decode cL_law 797 = .ok (.istore 5, 2) := dk_54 5 (dk_at dksL_law_29 3 rfl rfl)
theorem dL_law_799 : decode cL_law 799 = .ok (.aload_n 2, 1) := dk_44 (dk_at dksL_law_29 5 rfl rfl)
theorem dL_law_800 : decode cL_law 800 = .ok (.aload_n 0, 1) := dk_42 (dk_at dksL_law_29 6 rfl rfl)
theorem dL_law_801 : decode cL_law 801 = .ok (.iload 4, 2) := dk_21 4 (dk_at dksL_law_29 7 rfl rfl)
theorem dL_law_803 : decode cL_law 803 = .ok (.iconst 1, 1) := dk_4 (dk_at dksL_law_29 9 rfl rfl)
theorem dL_law_804 : decode cL_law 804 = .ok (.iadd, 1) := dk_96 (dk_at dksL_law_29 10 rfl rfl)
theorem dL_law_805 : decode cL_law 805 = .ok (.iaload, 1) := dk_46 (dk_at dksL_law_29 11 rfl rfl)
theorem dL_law_806 : decode cL_law 806 = .ok (.aload_n 0, 1) := dk_42 (dk_at dksL_law_29 12 rfl rfl)
theorem dL_law_807 : decode cL_law 807 = .ok (.iload 4, 2) := dk_21 4 (dk_at dksL_law_29 13 rfl rfl)
theorem dL_law_809 : decode cL_law 809 = .ok (.iconst 2, 1) := dk_5 (dk_at dksL_law_29 15 rfl rfl)
theorem dL_law_810 : decode cL_law 810 = .ok (.iadd, 1) := dk_96 (dk_at dksL_law_29 16 rfl rfl)
theorem dL_law_811 : decode cL_law 811 = .ok (.iaload, 1) := dk_46 (dk_at dksL_law_29 17 rfl rfl)
theorem dL_law_812 : decode cL_law 812 = .ok (.invokevirtual 160, 3) := dk_182 0 160 (dk_at dksL_law_29 18 rfl rfl)
theorem dL_law_815 : decode cL_law 815 = .ok (.istore 6, 2) := dk_54 6 (dk_at dksL_law_29 21 rfl rfl)
theorem dL_law_817 : decode cL_law 817 = .ok (.aload_n 2, 1) := dk_44 (dk_at dksL_law_29 23 rfl rfl)
theorem dL_law_818 : decode cL_law 818 = .ok (.invokevirtual 128, 3) := dk_182 0 128 (dk_at dksL_law_30 0 rfl rfl)
theorem dL_law_821 : decode cL_law 821 = .ok (.iload 5, 2) := dk_21 5 (dk_at dksL_law_30 3 rfl rfl)
theorem dL_law_823 : decode cL_law 823 = .ok (.if_icmp .eq 5, 3) := dk_159 0 5 (dk_at dksL_law_30 5 rfl rfl)
theorem dL_law_826 : decode cL_law 826 = .ok (.iconst 0, 1) := dk_3 (dk_at dksL_law_30 8 rfl rfl)
theorem dL_law_827 : decode cL_law 827 = .ok (.ireturn, 1) := dk_172 (dk_at dksL_law_30 9 rfl rfl)
theorem dL_law_828 : decode cL_law 828 = .ok (.iload 5, 2) := dk_21 5 (dk_at dksL_law_30 10 rfl rfl)
theorem dL_law_830 : decode cL_law 830 = .ok (.ifCond .ne 15, 3) := dk_154 0 15 (dk_at dksL_law_30 12 rfl rfl)
theorem dL_law_833 : decode cL_law 833 = .ok (.aload_n 3, 1) := dk_45 (dk_at dksL_law_30 15 rfl rfl)
theorem dL_law_834 : decode cL_law 834 = .ok (.iconst 0, 1) := dk_3 (dk_at dksL_law_30 16 rfl rfl)
theorem dL_law_835 : decode cL_law 835 = .ok (.laload, 1) := dk_47 (dk_at dksL_law_30 17 rfl rfl)
theorem dL_law_836 : decode cL_law 836 = .ok (.iload 6, 2) := dk_21 6 (dk_at dksL_law_30 18 rfl rfl)
theorem dL_law_838 : decode cL_law 838 = .ok (.i2l, 1) := dk_133 (dk_at dksL_law_30 20 rfl rfl)
theorem dL_law_839 : decode cL_law 839 = .ok (.lcmp, 1) := dk_148 (dk_at dksL_law_30 21 rfl rfl)
theorem dL_law_840 : decode cL_law 840 = .ok (.ifCond .eq 5, 3) := dk_153 0 5 (dk_at dksL_law_31 0 rfl rfl)
theorem dL_law_843 : decode cL_law 843 = .ok (.iconst 0, 1) := dk_3 (dk_at dksL_law_31 3 rfl rfl)
theorem dL_law_844 : decode cL_law 844 = .ok (.ireturn, 1) := dk_172 (dk_at dksL_law_31 4 rfl rfl)
theorem dL_law_845 : decode cL_law 845 = .ok (.goto 1526, 3) := dk_167 5 246 (dk_at dksL_law_31 5 rfl rfl)
theorem dL_law_848 : decode cL_law 848 = .ok (.aload_n 1, 1) := dk_43 (dk_at dksL_law_31 8 rfl rfl)
theorem dL_law_849 : decode cL_law 849 = .ok (.aload_n 0, 1) := dk_42 (dk_at dksL_law_31 9 rfl rfl)
theorem dL_law_850 : decode cL_law 850 = .ok (.iload 4, 2) := dk_21 4 (dk_at dksL_law_31 10 rfl rfl)
theorem dL_law_852 : decode cL_law 852 = .ok (.iconst 1, 1) := dk_4 (dk_at dksL_law_31 12 rfl rfl)
theorem dL_law_853 : decode cL_law 853 = .ok (.iadd, 1) := dk_96 (dk_at dksL_law_31 13 rfl rfl)
theorem dL_law_854 : decode cL_law 854 = .ok (.iaload, 1) := dk_46 (dk_at dksL_law_31 14 rfl rfl)
theorem dL_law_855 : decode cL_law 855 = .ok (.aload_n 0, 1) := dk_42 (dk_at dksL_law_31 15 rfl rfl)
theorem dL_law_856 : decode cL_law 856 = .ok (.iload 4, 2) := dk_21 4 (dk_at dksL_law_31 16 rfl rfl)
theorem dL_law_858 : decode cL_law 858 = .ok (.iconst 2, 1) := dk_5 (dk_at dksL_law_31 18 rfl rfl)
theorem dL_law_859 : decode cL_law 859 = .ok (.iadd, 1) := dk_96 (dk_at dksL_law_31 19 rfl rfl)
theorem dL_law_860 : decode cL_law 860 = .ok (.iaload, 1) := dk_46 (dk_at dksL_law_31 20 rfl rfl)
theorem dL_law_861 : decode cL_law 861 = .ok (.aload_n 3, 1) := dk_45 (dk_at dksL_law_31 21 rfl rfl)
theorem dL_law_862 : decode cL_law 862 = .ok (.invokestatic 161, 3) := dk_184 0 161 (dk_at dksL_law_32 0 rfl rfl)
theorem dL_law_865 : decode cL_law 865 = .ok (.istore 5, 2) := dk_54 5 (dk_at dksL_law_32 3 rfl rfl)
theorem dL_law_867 : decode cL_law 867 = .ok (.aload_n 2, 1) := dk_44 (dk_at dksL_law_32 5 rfl rfl)
theorem dL_law_868 : decode cL_law 868 = .ok (.aload_n 0, 1) := dk_42 (dk_at dksL_law_32 6 rfl rfl)
theorem dL_law_869 : decode cL_law 869 = .ok (.iload 4, 2) := dk_21 4 (dk_at dksL_law_32 7 rfl rfl)
theorem dL_law_871 : decode cL_law 871 = .ok (.iconst 1, 1) := dk_4 (dk_at dksL_law_32 9 rfl rfl)
theorem dL_law_872 : decode cL_law 872 = .ok (.iadd, 1) := dk_96 (dk_at dksL_law_32 10 rfl rfl)
theorem dL_law_873 : decode cL_law 873 = .ok (.iaload, 1) := dk_46 (dk_at dksL_law_32 11 rfl rfl)
theorem dL_law_874 : decode cL_law 874 = .ok (.aload_n 0, 1) := dk_42 (dk_at dksL_law_32 12 rfl rfl)
theorem dL_law_875 : decode cL_law 875 = .ok (.iload 4, 2) := dk_21 4 (dk_at dksL_law_32 13 rfl rfl)
theorem dL_law_877 : decode cL_law 877 = .ok (.iconst 2, 1) := dk_5 (dk_at dksL_law_32 15 rfl rfl)
theorem dL_law_878 : decode cL_law 878 = .ok (.iadd, 1) := dk_96 (dk_at dksL_law_32 16 rfl rfl)
theorem dL_law_879 : decode cL_law 879 = .ok (.iaload, 1) := dk_46 (dk_at dksL_law_32 17 rfl rfl)
theorem dL_law_880 : decode cL_law 880 = .ok (.invokevirtual 163, 3) := dk_182 0 163 (dk_at dksL_law_32 18 rfl rfl)
theorem dL_law_883 : decode cL_law 883 = .ok (.istore 6, 2) := dk_54 6 (dk_at dksL_law_32 21 rfl rfl)
theorem dL_law_885 : decode cL_law 885 = .ok (.aload_n 2, 1) := dk_44 (dk_at dksL_law_32 23 rfl rfl)
theorem dL_law_886 : decode cL_law 886 = .ok (.invokevirtual 128, 3) := dk_182 0 128 (dk_at dksL_law_33 0 rfl rfl)
theorem dL_law_889 : decode cL_law 889 = .ok (.iload 5, 2) := dk_21 5 (dk_at dksL_law_33 3 rfl rfl)
theorem dL_law_891 : decode cL_law 891 = .ok (.if_icmp .eq 5, 3) := dk_159 0 5 (dk_at dksL_law_33 5 rfl rfl)
theorem dL_law_894 : decode cL_law 894 = .ok (.iconst 0, 1) := dk_3 (dk_at dksL_law_33 8 rfl rfl)
theorem dL_law_895 : decode cL_law 895 = .ok (.ireturn, 1) := dk_172 (dk_at dksL_law_33 9 rfl rfl)
theorem dL_law_896 : decode cL_law 896 = .ok (.iload 5, 2) := dk_21 5 (dk_at dksL_law_33 10 rfl rfl)
theorem dL_law_898 : decode cL_law 898 = .ok (.ifCond .ne 15, 3) := dk_154 0 15 (dk_at dksL_law_33 12 rfl rfl)
theorem dL_law_901 : decode cL_law 901 = .ok (.aload_n 3, 1) := dk_45 (dk_at dksL_law_33 15 rfl rfl)
theorem dL_law_902 : decode cL_law 902 = .ok (.iconst 0, 1) := dk_3 (dk_at dksL_law_33 16 rfl rfl)
theorem dL_law_903 : decode cL_law 903 = .ok (.laload, 1) := dk_47 (dk_at dksL_law_33 17 rfl rfl)
theorem dL_law_904 : decode cL_law 904 = .ok (.iload 6, 2) := dk_21 6 (dk_at dksL_law_33 18 rfl rfl)
theorem dL_law_906 : decode cL_law 906 = .ok (.i2l, 1) := dk_133 (dk_at dksL_law_33 20 rfl rfl)
theorem dL_law_907 : decode cL_law 907 = .ok (.lcmp, 1) := dk_148 (dk_at dksL_law_33 21 rfl rfl)
theorem dL_law_908 : decode cL_law 908 = .ok (.ifCond .eq 5, 3) := dk_153 0 5 (dk_at dksL_law_34 0 rfl rfl)
theorem dL_law_911 : decode cL_law 911 = .ok (.iconst 0, 1) := dk_3 (dk_at dksL_law_34 3 rfl rfl)
theorem dL_law_912 : decode cL_law 912 = .ok (.ireturn, 1) := dk_172 (dk_at dksL_law_34 4 rfl rfl)
theorem dL_law_913 : decode cL_law 913 = .ok (.goto 1458, 3) := dk_167 5 178 (dk_at dksL_law_34 5 rfl rfl)
theorem dL_law_916 : decode cL_law 916 = .ok (.aload_n 1, 1) := dk_43 (dk_at dksL_law_34 8 rfl rfl)
theorem dL_law_917 : decode cL_law 917 = .ok (.aload_n 0, 1) := dk_42 (dk_at dksL_law_34 9 rfl rfl)
theorem dL_law_918 : decode cL_law 918 = .ok (.iload 4, 2) := dk_21 4 (dk_at dksL_law_34 10 rfl rfl)
theorem dL_law_920 : decode cL_law 920 = .ok (.iconst 1, 1) := dk_4 (dk_at dksL_law_34 12 rfl rfl)
theorem dL_law_921 : decode cL_law 921 = .ok (.iadd, 1) := dk_96 (dk_at dksL_law_34 13 rfl rfl)
theorem dL_law_922 : decode cL_law 922 = .ok (.iaload, 1) := dk_46 (dk_at dksL_law_34 14 rfl rfl)
theorem dL_law_923 : decode cL_law 923 = .ok (.aload_n 0, 1) := dk_42 (dk_at dksL_law_34 15 rfl rfl)
theorem dL_law_924 : decode cL_law 924 = .ok (.iload 4, 2) := dk_21 4 (dk_at dksL_law_34 16 rfl rfl)
theorem dL_law_926 : decode cL_law 926 = .ok (.iconst 2, 1) := dk_5 (dk_at dksL_law_34 18 rfl rfl)
theorem dL_law_927 : decode cL_law 927 = .ok (.iadd, 1) := dk_96 (dk_at dksL_law_34 19 rfl rfl)
theorem dL_law_928 : decode cL_law 928 = .ok (.iaload, 1) := dk_46 (dk_at dksL_law_34 20 rfl rfl)
theorem dL_law_929 : decode cL_law 929 = .ok (.aload_n 0, 1) := dk_42 (dk_at dksL_law_34 21 rfl rfl)
theorem dL_law_930 : decode cL_law 930 = .ok (.iload 4, 2) := dk_21 4 (dk_at dksL_law_34 22 rfl rfl)
theorem dL_law_932 : decode cL_law 932 = .ok (.iconst 3, 1) := dk_6 (dk_at dksL_law_35 0 rfl rfl)
theorem dL_law_933 : decode cL_law 933 = .ok (.iadd, 1) := dk_96 (dk_at dksL_law_35 1 rfl rfl)
theorem dL_law_934 : decode cL_law 934 = .ok (.iaload, 1) := dk_46 (dk_at dksL_law_35 2 rfl rfl)
theorem dL_law_935 : decode cL_law 935 = .ok (.aload_n 0, 1) := dk_42 (dk_at dksL_law_35 3 rfl rfl)
theorem dL_law_936 : decode cL_law 936 = .ok (.iload 4, 2) := dk_21 4 (dk_at dksL_law_35 4 rfl rfl)
theorem dL_law_938 : decode cL_law 938 = .ok (.iconst 4, 1) := dk_7 (dk_at dksL_law_35 6 rfl rfl)
theorem dL_law_939 : decode cL_law 939 = .ok (.iadd, 1) := dk_96 (dk_at dksL_law_35 7 rfl rfl)
theorem dL_law_940 : decode cL_law 940 = .ok (.iaload, 1) := dk_46 (dk_at dksL_law_35 8 rfl rfl)
theorem dL_law_941 : decode cL_law 941 = .ok (.aload_n 0, 1) := dk_42 (dk_at dksL_law_35 9 rfl rfl)
theorem dL_law_942 : decode cL_law 942 = .ok (.iload 4, 2) := dk_21 4 (dk_at dksL_law_35 10 rfl rfl)
theorem dL_law_944 : decode cL_law 944 = .ok (.iconst 5, 1) := dk_8 (dk_at dksL_law_35 12 rfl rfl)
theorem dL_law_945 : decode cL_law 945 = .ok (.iadd, 1) := dk_96 (dk_at dksL_law_35 13 rfl rfl)
theorem dL_law_946 : decode cL_law 946 = .ok (.iaload, 1) := dk_46 (dk_at dksL_law_35 14 rfl rfl)
theorem dL_law_947 : decode cL_law 947 = .ok (.aload_n 0, 1) := dk_42 (dk_at dksL_law_35 15 rfl rfl)
theorem dL_law_948 : decode cL_law 948 = .ok (.iload 4, 2) := dk_21 4 (dk_at dksL_law_35 16 rfl rfl)
theorem dL_law_950 : decode cL_law 950 = .ok (.bipush 6, 2) := dk_16 6 (dk_at dksL_law_35 18 rfl rfl)
theorem dL_law_952 : decode cL_law 952 = .ok (.iadd, 1) := dk_96 (dk_at dksL_law_35 20 rfl rfl)
theorem dL_law_953 : decode cL_law 953 = .ok (.iaload, 1) := dk_46 (dk_at dksL_law_35 21 rfl rfl)
theorem dL_law_954 : decode cL_law 954 = .ok (.aload_n 0, 1) := dk_42 (dk_at dksL_law_35 22 rfl rfl)
theorem dL_law_955 : decode cL_law 955 = .ok (.iload 4, 2) := dk_21 4 (dk_at dksL_law_36 0 rfl rfl)
theorem dL_law_957 : decode cL_law 957 = .ok (.bipush 7, 2) := dk_16 7 (dk_at dksL_law_36 2 rfl rfl)
theorem dL_law_959 : decode cL_law 959 = .ok (.iadd, 1) := dk_96 (dk_at dksL_law_36 4 rfl rfl)
theorem dL_law_960 : decode cL_law 960 = .ok (.iaload, 1) := dk_46 (dk_at dksL_law_36 5 rfl rfl)
theorem dL_law_961 : decode cL_law 961 = .ok (.aload_n 3, 1) := dk_45 (dk_at dksL_law_36 6 rfl rfl)
theorem dL_law_962 : decode cL_law 962 = .ok (.invokestatic 164, 3) := dk_184 0 164 (dk_at dksL_law_36 7 rfl rfl)
theorem dL_law_965 : decode cL_law 965 = .ok (.istore 5, 2) := dk_54 5 (dk_at dksL_law_36 10 rfl rfl)
theorem dL_law_967 : decode cL_law 967 = .ok (.aload_n 2, 1) := dk_44 (dk_at dksL_law_36 12 rfl rfl)
theorem dL_law_968 : decode cL_law 968 = .ok (.aload_n 0, 1) := dk_42 (dk_at dksL_law_36 13 rfl rfl)
theorem dL_law_969 : decode cL_law 969 = .ok (.iload 4, 2) := dk_21 4 (dk_at dksL_law_36 14 rfl rfl)
theorem dL_law_971 : decode cL_law 971 = .ok (.iconst 1, 1) := dk_4 (dk_at dksL_law_36 16 rfl rfl)
theorem dL_law_972 : decode cL_law 972 = .ok (.iadd, 1) := dk_96 (dk_at dksL_law_36 17 rfl rfl)
theorem dL_law_973 : decode cL_law 973 = .ok (.iaload, 1) := dk_46 (dk_at dksL_law_36 18 rfl rfl)
theorem dL_law_974 : decode cL_law 974 = .ok (.aload_n 0, 1) := dk_42 (dk_at dksL_law_36 19 rfl rfl)
theorem dL_law_975 : decode cL_law 975 = .ok (.iload 4, 2) := dk_21 4 (dk_at dksL_law_36 20 rfl rfl)
theorem dL_law_977 : decode cL_law 977 = .ok (.iconst 2, 1) := dk_5 (dk_at dksL_law_36 22 rfl rfl)
theorem dL_law_978 : decode cL_law 978 = .ok (.iadd, 1) := dk_96 (dk_at dksL_law_36 23 rfl rfl)
theorem dL_law_979 : decode cL_law 979 = .ok (.iaload, 1) := dk_46 (dk_at dksL_law_37 0 rfl rfl)
theorem dL_law_980 : decode cL_law 980 = .ok (.aload_n 0, 1) := dk_42 (dk_at dksL_law_37 1 rfl rfl)
theorem dL_law_981 : decode cL_law 981 = .ok (.iload 4, 2) := dk_21 4 (dk_at dksL_law_37 2 rfl rfl)
theorem dL_law_983 : decode cL_law 983 = .ok (.iconst 3, 1) := dk_6 (dk_at dksL_law_37 4 rfl rfl)
theorem dL_law_984 : decode cL_law 984 = .ok (.iadd, 1) := dk_96 (dk_at dksL_law_37 5 rfl rfl)
theorem dL_law_985 : decode cL_law 985 = .ok (.iaload, 1) := dk_46 (dk_at dksL_law_37 6 rfl rfl)
theorem dL_law_986 : decode cL_law 986 = .ok (.aload_n 0, 1) := dk_42 (dk_at dksL_law_37 7 rfl rfl)
theorem dL_law_987 : decode cL_law 987 = .ok (.iload 4, 2) := dk_21 4 (dk_at dksL_law_37 8 rfl rfl)
theorem dL_law_989 : decode cL_law 989 = .ok (.iconst 4, 1) := dk_7 (dk_at dksL_law_37 10 rfl rfl)
theorem dL_law_990 : decode cL_law 990 = .ok (.iadd, 1) := dk_96 (dk_at dksL_law_37 11 rfl rfl)
theorem dL_law_991 : decode cL_law 991 = .ok (.iaload, 1) := dk_46 (dk_at dksL_law_37 12 rfl rfl)
theorem dL_law_992 : decode cL_law 992 = .ok (.aload_n 0, 1) := dk_42 (dk_at dksL_law_37 13 rfl rfl)
theorem dL_law_993 : decode cL_law 993 = .ok (.iload 4, 2) := dk_21 4 (dk_at dksL_law_37 14 rfl rfl)
theorem dL_law_995 : decode cL_law 995 = .ok (.iconst 5, 1) := dk_8 (dk_at dksL_law_37 16 rfl rfl)
theorem dL_law_996 : decode cL_law 996 = .ok (.iadd, 1) := dk_96 (dk_at dksL_law_37 17 rfl rfl)
theorem dL_law_997 : decode cL_law 997 = .ok (.iaload, 1) := dk_46 (dk_at dksL_law_37 18 rfl rfl)
theorem dL_law_998 : decode cL_law 998 = .ok (.aload_n 0, 1) := dk_42 (dk_at dksL_law_37 19 rfl rfl)
theorem dL_law_999 : decode cL_law 999 = .ok (.iload 4, 2) := dk_21 4 (dk_at dksL_law_37 20 rfl rfl)
theorem dL_law_1001 : decode cL_law 1001 = .ok (.bipush 6, 2) := dk_16 6 (dk_at dksL_law_37 22 rfl rfl)
theorem dL_law_1003 : decode cL_law 1003 = .ok (.iadd, 1) := dk_96 (dk_at dksL_law_38 0 rfl rfl)
theorem dL_law_1004 : decode cL_law 1004 = .ok (.iaload, 1) := dk_46 (dk_at dksL_law_38 1 rfl rfl)
theorem dL_law_1005 : decode cL_law 1005 = .ok (.aload_n 0, 1) := dk_42 (dk_at dksL_law_38 2 rfl rfl)
theorem dL_law_1006 : decode cL_law 1006 = .ok (.iload 4, 2) := dk_21 4 (dk_at dksL_law_38 3 rfl rfl)
theorem dL_law_1008 : decode cL_law 1008 = .ok (.bipush 7, 2) := dk_16 7 (dk_at dksL_law_38 5 rfl rfl)
theorem dL_law_1010 : decode cL_law 1010 = .ok (.iadd, 1) := dk_96 (dk_at dksL_law_38 7 rfl rfl)
theorem dL_law_1011 : decode cL_law 1011 = .ok (.iaload, 1) := dk_46 (dk_at dksL_law_38 8 rfl rfl)
theorem dL_law_1012 : decode cL_law 1012 = .ok (.invokevirtual 167, 3) := dk_182 0 167 (dk_at dksL_law_38 9 rfl rfl)
theorem dL_law_1015 : decode cL_law 1015 = .ok (.istore 6, 2) := dk_54 6 (dk_at dksL_law_38 12 rfl rfl)
theorem dL_law_1017 : decode cL_law 1017 = .ok (.aload_n 2, 1) := dk_44 (dk_at dksL_law_38 14 rfl rfl)
theorem dL_law_1018 : decode cL_law 1018 = .ok (.invokevirtual 128, 3) := dk_182 0 128 (dk_at dksL_law_38 15 rfl rfl)
theorem dL_law_1021 : decode cL_law 1021 = .ok (.iload 5, 2) := dk_21 5 (dk_at dksL_law_38 18 rfl rfl)
theorem dL_law_1023 : decode cL_law 1023 = .ok (.if_icmp .eq 5, 3) := dk_159 0 5 (dk_at dksL_law_38 20 rfl rfl)
theorem dL_law_1026 : decode cL_law 1026 = .ok (.iconst 0, 1) := dk_3 (dk_at dksL_law_38 23 rfl rfl)
theorem dL_law_1027 : decode cL_law 1027 = .ok (.ireturn, 1) := dk_172 (dk_at dksL_law_39 0 rfl rfl)
theorem dL_law_1028 : decode cL_law 1028 = .ok (.iload 5, 2) := dk_21 5 (dk_at dksL_law_39 1 rfl rfl)
theorem dL_law_1030 : decode cL_law 1030 = .ok (.ifCond .ne 15, 3) := dk_154 0 15 (dk_at dksL_law_39 3 rfl rfl)
theorem dL_law_1033 : decode cL_law 1033 = .ok (.aload_n 3, 1) := dk_45 (dk_at dksL_law_39 6 rfl rfl)
theorem dL_law_1034 : decode cL_law 1034 = .ok (.iconst 0, 1) := dk_3 (dk_at dksL_law_39 7 rfl rfl)
theorem dL_law_1035 : decode cL_law 1035 = .ok (.laload, 1) := dk_47 (dk_at dksL_law_39 8 rfl rfl)
theorem dL_law_1036 : decode cL_law 1036 = .ok (.iload 6, 2) := dk_21 6 (dk_at dksL_law_39 9 rfl rfl)
theorem dL_law_1038 : decode cL_law 1038 = .ok (.i2l, 1) := dk_133 (dk_at dksL_law_39 11 rfl rfl)
theorem dL_law_1039 : decode cL_law 1039 = .ok (.lcmp, 1) := dk_148 (dk_at dksL_law_39 12 rfl rfl)
theorem dL_law_1040 : decode cL_law 1040 = .ok (.ifCond .eq 5, 3) := dk_153 0 5 (dk_at dksL_law_39 13 rfl rfl)
theorem dL_law_1043 : decode cL_law 1043 = .ok (.iconst 0, 1) := dk_3 (dk_at dksL_law_39 16 rfl rfl)
theorem dL_law_1044 : decode cL_law 1044 = .ok (.ireturn, 1) := dk_172 (dk_at dksL_law_39 17 rfl rfl)
theorem dL_law_1045 : decode cL_law 1045 = .ok (.goto 1326, 3) := dk_167 5 46 (dk_at dksL_law_39 18 rfl rfl)
theorem dL_law_1048 : decode cL_law 1048 = .ok (.aload_n 1, 1) := dk_43 (dk_at dksL_law_39 21 rfl rfl)
theorem dL_law_1049 : decode cL_law 1049 = .ok (.aload_n 3, 1) := dk_45 (dk_at dksL_law_39 22 rfl rfl)
theorem dL_law_1050 : decode cL_law 1050 = .ok (.invokestatic 168, 3) := dk_184 0 168 (dk_at dksL_law_40 0 rfl rfl)
theorem dL_law_1053 : decode cL_law 1053 = .ok (.istore 5, 2) := dk_54 5 (dk_at dksL_law_40 3 rfl rfl)
theorem dL_law_1055 : decode cL_law 1055 = .ok (.aload_n 2, 1) := dk_44 (dk_at dksL_law_40 5 rfl rfl)
theorem dL_law_1056 : decode cL_law 1056 = .ok (.invokevirtual 170, 3) := dk_182 0 170 (dk_at dksL_law_40 6 rfl rfl)
theorem dL_law_1059 : decode cL_law 1059 = .ok (.istore 6, 2) := dk_54 6 (dk_at dksL_law_40 9 rfl rfl)
theorem dL_law_1061 : decode cL_law 1061 = .ok (.aload_n 2, 1) := dk_44 (dk_at dksL_law_40 11 rfl rfl)
theorem dL_law_1062 : decode cL_law 1062 = .ok (.invokevirtual 128, 3) := dk_182 0 128 (dk_at dksL_law_40 12 rfl rfl)
theorem dL_law_1065 : decode cL_law 1065 = .ok (.iload 5, 2) := dk_21 5 (dk_at dksL_law_40 15 rfl rfl)
theorem dL_law_1067 : decode cL_law 1067 = .ok (.if_icmp .eq 5, 3) := dk_159 0 5 (dk_at dksL_law_40 17 rfl rfl)
theorem dL_law_1070 : decode cL_law 1070 = .ok (.iconst 0, 1) := dk_3 (dk_at dksL_law_40 20 rfl rfl)
theorem dL_law_1071 : decode cL_law 1071 = .ok (.ireturn, 1) := dk_172 (dk_at dksL_law_40 21 rfl rfl)
theorem dL_law_1072 : decode cL_law 1072 = .ok (.iload 5, 2) := dk_21 5 (dk_at dksL_law_40 22 rfl rfl)
theorem dL_law_1074 : decode cL_law 1074 = .ok (.ifCond .ne 15, 3) := dk_154 0 15 (dk_at dksL_law_41 0 rfl rfl)
theorem dL_law_1077 : decode cL_law 1077 = .ok (.aload_n 3, 1) := dk_45 (dk_at dksL_law_41 3 rfl rfl)
theorem dL_law_1078 : decode cL_law 1078 = .ok (.iconst 0, 1) := dk_3 (dk_at dksL_law_41 4 rfl rfl)
theorem dL_law_1079 : decode cL_law 1079 = .ok (.laload, 1) := dk_47 (dk_at dksL_law_41 5 rfl rfl)
theorem dL_law_1080 : decode cL_law 1080 = .ok (.iload 6, 2) := dk_21 6 (dk_at dksL_law_41 6 rfl rfl)
theorem dL_law_1082 : decode cL_law 1082 = .ok (.i2l, 1) := dk_133 (dk_at dksL_law_41 8 rfl rfl)
theorem dL_law_1083 : decode cL_law 1083 = .ok (.lcmp, 1) := dk_148 (dk_at dksL_law_41 9 rfl rfl)
theorem dL_law_1084 : decode cL_law 1084 = .ok (.ifCond .eq 5, 3) := dk_153 0 5 (dk_at dksL_law_41 10 rfl rfl)
theorem dL_law_1087 : decode cL_law 1087 = .ok (.iconst 0, 1) := dk_3 (dk_at dksL_law_41 13 rfl rfl)
theorem dL_law_1088 : decode cL_law 1088 = .ok (.ireturn, 1) := dk_172 (dk_at dksL_law_41 14 rfl rfl)
theorem dL_law_1089 : decode cL_law 1089 = .ok (.goto 1282, 3) := dk_167 5 2 (dk_at dksL_law_41 15 rfl rfl)
theorem dL_law_1092 : decode cL_law 1092 = .ok (.aload_n 1, 1) := dk_43 (dk_at dksL_law_41 18 rfl rfl)
theorem dL_law_1093 : decode cL_law 1093 = .ok (.aload_n 0, 1) := dk_42 (dk_at dksL_law_41 19 rfl rfl)
theorem dL_law_1094 : decode cL_law 1094 = .ok (.iload 4, 2) := dk_21 4 (dk_at dksL_law_41 20 rfl rfl)
theorem dL_law_1096 : decode cL_law 1096 = .ok (.iconst 1, 1) := dk_4 (dk_at dksL_law_41 22 rfl rfl)
theorem dL_law_1097 : decode cL_law 1097 = .ok (.iadd, 1) := dk_96 (dk_at dksL_law_41 23 rfl rfl)
theorem dL_law_1098 : decode cL_law 1098 = .ok (.iaload, 1) := dk_46 (dk_at dksL_law_42 0 rfl rfl)
theorem dL_law_1099 : decode cL_law 1099 = .ok (.aload_n 0, 1) := dk_42 (dk_at dksL_law_42 1 rfl rfl)
theorem dL_law_1100 : decode cL_law 1100 = .ok (.iload 4, 2) := dk_21 4 (dk_at dksL_law_42 2 rfl rfl)
theorem dL_law_1102 : decode cL_law 1102 = .ok (.iconst 2, 1) := dk_5 (dk_at dksL_law_42 4 rfl rfl)
theorem dL_law_1103 : decode cL_law 1103 = .ok (.iadd, 1) := dk_96 (dk_at dksL_law_42 5 rfl rfl)
theorem dL_law_1104 : decode cL_law 1104 = .ok (.iaload, 1) := dk_46 (dk_at dksL_law_42 6 rfl rfl)
theorem dL_law_1105 : decode cL_law 1105 = .ok (.aload_n 0, 1) := dk_42 (dk_at dksL_law_42 7 rfl rfl)
theorem dL_law_1106 : decode cL_law 1106 = .ok (.iload 4, 2) := dk_21 4 (dk_at dksL_law_42 8 rfl rfl)
theorem dL_law_1108 : decode cL_law 1108 = .ok (.iconst 3, 1) := dk_6 (dk_at dksL_law_42 10 rfl rfl)
theorem dL_law_1109 : decode cL_law 1109 = .ok (.iadd, 1) := dk_96 (dk_at dksL_law_42 11 rfl rfl)
theorem dL_law_1110 : decode cL_law 1110 = .ok (.iaload, 1) := dk_46 (dk_at dksL_law_42 12 rfl rfl)
theorem dL_law_1111 : decode cL_law 1111 = .ok (.aload_n 0, 1) := dk_42 (dk_at dksL_law_42 13 rfl rfl)
theorem dL_law_1112 : decode cL_law 1112 = .ok (.iload 4, 2) := dk_21 4 (dk_at dksL_law_42 14 rfl rfl)
theorem dL_law_1114 : decode cL_law 1114 = .ok (.iconst 4, 1) := dk_7 (dk_at dksL_law_42 16 rfl rfl)
theorem dL_law_1115 : decode cL_law 1115 = .ok (.iadd, 1) := dk_96 (dk_at dksL_law_42 17 rfl rfl)
theorem dL_law_1116 : decode cL_law 1116 = .ok (.iaload, 1) := dk_46 (dk_at dksL_law_42 18 rfl rfl)
theorem dL_law_1117 : decode cL_law 1117 = .ok (.aload_n 3, 1) := dk_45 (dk_at dksL_law_42 19 rfl rfl)
theorem dL_law_1118 : decode cL_law 1118 = .ok (.invokestatic 171, 3) := dk_184 0 171 (dk_at dksL_law_42 20 rfl rfl)
theorem dL_law_1121 : decode cL_law 1121 = .ok (.istore 5, 2) := dk_54 5 (dk_at dksL_law_43 0 rfl rfl)
theorem dL_law_1123 : decode cL_law 1123 = .ok (.aload_n 2, 1) := dk_44 (dk_at dksL_law_43 2 rfl rfl)
theorem dL_law_1124 : decode cL_law 1124 = .ok (.aload_n 0, 1) := dk_42 (dk_at dksL_law_43 3 rfl rfl)
theorem dL_law_1125 : decode cL_law 1125 = .ok (.iload 4, 2) := dk_21 4 (dk_at dksL_law_43 4 rfl rfl)
theorem dL_law_1127 : decode cL_law 1127 = .ok (.iconst 1, 1) := dk_4 (dk_at dksL_law_43 6 rfl rfl)
theorem dL_law_1128 : decode cL_law 1128 = .ok (.iadd, 1) := dk_96 (dk_at dksL_law_43 7 rfl rfl)
theorem dL_law_1129 : decode cL_law 1129 = .ok (.iaload, 1) := dk_46 (dk_at dksL_law_43 8 rfl rfl)
theorem dL_law_1130 : decode cL_law 1130 = .ok (.aload_n 0, 1) := dk_42 (dk_at dksL_law_43 9 rfl rfl)
theorem dL_law_1131 : decode cL_law 1131 = .ok (.iload 4, 2) := dk_21 4 (dk_at dksL_law_43 10 rfl rfl)
theorem dL_law_1133 : decode cL_law 1133 = .ok (.iconst 2, 1) := dk_5 (dk_at dksL_law_43 12 rfl rfl)
theorem dL_law_1134 : decode cL_law 1134 = .ok (.iadd, 1) := dk_96 (dk_at dksL_law_43 13 rfl rfl)
theorem dL_law_1135 : decode cL_law 1135 = .ok (.iaload, 1) := dk_46 (dk_at dksL_law_43 14 rfl rfl)
theorem dL_law_1136 : decode cL_law 1136 = .ok (.aload_n 0, 1) := dk_42 (dk_at dksL_law_43 15 rfl rfl)
theorem dL_law_1137 : decode cL_law 1137 = .ok (.iload 4, 2) := dk_21 4 (dk_at dksL_law_43 16 rfl rfl)
theorem dL_law_1139 : decode cL_law 1139 = .ok (.iconst 3, 1) := dk_6 (dk_at dksL_law_43 18 rfl rfl)
theorem dL_law_1140 : decode cL_law 1140 = .ok (.iadd, 1) := dk_96 (dk_at dksL_law_43 19 rfl rfl)
theorem dL_law_1141 : decode cL_law 1141 = .ok (.iaload, 1) := dk_46 (dk_at dksL_law_43 20 rfl rfl)
theorem dL_law_1142 : decode cL_law 1142 = .ok (.aload_n 0, 1) := dk_42 (dk_at dksL_law_43 21 rfl rfl)
theorem dL_law_1143 : decode cL_law 1143 = .ok (.iload 4, 2) := dk_21 4 (dk_at dksL_law_43 22 rfl rfl)
theorem dL_law_1145 : decode cL_law 1145 = .ok (.iconst 4, 1) := dk_7 (dk_at dksL_law_44 0 rfl rfl)
theorem dL_law_1146 : decode cL_law 1146 = .ok (.iadd, 1) := dk_96 (dk_at dksL_law_44 1 rfl rfl)
theorem dL_law_1147 : decode cL_law 1147 = .ok (.iaload, 1) := dk_46 (dk_at dksL_law_44 2 rfl rfl)
theorem dL_law_1148 : decode cL_law 1148 = .ok (.invokevirtual 174, 3) := dk_182 0 174 (dk_at dksL_law_44 3 rfl rfl)
theorem dL_law_1151 : decode cL_law 1151 = .ok (.istore 6, 2) := dk_54 6 (dk_at dksL_law_44 6 rfl rfl)
theorem dL_law_1153 : decode cL_law 1153 = .ok (.aload_n 2, 1) := dk_44 (dk_at dksL_law_44 8 rfl rfl)
theorem dL_law_1154 : decode cL_law 1154 = .ok (.invokevirtual 128, 3) := dk_182 0 128 (dk_at dksL_law_44 9 rfl rfl)
theorem dL_law_1157 : decode cL_law 1157 = .ok (.iload 5, 2) := dk_21 5 (dk_at dksL_law_44 12 rfl rfl)
theorem dL_law_1159 : decode cL_law 1159 = .ok (.if_icmp .eq 5, 3) := dk_159 0 5 (dk_at dksL_law_44 14 rfl rfl)
theorem dL_law_1162 : decode cL_law 1162 = .ok (.iconst 0, 1) := dk_3 (dk_at dksL_law_44 17 rfl rfl)
theorem dL_law_1163 : decode cL_law 1163 = .ok (.ireturn, 1) := dk_172 (dk_at dksL_law_44 18 rfl rfl)
theorem dL_law_1164 : decode cL_law 1164 = .ok (.iload 5, 2) := dk_21 5 (dk_at dksL_law_44 19 rfl rfl)
theorem dL_law_1166 : decode cL_law 1166 = .ok (.ifCond .ne 15, 3) := dk_154 0 15 (dk_at dksL_law_44 21 rfl rfl)
theorem dL_law_1169 : decode cL_law 1169 = .ok (.aload_n 3, 1) := dk_45 (dk_at dksL_law_45 0 rfl rfl)
theorem dL_law_1170 : decode cL_law 1170 = .ok (.iconst 0, 1) := dk_3 (dk_at dksL_law_45 1 rfl rfl)
theorem dL_law_1171 : decode cL_law 1171 = .ok (.laload, 1) := dk_47 (dk_at dksL_law_45 2 rfl rfl)
theorem dL_law_1172 : decode cL_law 1172 = .ok (.iload 6, 2) := dk_21 6 (dk_at dksL_law_45 3 rfl rfl)
theorem dL_law_1174 : decode cL_law 1174 = .ok (.i2l, 1) := dk_133 (dk_at dksL_law_45 5 rfl rfl)
theorem dL_law_1175 : decode cL_law 1175 = .ok (.lcmp, 1) := dk_148 (dk_at dksL_law_45 6 rfl rfl)
theorem dL_law_1176 : decode cL_law 1176 = .ok (.ifCond .eq 5, 3) := dk_153 0 5 (dk_at dksL_law_45 7 rfl rfl)
theorem dL_law_1179 : decode cL_law 1179 = .ok (.iconst 0, 1) := dk_3 (dk_at dksL_law_45 10 rfl rfl)
theorem dL_law_1180 : decode cL_law 1180 = .ok (.ireturn, 1) := dk_172 (dk_at dksL_law_45 11 rfl rfl)
theorem dL_law_1181 : decode cL_law 1181 = .ok (.goto 1190, 3) := dk_167 4 166 (dk_at dksL_law_45 12 rfl rfl)
theorem dL_law_1184 : decode cL_law 1184 = .ok (.aload_n 1, 1) := dk_43 (dk_at dksL_law_45 15 rfl rfl)
theorem dL_law_1185 : decode cL_law 1185 = .ok (.aload_n 3, 1) := dk_45 (dk_at dksL_law_45 16 rfl rfl)
theorem dL_law_1186 : decode cL_law 1186 = .ok (.invokestatic 175, 3) := dk_184 0 175 (dk_at dksL_law_45 17 rfl rfl)
theorem dL_law_1189 : decode cL_law 1189 = .ok (.istore 5, 2) := dk_54 5 (dk_at dksL_law_45 20 rfl rfl)
theorem dL_law_1191 : decode cL_law 1191 = .ok (.aload_n 2, 1) := dk_44 (dk_at dksL_law_45 22 rfl rfl)
theorem dL_law_1192 : decode cL_law 1192 = .ok (.invokevirtual 177, 3) := dk_182 0 177 (dk_at dksL_law_46 0 rfl rfl)
theorem dL_law_1195 : decode cL_law 1195 = .ok (.istore 6, 2) := dk_54 6 (dk_at dksL_law_46 3 rfl rfl)
theorem dL_law_1197 : decode cL_law 1197 = .ok (.aload_n 2, 1) := dk_44 (dk_at dksL_law_46 5 rfl rfl)
theorem dL_law_1198 : decode cL_law 1198 = .ok (.invokevirtual 128, 3) := dk_182 0 128 (dk_at dksL_law_46 6 rfl rfl)
theorem dL_law_1201 : decode cL_law 1201 = .ok (.iload 5, 2) := dk_21 5 (dk_at dksL_law_46 9 rfl rfl)
theorem dL_law_1203 : decode cL_law 1203 = .ok (.if_icmp .eq 5, 3) := dk_159 0 5 (dk_at dksL_law_46 11 rfl rfl)
theorem dL_law_1206 : decode cL_law 1206 = .ok (.iconst 0, 1) := dk_3 (dk_at dksL_law_46 14 rfl rfl)
theorem dL_law_1207 : decode cL_law 1207 = .ok (.ireturn, 1) := dk_172 (dk_at dksL_law_46 15 rfl rfl)
theorem dL_law_1208 : decode cL_law 1208 = .ok (.iload 5, 2) := dk_21 5 (dk_at dksL_law_46 16 rfl rfl)
theorem dL_law_1210 : decode cL_law 1210 = .ok (.ifCond .ne 15, 3) := dk_154 0 15 (dk_at dksL_law_46 18 rfl rfl)
theorem dL_law_1213 : decode cL_law 1213 = .ok (.aload_n 3, 1) := dk_45 (dk_at dksL_law_46 21 rfl rfl)
theorem dL_law_1214 : decode cL_law 1214 = .ok (.iconst 0, 1) := dk_3 (dk_at dksL_law_46 22 rfl rfl)
theorem dL_law_1215 : decode cL_law 1215 = .ok (.laload, 1) := dk_47 (dk_at dksL_law_46 23 rfl rfl)
theorem dL_law_1216 : decode cL_law 1216 = .ok (.iload 6, 2) := dk_21 6 (dk_at dksL_law_47 0 rfl rfl)
theorem dL_law_1218 : decode cL_law 1218 = .ok (.i2l, 1) := dk_133 (dk_at dksL_law_47 2 rfl rfl)
theorem dL_law_1219 : decode cL_law 1219 = .ok (.lcmp, 1) := dk_148 (dk_at dksL_law_47 3 rfl rfl)
theorem dL_law_1220 : decode cL_law 1220 = .ok (.ifCond .eq 5, 3) := dk_153 0 5 (dk_at dksL_law_47 4 rfl rfl)
theorem dL_law_1223 : decode cL_law 1223 = .ok (.iconst 0, 1) := dk_3 (dk_at dksL_law_47 7 rfl rfl)
theorem dL_law_1224 : decode cL_law 1224 = .ok (.ireturn, 1) := dk_172 (dk_at dksL_law_47 8 rfl rfl)
theorem dL_law_1225 : decode cL_law 1225 = .ok (.goto 1146, 3) := dk_167 4 122 (dk_at dksL_law_47 9 rfl rfl)
theorem dL_law_1228 : decode cL_law 1228 = .ok (.aload_n 1, 1) := dk_43 (dk_at dksL_law_47 12 rfl rfl)
theorem dL_law_1229 : decode cL_law 1229 = .ok (.aload_n 0, 1) := dk_42 (dk_at dksL_law_47 13 rfl rfl)
theorem dL_law_1230 : decode cL_law 1230 = .ok (.iload 4, 2) := dk_21 4 (dk_at dksL_law_47 14 rfl rfl)
theorem dL_law_1232 : decode cL_law 1232 = .ok (.iconst 1, 1) := dk_4 (dk_at dksL_law_47 16 rfl rfl)
theorem dL_law_1233 : decode cL_law 1233 = .ok (.iadd, 1) := dk_96 (dk_at dksL_law_47 17 rfl rfl)
theorem dL_law_1234 : decode cL_law 1234 = .ok (.iaload, 1) := dk_46 (dk_at dksL_law_47 18 rfl rfl)
theorem dL_law_1235 : decode cL_law 1235 = .ok (.aload_n 3, 1) := dk_45 (dk_at dksL_law_47 19 rfl rfl)
theorem dL_law_1236 : decode cL_law 1236 = .ok (.invokestatic 178, 3) := dk_184 0 178 (dk_at dksL_law_47 20 rfl rfl)
theorem dL_law_1239 : decode cL_law 1239 = .ok (.istore 5, 2) := dk_54 5 (dk_at dksL_law_48 0 rfl rfl)
theorem dL_law_1241 : decode cL_law 1241 = .ok (.aload_n 2, 1) := dk_44 (dk_at dksL_law_48 2 rfl rfl)
theorem dL_law_1242 : decode cL_law 1242 = .ok (.aload_n 0, 1) := dk_42 (dk_at dksL_law_48 3 rfl rfl)
theorem dL_law_1243 : decode cL_law 1243 = .ok (.iload 4, 2) := dk_21 4 (dk_at dksL_law_48 4 rfl rfl)
theorem dL_law_1245 : decode cL_law 1245 = .ok (.iconst 1, 1) := dk_4 (dk_at dksL_law_48 6 rfl rfl)
theorem dL_law_1246 : decode cL_law 1246 = .ok (.iadd, 1) := dk_96 (dk_at dksL_law_48 7 rfl rfl)
theorem dL_law_1247 : decode cL_law 1247 = .ok (.iaload, 1) := dk_46 (dk_at dksL_law_48 8 rfl rfl)
theorem dL_law_1248 : decode cL_law 1248 = .ok (.invokevirtual 180, 3) := dk_182 0 180 (dk_at dksL_law_48 9 rfl rfl)
theorem dL_law_1251 : decode cL_law 1251 = .ok (.istore 6, 2) := dk_54 6 (dk_at dksL_law_48 12 rfl rfl)
theorem dL_law_1253 : decode cL_law 1253 = .ok (.aload_n 2, 1) := dk_44 (dk_at dksL_law_48 14 rfl rfl)
theorem dL_law_1254 : decode cL_law 1254 = .ok (.invokevirtual 128, 3) := dk_182 0 128 (dk_at dksL_law_48 15 rfl rfl)
theorem dL_law_1257 : decode cL_law 1257 = .ok (.iload 5, 2) := dk_21 5 (dk_at dksL_law_48 18 rfl rfl)
theorem dL_law_1259 : decode cL_law 1259 = .ok (.if_icmp .eq 5, 3) := dk_159 0 5 (dk_at dksL_law_48 20 rfl rfl)
theorem dL_law_1262 : decode cL_law 1262 = .ok (.iconst 0, 1) := dk_3 (dk_at dksL_law_48 23 rfl rfl)
theorem dL_law_1263 : decode cL_law 1263 = .ok (.ireturn, 1) := dk_172 (dk_at dksL_law_49 0 rfl rfl)
theorem dL_law_1264 : decode cL_law 1264 = .ok (.iload 5, 2) := dk_21 5 (dk_at dksL_law_49 1 rfl rfl)
theorem dL_law_1266 : decode cL_law 1266 = .ok (.ifCond .ne 15, 3) := dk_154 0 15 (dk_at dksL_law_49 3 rfl rfl)
theorem dL_law_1269 : decode cL_law 1269 = .ok (.aload_n 3, 1) := dk_45 (dk_at dksL_law_49 6 rfl rfl)
theorem dL_law_1270 : decode cL_law 1270 = .ok (.iconst 0, 1) := dk_3 (dk_at dksL_law_49 7 rfl rfl)
theorem dL_law_1271 : decode cL_law 1271 = .ok (.laload, 1) := dk_47 (dk_at dksL_law_49 8 rfl rfl)
theorem dL_law_1272 : decode cL_law 1272 = .ok (.iload 6, 2) := dk_21 6 (dk_at dksL_law_49 9 rfl rfl)
theorem dL_law_1274 : decode cL_law 1274 = .ok (.i2l, 1) := dk_133 (dk_at dksL_law_49 11 rfl rfl)
theorem dL_law_1275 : decode cL_law 1275 = .ok (.lcmp, 1) := dk_148 (dk_at dksL_law_49 12 rfl rfl)
theorem dL_law_1276 : decode cL_law 1276 = .ok (.ifCond .eq 5, 3) := dk_153 0 5 (dk_at dksL_law_49 13 rfl rfl)
theorem dL_law_1279 : decode cL_law 1279 = .ok (.iconst 0, 1) := dk_3 (dk_at dksL_law_49 16 rfl rfl)
theorem dL_law_1280 : decode cL_law 1280 = .ok (.ireturn, 1) := dk_172 (dk_at dksL_law_49 17 rfl rfl)
theorem dL_law_1281 : decode cL_law 1281 = .ok (.goto 1090, 3) := dk_167 4 66 (dk_at dksL_law_49 18 rfl rfl)
theorem dL_law_1284 : decode cL_law 1284 = .ok (.aload_n 1, 1) := dk_43 (dk_at dksL_law_49 21 rfl rfl)
theorem dL_law_1285 : decode cL_law 1285 = .ok (.aload_n 0, 1) := dk_42 (dk_at dksL_law_49 22 rfl rfl)
theorem dL_law_1286 : decode cL_law 1286 = .ok (.iload 4, 2) := dk_21 4 (dk_at dksL_law_50 0 rfl rfl)
theorem dL_law_1288 : decode cL_law 1288 = .ok (.iconst 1, 1) := dk_4 (dk_at dksL_law_50 2 rfl rfl)
theorem dL_law_1289 : decode cL_law 1289 = .ok (.iadd, 1) := dk_96 (dk_at dksL_law_50 3 rfl rfl)
theorem dL_law_1290 : decode cL_law 1290 = .ok (.iaload, 1) := dk_46 (dk_at dksL_law_50 4 rfl rfl)
theorem dL_law_1291 : decode cL_law 1291 = .ok (.aload_n 0, 1) := dk_42 (dk_at dksL_law_50 5 rfl rfl)
theorem dL_law_1292 : decode cL_law 1292 = .ok (.iload 4, 2) := dk_21 4 (dk_at dksL_law_50 6 rfl rfl)
theorem dL_law_1294 : decode cL_law 1294 = .ok (.iconst 2, 1) := dk_5 (dk_at dksL_law_50 8 rfl rfl)
theorem dL_law_1295 : decode cL_law 1295 = .ok (.iadd, 1) := dk_96 (dk_at dksL_law_50 9 rfl rfl)
theorem dL_law_1296 : decode cL_law 1296 = .ok (.iaload, 1) := dk_46 (dk_at dksL_law_50 10 rfl rfl)
theorem dL_law_1297 : decode cL_law 1297 = .ok (.aload_n 3, 1) := dk_45 (dk_at dksL_law_50 11 rfl rfl)
theorem dL_law_1298 : decode cL_law 1298 = .ok (.invokestatic 181, 3) := dk_184 0 181 (dk_at dksL_law_50 12 rfl rfl)
theorem dL_law_1301 : decode cL_law 1301 = .ok (.istore 5, 2) := dk_54 5 (dk_at dksL_law_50 15 rfl rfl)
theorem dL_law_1303 : decode cL_law 1303 = .ok (.aload_n 2, 1) := dk_44 (dk_at dksL_law_50 17 rfl rfl)
theorem dL_law_1304 : decode cL_law 1304 = .ok (.aload_n 0, 1) := dk_42 (dk_at dksL_law_50 18 rfl rfl)
theorem dL_law_1305 : decode cL_law 1305 = .ok (.iload 4, 2) := dk_21 4 (dk_at dksL_law_50 19 rfl rfl)
theorem dL_law_1307 : decode cL_law 1307 = .ok (.iconst 1, 1) := dk_4 (dk_at dksL_law_50 21 rfl rfl)
theorem dL_law_1308 : decode cL_law 1308 = .ok (.iadd, 1) := dk_96 (dk_at dksL_law_50 22 rfl rfl)
theorem dL_law_1309 : decode cL_law 1309 = .ok (.iaload, 1) := dk_46 (dk_at dksL_law_50 23 rfl rfl)
theorem dL_law_1310 : decode cL_law 1310 = .ok (.aload_n 0, 1) := dk_42 (dk_at dksL_law_51 0 rfl rfl)
theorem dL_law_1311 : decode cL_law 1311 = .ok (.iload 4, 2) := dk_21 4 (dk_at dksL_law_51 1 rfl rfl)
theorem dL_law_1313 : decode cL_law 1313 = .ok (.iconst 2, 1) := dk_5 (dk_at dksL_law_51 3 rfl rfl)
theorem dL_law_1314 : decode cL_law 1314 = .ok (.iadd, 1) := dk_96 (dk_at dksL_law_51 4 rfl rfl)
theorem dL_law_1315 : decode cL_law 1315 = .ok (.iaload, 1) := dk_46 (dk_at dksL_law_51 5 rfl rfl)
theorem dL_law_1316 : decode cL_law 1316 = .ok (.invokevirtual 183, 3) := dk_182 0 183 (dk_at dksL_law_51 6 rfl rfl)
theorem dL_law_1319 : decode cL_law 1319 = .ok (.istore 6, 2) := dk_54 6 (dk_at dksL_law_51 9 rfl rfl)
theorem dL_law_1321 : decode cL_law 1321 = .ok (.aload_n 2, 1) := dk_44 (dk_at dksL_law_51 11 rfl rfl)
theorem dL_law_1322 : decode cL_law 1322 = .ok (.invokevirtual 128, 3) := dk_182 0 128 (dk_at dksL_law_51 12 rfl rfl)
theorem dL_law_1325 : decode cL_law 1325 = .ok (.iload 5, 2) := dk_21 5 (dk_at dksL_law_51 15 rfl rfl)
theorem dL_law_1327 : decode cL_law 1327 = .ok (.if_icmp .eq 5, 3) := dk_159 0 5 (dk_at dksL_law_51 17 rfl rfl)
theorem dL_law_1330 : decode cL_law 1330 = .ok (.iconst 0, 1) := dk_3 (dk_at dksL_law_51 20 rfl rfl)
theorem dL_law_1331 : decode cL_law 1331 = .ok (.ireturn, 1) := dk_172 (dk_at dksL_law_51 21 rfl rfl)
theorem dL_law_1332 : decode cL_law 1332 = .ok (.iload 5, 2) := dk_21 5 (dk_at dksL_law_51 22 rfl rfl)
theorem dL_law_1334 : decode cL_law 1334 = .ok (.ifCond .ne 15, 3) := dk_154 0 15 (dk_at dksL_law_52 0 rfl rfl)
theorem dL_law_1337 : decode cL_law 1337 = .ok (.aload_n 3, 1) := dk_45 (dk_at dksL_law_52 3 rfl rfl)
theorem dL_law_1338 : decode cL_law 1338 = .ok (.iconst 0, 1) := dk_3 (dk_at dksL_law_52 4 rfl rfl)
theorem dL_law_1339 : decode cL_law 1339 = .ok (.laload, 1) := dk_47 (dk_at dksL_law_52 5 rfl rfl)
theorem dL_law_1340 : decode cL_law 1340 = .ok (.iload 6, 2) := dk_21 6 (dk_at dksL_law_52 6 rfl rfl)
theorem dL_law_1342 : decode cL_law 1342 = .ok (.i2l, 1) := dk_133 (dk_at dksL_law_52 8 rfl rfl)
theorem dL_law_1343 : decode cL_law 1343 = .ok (.lcmp, 1) := dk_148 (dk_at dksL_law_52 9 rfl rfl)
theorem dL_law_1344 : decode cL_law 1344 = .ok (.ifCond .eq 5, 3) := dk_153 0 5 (dk_at dksL_law_52 10 rfl rfl)
theorem dL_law_1347 : decode cL_law 1347 = .ok (.iconst 0, 1) := dk_3 (dk_at dksL_law_52 13 rfl rfl)
theorem dL_law_1348 : decode cL_law 1348 = .ok (.ireturn, 1) := dk_172 (dk_at dksL_law_52 14 rfl rfl)
theorem dL_law_1349 : decode cL_law 1349 = .ok (.goto 1022, 3) := dk_167 3 254 (dk_at dksL_law_52 15 rfl rfl)
theorem dL_law_1352 : decode cL_law 1352 = .ok (.aload_n 1, 1) := dk_43 (dk_at dksL_law_52 18 rfl rfl)
theorem dL_law_1353 : decode cL_law 1353 = .ok (.aload_n 0, 1) := dk_42 (dk_at dksL_law_52 19 rfl rfl)
theorem dL_law_1354 : decode cL_law 1354 = .ok (.iload 4, 2) := dk_21 4 (dk_at dksL_law_52 20 rfl rfl)
theorem dL_law_1356 : decode cL_law 1356 = .ok (.iconst 1, 1) := dk_4 (dk_at dksL_law_52 22 rfl rfl)
theorem dL_law_1357 : decode cL_law 1357 = .ok (.iadd, 1) := dk_96 (dk_at dksL_law_52 23 rfl rfl)
theorem dL_law_1358 : decode cL_law 1358 = .ok (.iaload, 1) := dk_46 (dk_at dksL_law_53 0 rfl rfl)
theorem dL_law_1359 : decode cL_law 1359 = .ok (.aload_n 0, 1) := dk_42 (dk_at dksL_law_53 1 rfl rfl)
theorem dL_law_1360 : decode cL_law 1360 = .ok (.iload 4, 2) := dk_21 4 (dk_at dksL_law_53 2 rfl rfl)
theorem dL_law_1362 : decode cL_law 1362 = .ok (.iconst 2, 1) := dk_5 (dk_at dksL_law_53 4 rfl rfl)
theorem dL_law_1363 : decode cL_law 1363 = .ok (.iadd, 1) := dk_96 (dk_at dksL_law_53 5 rfl rfl)
theorem dL_law_1364 : decode cL_law 1364 = .ok (.iaload, 1) := dk_46 (dk_at dksL_law_53 6 rfl rfl)
theorem dL_law_1365 : decode cL_law 1365 = .ok (.aload_n 3, 1) := dk_45 (dk_at dksL_law_53 7 rfl rfl)
theorem dL_law_1366 : decode cL_law 1366 = .ok (.invokestatic 184, 3) := dk_184 0 184 (dk_at dksL_law_53 8 rfl rfl)
theorem dL_law_1369 : decode cL_law 1369 = .ok (.istore 5, 2) := dk_54 5 (dk_at dksL_law_53 11 rfl rfl)
theorem dL_law_1371 : decode cL_law 1371 = .ok (.aload_n 2, 1) := dk_44 (dk_at dksL_law_53 13 rfl rfl)
theorem dL_law_1372 : decode cL_law 1372 = .ok (.aload_n 0, 1) := dk_42 (dk_at dksL_law_53 14 rfl rfl)
theorem dL_law_1373 : decode cL_law 1373 = .ok (.iload 4, 2) := dk_21 4 (dk_at dksL_law_53 15 rfl rfl)
theorem dL_law_1375 : decode cL_law 1375 = .ok (.iconst 1, 1) := dk_4 (dk_at dksL_law_53 17 rfl rfl)
theorem dL_law_1376 : decode cL_law 1376 = .ok (.iadd, 1) := dk_96 (dk_at dksL_law_53 18 rfl rfl)
theorem dL_law_1377 : decode cL_law 1377 = .ok (.iaload, 1) := dk_46 (dk_at dksL_law_53 19 rfl rfl)
theorem dL_law_1378 : decode cL_law 1378 = .ok (.aload_n 0, 1) := dk_42 (dk_at dksL_law_53 20 rfl rfl)
theorem dL_law_1379 : decode cL_law 1379 = .ok (.iload 4, 2) := dk_21 4 (dk_at dksL_law_53 21 rfl rfl)
theorem dL_law_1381 : decode cL_law 1381 = .ok (.iconst 2, 1) := dk_5 (dk_at dksL_law_53 23 rfl rfl)
theorem dL_law_1382 : decode cL_law 1382 = .ok (.iadd, 1) := dk_96 (dk_at dksL_law_54 0 rfl rfl)
theorem dL_law_1383 : decode cL_law 1383 = .ok (.iaload, 1) := dk_46 (dk_at dksL_law_54 1 rfl rfl)
theorem dL_law_1384 : decode cL_law 1384 = .ok (.invokevirtual 186, 3) := dk_182 0 186 (dk_at dksL_law_54 2 rfl rfl)
theorem dL_law_1387 : decode cL_law 1387 = .ok (.istore 6, 2) := dk_54 6 (dk_at dksL_law_54 5 rfl rfl)
theorem dL_law_1389 : decode cL_law 1389 = .ok (.aload_n 2, 1) := dk_44 (dk_at dksL_law_54 7 rfl rfl)
theorem dL_law_1390 : decode cL_law 1390 = .ok (.invokevirtual 128, 3) := dk_182 0 128 (dk_at dksL_law_54 8 rfl rfl)
theorem dL_law_1393 : decode cL_law 1393 = .ok (.iload 5, 2) := dk_21 5 (dk_at dksL_law_54 11 rfl rfl)
theorem dL_law_1395 : decode cL_law 1395 = .ok (.if_icmp .eq 5, 3) := dk_159 0 5 (dk_at dksL_law_54 13 rfl rfl)
theorem dL_law_1398 : decode cL_law 1398 = .ok (.iconst 0, 1) := dk_3 (dk_at dksL_law_54 16 rfl rfl)
theorem dL_law_1399 : decode cL_law 1399 = .ok (.ireturn, 1) := dk_172 (dk_at dksL_law_54 17 rfl rfl)
theorem dL_law_1400 : decode cL_law 1400 = .ok (.iload 5, 2) := dk_21 5 (dk_at dksL_law_54 18 rfl rfl)
theorem dL_law_1402 : decode cL_law 1402 = .ok (.ifCond .ne 15, 3) := dk_154 0 15 (dk_at dksL_law_54 20 rfl rfl)
theorem dL_law_1405 : decode cL_law 1405 = .ok (.aload_n 3, 1) := dk_45 (dk_at dksL_law_54 23 rfl rfl)
theorem dL_law_1406 : decode cL_law 1406 = .ok (.iconst 0, 1) := dk_3 (dk_at dksL_law_55 0 rfl rfl)
theorem dL_law_1407 : decode cL_law 1407 = .ok (.laload, 1) := dk_47 (dk_at dksL_law_55 1 rfl rfl)
theorem dL_law_1408 : decode cL_law 1408 = .ok (.iload 6, 2) := dk_21 6 (dk_at dksL_law_55 2 rfl rfl)
theorem dL_law_1410 : decode cL_law 1410 = .ok (.i2l, 1) := dk_133 (dk_at dksL_law_55 4 rfl rfl)
theorem dL_law_1411 : decode cL_law 1411 = .ok (.lcmp, 1) := dk_148 (dk_at dksL_law_55 5 rfl rfl)
theorem dL_law_1412 : decode cL_law 1412 = .ok (.ifCond .eq 5, 3) := dk_153 0 5 (dk_at dksL_law_55 6 rfl rfl)
theorem dL_law_1415 : decode cL_law 1415 = .ok (.iconst 0, 1) := dk_3 (dk_at dksL_law_55 9 rfl rfl)
theorem dL_law_1416 : decode cL_law 1416 = .ok (.ireturn, 1) := dk_172 (dk_at dksL_law_55 10 rfl rfl)
theorem dL_law_1417 : decode cL_law 1417 = .ok (.goto 954, 3) := dk_167 3 186 (dk_at dksL_law_55 11 rfl rfl)
theorem dL_law_1420 : decode cL_law 1420 = .ok (.aload_n 1, 1) := dk_43 (dk_at dksL_law_55 14 rfl rfl)
theorem dL_law_1421 : decode cL_law 1421 = .ok (.aload_n 0, 1) := dk_42 (dk_at dksL_law_55 15 rfl rfl)
theorem dL_law_1422 : decode cL_law 1422 = .ok (.iload 4, 2) := dk_21 4 (dk_at dksL_law_55 16 rfl rfl)
theorem dL_law_1424 : decode cL_law 1424 = .ok (.iconst 1, 1) := dk_4 (dk_at dksL_law_55 18 rfl rfl)
theorem dL_law_1425 : decode cL_law 1425 = .ok (.iadd, 1) := dk_96 (dk_at dksL_law_55 19 rfl rfl)
theorem dL_law_1426 : decode cL_law 1426 = .ok (.iaload, 1) := dk_46 (dk_at dksL_law_55 20 rfl rfl)
theorem dL_law_1427 : decode cL_law 1427 = .ok (.aload_n 0, 1) := dk_42 (dk_at dksL_law_55 21 rfl rfl)
theorem dL_law_1428 : decode cL_law 1428 = .ok (.iload 4, 2) := dk_21 4 (dk_at dksL_law_55 22 rfl rfl)
theorem dL_law_1430 : decode cL_law 1430 = .ok (.iconst 2, 1) := dk_5 (dk_at dksL_law_56 0 rfl rfl)
theorem dL_law_1431 : decode cL_law 1431 = .ok (.iadd, 1) := dk_96 (dk_at dksL_law_56 1 rfl rfl)
theorem dL_law_1432 : decode cL_law 1432 = .ok (.iaload, 1) := dk_46 (dk_at dksL_law_56 2 rfl rfl)
theorem dL_law_1433 : decode cL_law 1433 = .ok (.ifCond .eq 7, 3) := dk_153 0 7 (dk_at dksL_law_56 3 rfl rfl)
theorem dL_law_1436 : decode cL_law 1436 = .ok (.iconst 1, 1) := dk_4 (dk_at dksL_law_56 6 rfl rfl)
theorem dL_law_1437 : decode cL_law 1437 = .ok (.goto 4, 3) := dk_167 0 4 (dk_at dksL_law_56 7 rfl rfl)
theorem dL_law_1440 : decode cL_law 1440 = .ok (.iconst 0, 1) := dk_3 (dk_at dksL_law_56 10 rfl rfl)
theorem dL_law_1441 : decode cL_law 1441 = .ok (.aload_n 3, 1) := dk_45 (dk_at dksL_law_56 11 rfl rfl)
theorem dL_law_1442 : decode cL_law 1442 = .ok (.invokestatic 187, 3) := dk_184 0 187 (dk_at dksL_law_56 12 rfl rfl)
theorem dL_law_1445 : decode cL_law 1445 = .ok (.istore 5, 2) := dk_54 5 (dk_at dksL_law_56 15 rfl rfl)
theorem dL_law_1447 : decode cL_law 1447 = .ok (.aload_n 2, 1) := dk_44 (dk_at dksL_law_56 17 rfl rfl)
theorem dL_law_1448 : decode cL_law 1448 = .ok (.aload_n 0, 1) := dk_42 (dk_at dksL_law_56 18 rfl rfl)
theorem dL_law_1449 : decode cL_law 1449 = .ok (.iload 4, 2) := dk_21 4 (dk_at dksL_law_56 19 rfl rfl)
theorem dL_law_1451 : decode cL_law 1451 = .ok (.iconst 1, 1) := dk_4 (dk_at dksL_law_56 21 rfl rfl)
theorem dL_law_1452 : decode cL_law 1452 = .ok (.iadd, 1) := dk_96 (dk_at dksL_law_56 22 rfl rfl)
theorem dL_law_1453 : decode cL_law 1453 = .ok (.iaload, 1) := dk_46 (dk_at dksL_law_56 23 rfl rfl)
theorem dL_law_1454 : decode cL_law 1454 = .ok (.aload_n 0, 1) := dk_42 (dk_at dksL_law_57 0 rfl rfl)
theorem dL_law_1455 : decode cL_law 1455 = .ok (.iload 4, 2) := dk_21 4 (dk_at dksL_law_57 1 rfl rfl)
theorem dL_law_1457 : decode cL_law 1457 = .ok (.iconst 2, 1) := dk_5 (dk_at dksL_law_57 3 rfl rfl)
theorem dL_law_1458 : decode cL_law 1458 = .ok (.iadd, 1) := dk_96 (dk_at dksL_law_57 4 rfl rfl)
theorem dL_law_1459 : decode cL_law 1459 = .ok (.iaload, 1) := dk_46 (dk_at dksL_law_57 5 rfl rfl)
theorem dL_law_1460 : decode cL_law 1460 = .ok (.ifCond .eq 7, 3) := dk_153 0 7 (dk_at dksL_law_57 6 rfl rfl)
theorem dL_law_1463 : decode cL_law 1463 = .ok (.iconst 1, 1) := dk_4 (dk_at dksL_law_57 9 rfl rfl)
theorem dL_law_1464 : decode cL_law 1464 = .ok (.goto 4, 3) := dk_167 0 4 (dk_at dksL_law_57 10 rfl rfl)
theorem dL_law_1467 : decode cL_law 1467 = .ok (.iconst 0, 1) := dk_3 (dk_at dksL_law_57 13 rfl rfl)
theorem dL_law_1468 : decode cL_law 1468 = .ok (.invokevirtual 190, 3) := dk_182 0 190 (dk_at dksL_law_57 14 rfl rfl)
theorem dL_law_1471 : decode cL_law 1471 = .ok (.istore 6, 2) := dk_54 6 (dk_at dksL_law_57 17 rfl rfl)
theorem dL_law_1473 : decode cL_law 1473 = .ok (.aload_n 2, 1) := dk_44 (dk_at dksL_law_57 19 rfl rfl)
theorem dL_law_1474 : decode cL_law 1474 = .ok (.invokevirtual 128, 3) := dk_182 0 128 (dk_at dksL_law_57 20 rfl rfl)
theorem dL_law_1477 : decode cL_law 1477 = .ok (.iload 5, 2) := dk_21 5 (dk_at dksL_law_58 0 rfl rfl)
theorem dL_law_1479 : decode cL_law 1479 = .ok (.if_icmp .eq 5, 3) := dk_159 0 5 (dk_at dksL_law_58 2 rfl rfl)
theorem dL_law_1482 : decode cL_law 1482 = .ok (.iconst 0, 1) := dk_3 (dk_at dksL_law_58 5 rfl rfl)
theorem dL_law_1483 : decode cL_law 1483 = .ok (.ireturn, 1) := dk_172 (dk_at dksL_law_58 6 rfl rfl)
theorem dL_law_1484 : decode cL_law 1484 = .ok (.iload 5, 2) := dk_21 5 (dk_at dksL_law_58 7 rfl rfl)
theorem dL_law_1486 : decode cL_law 1486 = .ok (.ifCond .ne 15, 3) := dk_154 0 15 (dk_at dksL_law_58 9 rfl rfl)
theorem dL_law_1489 : decode cL_law 1489 = .ok (.aload_n 3, 1) := dk_45 (dk_at dksL_law_58 12 rfl rfl)
theorem dL_law_1490 : decode cL_law 1490 = .ok (.iconst 0, 1) := dk_3 (dk_at dksL_law_58 13 rfl rfl)
theorem dL_law_1491 : decode cL_law 1491 = .ok (.laload, 1) := dk_47 (dk_at dksL_law_58 14 rfl rfl)
theorem dL_law_1492 : decode cL_law 1492 = .ok (.iload 6, 2) := dk_21 6 (dk_at dksL_law_58 15 rfl rfl)
theorem dL_law_1494 : decode cL_law 1494 = .ok (.i2l, 1) := dk_133 (dk_at dksL_law_58 17 rfl rfl)
theorem dL_law_1495 : decode cL_law 1495 = .ok (.lcmp, 1) := dk_148 (dk_at dksL_law_58 18 rfl rfl)
theorem dL_law_1496 : decode cL_law 1496 = .ok (.ifCond .eq 5, 3) := dk_153 0 5 (dk_at dksL_law_58 19 rfl rfl)
theorem dL_law_1499 : decode cL_law 1499 = .ok (.iconst 0, 1) := dk_3 (dk_at dksL_law_58 22 rfl rfl)
theorem dL_law_1500 : decode cL_law 1500 = .ok (.ireturn, 1) := dk_172 (dk_at dksL_law_58 23 rfl rfl)
theorem dL_law_1501 : decode cL_law 1501 = .ok (.goto 870, 3) := dk_167 3 102 (dk_at dksL_law_59 0 rfl rfl)
theorem dL_law_1504 : decode cL_law 1504 = .ok (.aload_n 1, 1) := dk_43 (dk_at dksL_law_59 3 rfl rfl)
theorem dL_law_1505 : decode cL_law 1505 = .ok (.aload_n 0, 1) := dk_42 (dk_at dksL_law_59 4 rfl rfl)
theorem dL_law_1506 : decode cL_law 1506 = .ok (.iload 4, 2) := dk_21 4 (dk_at dksL_law_59 5 rfl rfl)
theorem dL_law_1508 : decode cL_law 1508 = .ok (.iconst 1, 1) := dk_4 (dk_at dksL_law_59 7 rfl rfl)
theorem dL_law_1509 : decode cL_law 1509 = .ok (.iadd, 1) := dk_96 (dk_at dksL_law_59 8 rfl rfl)
theorem dL_law_1510 : decode cL_law 1510 = .ok (.iaload, 1) := dk_46 (dk_at dksL_law_59 9 rfl rfl)
theorem dL_law_1511 : decode cL_law 1511 = .ok (.aload_n 0, 1) := dk_42 (dk_at dksL_law_59 10 rfl rfl)
theorem dL_law_1512 : decode cL_law 1512 = .ok (.iload 4, 2) := dk_21 4 (dk_at dksL_law_59 11 rfl rfl)
theorem dL_law_1514 : decode cL_law 1514 = .ok (.iconst 2, 1) := dk_5 (dk_at dksL_law_59 13 rfl rfl)
theorem dL_law_1515 : decode cL_law 1515 = .ok (.iadd, 1) := dk_96 (dk_at dksL_law_59 14 rfl rfl)
theorem dL_law_1516 : decode cL_law 1516 = .ok (.iaload, 1) := dk_46 (dk_at dksL_law_59 15 rfl rfl)
theorem dL_law_1517 : decode cL_law 1517 = .ok (.aload_n 3, 1) := dk_45 (dk_at dksL_law_59 16 rfl rfl)
theorem dL_law_1518 : decode cL_law 1518 = .ok (.invokestatic 191, 3) := dk_184 0 191 (dk_at dksL_law_59 17 rfl rfl)
theorem dL_law_1521 : decode cL_law 1521 = .ok (.istore 5, 2) := dk_54 5 (dk_at dksL_law_59 20 rfl rfl)
theorem dL_law_1523 : decode cL_law 1523 = .ok (.aload_n 2, 1) := dk_44 (dk_at dksL_law_59 22 rfl rfl)
theorem dL_law_1524 : decode cL_law 1524 = .ok (.aload_n 0, 1) := dk_42 (dk_at dksL_law_59 23 rfl rfl)
theorem dL_law_1525 : decode cL_law 1525 = .ok (.iload 4, 2) := dk_21 4 (dk_at dksL_law_60 0 rfl rfl)
theorem dL_law_1527 : decode cL_law 1527 = .ok (.iconst 1, 1) := dk_4 (dk_at dksL_law_60 2 rfl rfl)
theorem dL_law_1528 : decode cL_law 1528 = .ok (.iadd, 1) := dk_96 (dk_at dksL_law_60 3 rfl rfl)
theorem dL_law_1529 : decode cL_law 1529 = .ok (.iaload, 1) := dk_46 (dk_at dksL_law_60 4 rfl rfl)
theorem dL_law_1530 : decode cL_law 1530 = .ok (.aload_n 0, 1) := dk_42 (dk_at dksL_law_60 5 rfl rfl)
theorem dL_law_1531 : decode cL_law 1531 = .ok (.iload 4, 2) := dk_21 4 (dk_at dksL_law_60 6 rfl rfl)
theorem dL_law_1533 : decode cL_law 1533 = .ok (.iconst 2, 1) := dk_5 (dk_at dksL_law_60 8 rfl rfl)
theorem dL_law_1534 : decode cL_law 1534 = .ok (.iadd, 1) := dk_96 (dk_at dksL_law_60 9 rfl rfl)
theorem dL_law_1535 : decode cL_law 1535 = .ok (.iaload, 1) := dk_46 (dk_at dksL_law_60 10 rfl rfl)
theorem dL_law_1536 : decode cL_law 1536 = .ok (.invokevirtual 193, 3) := dk_182 0 193 (dk_at dksL_law_60 11 rfl rfl)
theorem dL_law_1539 : decode cL_law 1539 = .ok (.istore 6, 2) := dk_54 6 (dk_at dksL_law_60 14 rfl rfl)
theorem dL_law_1541 : decode cL_law 1541 = .ok (.aload_n 2, 1) := dk_44 (dk_at dksL_law_60 16 rfl rfl)
theorem dL_law_1542 : decode cL_law 1542 = .ok (.invokevirtual 128, 3) := dk_182 0 128 (dk_at dksL_law_60 17 rfl rfl)
theorem dL_law_1545 : decode cL_law 1545 = .ok (.iload 5, 2) := dk_21 5 (dk_at dksL_law_60 20 rfl rfl)
theorem dL_law_1547 : decode cL_law 1547 = .ok (.if_icmp .eq 5, 3) := dk_159 0 5 (dk_at dksL_law_61 0 rfl rfl)
theorem dL_law_1550 : decode cL_law 1550 = .ok (.iconst 0, 1) := dk_3 (dk_at dksL_law_61 3 rfl rfl)
theorem dL_law_1551 : decode cL_law 1551 = .ok (.ireturn, 1) := dk_172 (dk_at dksL_law_61 4 rfl rfl)
theorem dL_law_1552 : decode cL_law 1552 = .ok (.iload 5, 2) := dk_21 5 (dk_at dksL_law_61 5 rfl rfl)
theorem dL_law_1554 : decode cL_law 1554 = .ok (.ifCond .ne 15, 3) := dk_154 0 15 (dk_at dksL_law_61 7 rfl rfl)
theorem dL_law_1557 : decode cL_law 1557 = .ok (.aload_n 3, 1) := dk_45 (dk_at dksL_law_61 10 rfl rfl)
theorem dL_law_1558 : decode cL_law 1558 = .ok (.iconst 0, 1) := dk_3 (dk_at dksL_law_61 11 rfl rfl)
theorem dL_law_1559 : decode cL_law 1559 = .ok (.laload, 1) := dk_47 (dk_at dksL_law_61 12 rfl rfl)
theorem dL_law_1560 : decode cL_law 1560 = .ok (.iload 6, 2) := dk_21 6 (dk_at dksL_law_61 13 rfl rfl)
theorem dL_law_1562 : decode cL_law 1562 = .ok (.i2l, 1) := dk_133 (dk_at dksL_law_61 15 rfl rfl)
theorem dL_law_1563 : decode cL_law 1563 = .ok (.lcmp, 1) := dk_148 (dk_at dksL_law_61 16 rfl rfl)
theorem dL_law_1564 : decode cL_law 1564 = .ok (.ifCond .eq 5, 3) := dk_153 0 5 (dk_at dksL_law_61 17 rfl rfl)
theorem dL_law_1567 : decode cL_law 1567 = .ok (.iconst 0, 1) := dk_3 (dk_at dksL_law_61 20 rfl rfl)
theorem dL_law_1568 : decode cL_law 1568 = .ok (.ireturn, 1) := dk_172 (dk_at dksL_law_61 21 rfl rfl)
theorem dL_law_1569 : decode cL_law 1569 = .ok (.goto 802, 3) := dk_167 3 34 (dk_at dksL_law_62 0 rfl rfl)
theorem dL_law_1572 : decode cL_law 1572 = .ok (.aload_n 1, 1) := dk_43 (dk_at dksL_law_62 3 rfl rfl)
theorem dL_law_1573 : decode cL_law 1573 = .ok (.aload_n 0, 1) := dk_42 (dk_at dksL_law_62 4 rfl rfl)
theorem dL_law_1574 : decode cL_law 1574 = .ok (.iload 4, 2) := dk_21 4 (dk_at dksL_law_62 5 rfl rfl)
theorem dL_law_1576 : decode cL_law 1576 = .ok (.iconst 1, 1) := dk_4 (dk_at dksL_law_62 7 rfl rfl)
theorem dL_law_1577 : decode cL_law 1577 = .ok (.iadd, 1) := dk_96 (dk_at dksL_law_62 8 rfl rfl)
theorem dL_law_1578 : decode cL_law 1578 = .ok (.iaload, 1) := dk_46 (dk_at dksL_law_62 9 rfl rfl)
theorem dL_law_1579 : decode cL_law 1579 = .ok (.aload_n 0, 1) := dk_42 (dk_at dksL_law_62 10 rfl rfl)
theorem dL_law_1580 : decode cL_law 1580 = .ok (.iload 4, 2) := dk_21 4 (dk_at dksL_law_62 11 rfl rfl)
theorem dL_law_1582 : decode cL_law 1582 = .ok (.iconst 2, 1) := dk_5 (dk_at dksL_law_62 13 rfl rfl)
theorem dL_law_1583 : decode cL_law 1583 = .ok (.iadd, 1) := dk_96 (dk_at dksL_law_62 14 rfl rfl)
theorem dL_law_1584 : decode cL_law 1584 = .ok (.iaload, 1) := dk_46 (dk_at dksL_law_62 15 rfl rfl)
theorem dL_law_1585 : decode cL_law 1585 = .ok (.aload_n 3, 1) := dk_45 (dk_at dksL_law_62 16 rfl rfl)
theorem dL_law_1586 : decode cL_law 1586 = .ok (.invokestatic 194, 3) := dk_184 0 194 (dk_at dksL_law_62 17 rfl rfl)
theorem dL_law_1589 : decode cL_law 1589 = .ok (.istore 5, 2) := dk_54 5 (dk_at dksL_law_62 20 rfl rfl)
theorem dL_law_1591 : decode cL_law 1591 = .ok (.aload_n 2, 1) := dk_44 (dk_at dksL_law_62 22 rfl rfl)
theorem dL_law_1592 : decode cL_law 1592 = .ok (.aload_n 0, 1) := dk_42 (dk_at dksL_law_62 23 rfl rfl)
theorem dL_law_1593 : decode cL_law 1593 = .ok (.iload 4, 2) := dk_21 4 (dk_at dksL_law_63 0 rfl rfl)
theorem dL_law_1595 : decode cL_law 1595 = .ok (.iconst 1, 1) := dk_4 (dk_at dksL_law_63 2 rfl rfl)
theorem dL_law_1596 : decode cL_law 1596 = .ok (.iadd, 1) := dk_96 (dk_at dksL_law_63 3 rfl rfl)
theorem dL_law_1597 : decode cL_law 1597 = .ok (.iaload, 1) := dk_46 (dk_at dksL_law_63 4 rfl rfl)
theorem dL_law_1598 : decode cL_law 1598 = .ok (.aload_n 0, 1) := dk_42 (dk_at dksL_law_63 5 rfl rfl)
theorem dL_law_1599 : decode cL_law 1599 = .ok (.iload 4, 2) := dk_21 4 (dk_at dksL_law_63 6 rfl rfl)
theorem dL_law_1601 : decode cL_law 1601 = .ok (.iconst 2, 1) := dk_5 (dk_at dksL_law_63 8 rfl rfl)
theorem dL_law_1602 : decode cL_law 1602 = .ok (.iadd, 1) := dk_96 (dk_at dksL_law_63 9 rfl rfl)
theorem dL_law_1603 : decode cL_law 1603 = .ok (.iaload, 1) := dk_46 (dk_at dksL_law_63 10 rfl rfl)
theorem dL_law_1604 : decode cL_law 1604 = .ok (.invokevirtual 196, 3) := dk_182 0 196 (dk_at dksL_law_63 11 rfl rfl)
theorem dL_law_1607 : decode cL_law 1607 = .ok (.istore 6, 2) := dk_54 6 (dk_at dksL_law_63 14 rfl rfl)
theorem dL_law_1609 : decode cL_law 1609 = .ok (.aload_n 2, 1) := dk_44 (dk_at dksL_law_63 16 rfl rfl)
theorem dL_law_1610 : decode cL_law 1610 = .ok (.invokevirtual 128, 3) := dk_182 0 128 (dk_at dksL_law_63 17 rfl rfl)
theorem dL_law_1613 : decode cL_law 1613 = .ok (.iload 5, 2) := dk_21 5 (dk_at dksL_law_63 20 rfl rfl)
theorem dL_law_1615 : decode cL_law 1615 = .ok (.if_icmp .eq 5, 3) := dk_159 0 5 (dk_at dksL_law_64 0 rfl rfl)
theorem dL_law_1618 : decode cL_law 1618 = .ok (.iconst 0, 1) := dk_3 (dk_at dksL_law_64 3 rfl rfl)
theorem dL_law_1619 : decode cL_law 1619 = .ok (.ireturn, 1) := dk_172 (dk_at dksL_law_64 4 rfl rfl)
theorem dL_law_1620 : decode cL_law 1620 = .ok (.iload 5, 2) := dk_21 5 (dk_at dksL_law_64 5 rfl rfl)
theorem dL_law_1622 : decode cL_law 1622 = .ok (.ifCond .ne 15, 3) := dk_154 0 15 (dk_at dksL_law_64 7 rfl rfl)
theorem dL_law_1625 : decode cL_law 1625 = .ok (.aload_n 3, 1) := dk_45 (dk_at dksL_law_64 10 rfl rfl)
theorem dL_law_1626 : decode cL_law 1626 = .ok (.iconst 0, 1) := dk_3 (dk_at dksL_law_64 11 rfl rfl)
theorem dL_law_1627 : decode cL_law 1627 = .ok (.laload, 1) := dk_47 (dk_at dksL_law_64 12 rfl rfl)
theorem dL_law_1628 : decode cL_law 1628 = .ok (.iload 6, 2) := dk_21 6 (dk_at dksL_law_64 13 rfl rfl)
theorem dL_law_1630 : decode cL_law 1630 = .ok (.i2l, 1) := dk_133 (dk_at dksL_law_64 15 rfl rfl)
theorem dL_law_1631 : decode cL_law 1631 = .ok (.lcmp, 1) := dk_148 (dk_at dksL_law_64 16 rfl rfl)
theorem dL_law_1632 : decode cL_law 1632 = .ok (.ifCond .eq 5, 3) := dk_153 0 5 (dk_at dksL_law_64 17 rfl rfl)
theorem dL_law_1635 : decode cL_law 1635 = .ok (.iconst 0, 1) := dk_3 (dk_at dksL_law_64 20 rfl rfl)
theorem dL_law_1636 : decode cL_law 1636 = .ok (.ireturn, 1) := dk_172 (dk_at dksL_law_64 21 rfl rfl)
theorem dL_law_1637 : decode cL_law 1637 = .ok (.goto 734, 3) := dk_167 2 222 (dk_at dksL_law_65 0 rfl rfl)
theorem dL_law_1640 : decode cL_law 1640 = .ok (.aload_n 1, 1) := dk_43 (dk_at dksL_law_65 3 rfl rfl)
theorem dL_law_1641 : decode cL_law 1641 = .ok (.aload_n 0, 1) := dk_42 (dk_at dksL_law_65 4 rfl rfl)
theorem dL_law_1642 : decode cL_law 1642 = .ok (.iload 4, 2) := dk_21 4 (dk_at dksL_law_65 5 rfl rfl)
theorem dL_law_1644 : decode cL_law 1644 = .ok (.iconst 1, 1) := dk_4 (dk_at dksL_law_65 7 rfl rfl)
theorem dL_law_1645 : decode cL_law 1645 = .ok (.iadd, 1) := dk_96 (dk_at dksL_law_65 8 rfl rfl)
theorem dL_law_1646 : decode cL_law 1646 = .ok (.iaload, 1) := dk_46 (dk_at dksL_law_65 9 rfl rfl)
theorem dL_law_1647 : decode cL_law 1647 = .ok (.aload_n 0, 1) := dk_42 (dk_at dksL_law_65 10 rfl rfl)
theorem dL_law_1648 : decode cL_law 1648 = .ok (.iload 4, 2) := dk_21 4 (dk_at dksL_law_65 11 rfl rfl)
theorem dL_law_1650 : decode cL_law 1650 = .ok (.iconst 2, 1) := dk_5 (dk_at dksL_law_65 13 rfl rfl)
theorem dL_law_1651 : decode cL_law 1651 = .ok (.iadd, 1) := dk_96 (dk_at dksL_law_65 14 rfl rfl)
theorem dL_law_1652 : decode cL_law 1652 = .ok (.iaload, 1) := dk_46 (dk_at dksL_law_65 15 rfl rfl)
theorem dL_law_1653 : decode cL_law 1653 = .ok (.aload_n 3, 1) := dk_45 (dk_at dksL_law_65 16 rfl rfl)
theorem dL_law_1654 : decode cL_law 1654 = .ok (.invokestatic 197, 3) := dk_184 0 197 (dk_at dksL_law_65 17 rfl rfl)
theorem dL_law_1657 : decode cL_law 1657 = .ok (.istore 5, 2) := dk_54 5 (dk_at dksL_law_65 20 rfl rfl)
theorem dL_law_1659 : decode cL_law 1659 = .ok (.aload_n 2, 1) := dk_44 (dk_at dksL_law_65 22 rfl rfl)
theorem dL_law_1660 : decode cL_law 1660 = .ok (.aload_n 0, 1) := dk_42 (dk_at dksL_law_65 23 rfl rfl)
theorem dL_law_1661 : decode cL_law 1661 = .ok (.iload 4, 2) := dk_21 4 (dk_at dksL_law_66 0 rfl rfl)
theorem dL_law_1663 : decode cL_law 1663 = .ok (.iconst 1, 1) := dk_4 (dk_at dksL_law_66 2 rfl rfl)
theorem dL_law_1664 : decode cL_law 1664 = .ok (.iadd, 1) := dk_96 (dk_at dksL_law_66 3 rfl rfl)
theorem dL_law_1665 : decode cL_law 1665 = .ok (.iaload, 1) := dk_46 (dk_at dksL_law_66 4 rfl rfl)
theorem dL_law_1666 : decode cL_law 1666 = .ok (.aload_n 0, 1) := dk_42 (dk_at dksL_law_66 5 rfl rfl)
theorem dL_law_1667 : decode cL_law 1667 = .ok (.iload 4, 2) := dk_21 4 (dk_at dksL_law_66 6 rfl rfl)
theorem dL_law_1669 : decode cL_law 1669 = .ok (.iconst 2, 1) := dk_5 (dk_at dksL_law_66 8 rfl rfl)
theorem dL_law_1670 : decode cL_law 1670 = .ok (.iadd, 1) := dk_96 (dk_at dksL_law_66 9 rfl rfl)
theorem dL_law_1671 : decode cL_law 1671 = .ok (.iaload, 1) := dk_46 (dk_at dksL_law_66 10 rfl rfl)
theorem dL_law_1672 : decode cL_law 1672 = .ok (.invokevirtual 199, 3) := dk_182 0 199 (dk_at dksL_law_66 11 rfl rfl)
theorem dL_law_1675 : decode cL_law 1675 = .ok (.istore 6, 2) := dk_54 6 (dk_at dksL_law_66 14 rfl rfl)
theorem dL_law_1677 : decode cL_law 1677 = .ok (.aload_n 2, 1) := dk_44 (dk_at dksL_law_66 16 rfl rfl)
theorem dL_law_1678 : decode cL_law 1678 = .ok (.invokevirtual 128, 3) := dk_182 0 128 (dk_at dksL_law_66 17 rfl rfl)
theorem dL_law_1681 : decode cL_law 1681 = .ok (.iload 5, 2) := dk_21 5 (dk_at dksL_law_66 20 rfl rfl)
theorem dL_law_1683 : decode cL_law 1683 = .ok (.if_icmp .eq 5, 3) := dk_159 0 5 (dk_at dksL_law_67 0 rfl rfl)
theorem dL_law_1686 : decode cL_law 1686 = .ok (.iconst 0, 1) := dk_3 (dk_at dksL_law_67 3 rfl rfl)
theorem dL_law_1687 : decode cL_law 1687 = .ok (.ireturn, 1) := dk_172 (dk_at dksL_law_67 4 rfl rfl)
theorem dL_law_1688 : decode cL_law 1688 = .ok (.iload 5, 2) := dk_21 5 (dk_at dksL_law_67 5 rfl rfl)
theorem dL_law_1690 : decode cL_law 1690 = .ok (.ifCond .ne 15, 3) := dk_154 0 15 (dk_at dksL_law_67 7 rfl rfl)
theorem dL_law_1693 : decode cL_law 1693 = .ok (.aload_n 3, 1) := dk_45 (dk_at dksL_law_67 10 rfl rfl)
theorem dL_law_1694 : decode cL_law 1694 = .ok (.iconst 0, 1) := dk_3 (dk_at dksL_law_67 11 rfl rfl)
theorem dL_law_1695 : decode cL_law 1695 = .ok (.laload, 1) := dk_47 (dk_at dksL_law_67 12 rfl rfl)
theorem dL_law_1696 : decode cL_law 1696 = .ok (.iload 6, 2) := dk_21 6 (dk_at dksL_law_67 13 rfl rfl)
theorem dL_law_1698 : decode cL_law 1698 = .ok (.i2l, 1) := dk_133 (dk_at dksL_law_67 15 rfl rfl)
theorem dL_law_1699 : decode cL_law 1699 = .ok (.lcmp, 1) := dk_148 (dk_at dksL_law_67 16 rfl rfl)
theorem dL_law_1700 : decode cL_law 1700 = .ok (.ifCond .eq 5, 3) := dk_153 0 5 (dk_at dksL_law_67 17 rfl rfl)
theorem dL_law_1703 : decode cL_law 1703 = .ok (.iconst 0, 1) := dk_3 (dk_at dksL_law_67 20 rfl rfl)
theorem dL_law_1704 : decode cL_law 1704 = .ok (.ireturn, 1) := dk_172 (dk_at dksL_law_67 21 rfl rfl)
theorem dL_law_1705 : decode cL_law 1705 = .ok (.goto 666, 3) := dk_167 2 154 (dk_at dksL_law_68 0 rfl rfl)
theorem dL_law_1708 : decode cL_law 1708 = .ok (.aload_n 1, 1) := dk_43 (dk_at dksL_law_68 3 rfl rfl)
theorem dL_law_1709 : decode cL_law 1709 = .ok (.aload_n 0, 1) := dk_42 (dk_at dksL_law_68 4 rfl rfl)
theorem dL_law_1710 : decode cL_law 1710 = .ok (.iload 4, 2) := dk_21 4 (dk_at dksL_law_68 5 rfl rfl)
theorem dL_law_1712 : decode cL_law 1712 = .ok (.iconst 1, 1) := dk_4 (dk_at dksL_law_68 7 rfl rfl)
theorem dL_law_1713 : decode cL_law 1713 = .ok (.iadd, 1) := dk_96 (dk_at dksL_law_68 8 rfl rfl)
theorem dL_law_1714 : decode cL_law 1714 = .ok (.iaload, 1) := dk_46 (dk_at dksL_law_68 9 rfl rfl)
theorem dL_law_1715 : decode cL_law 1715 = .ok (.aload_n 0, 1) := dk_42 (dk_at dksL_law_68 10 rfl rfl)
theorem dL_law_1716 : decode cL_law 1716 = .ok (.iload 4, 2) := dk_21 4 (dk_at dksL_law_68 11 rfl rfl)
theorem dL_law_1718 : decode cL_law 1718 = .ok (.iconst 2, 1) := dk_5 (dk_at dksL_law_68 13 rfl rfl)
theorem dL_law_1719 : decode cL_law 1719 = .ok (.iadd, 1) := dk_96 (dk_at dksL_law_68 14 rfl rfl)
theorem dL_law_1720 : decode cL_law 1720 = .ok (.iaload, 1) := dk_46 (dk_at dksL_law_68 15 rfl rfl)
theorem dL_law_1721 : decode cL_law 1721 = .ok (.aload_n 3, 1) := dk_45 (dk_at dksL_law_68 16 rfl rfl)
theorem dL_law_1722 : decode cL_law 1722 = .ok (.invokestatic 200, 3) := dk_184 0 200 (dk_at dksL_law_68 17 rfl rfl)
theorem dL_law_1725 : decode cL_law 1725 = .ok (.istore 5, 2) := dk_54 5 (dk_at dksL_law_68 20 rfl rfl)
theorem dL_law_1727 : decode cL_law 1727 = .ok (.aload_n 2, 1) := dk_44 (dk_at dksL_law_68 22 rfl rfl)
theorem dL_law_1728 : decode cL_law 1728 = .ok (.aload_n 0, 1) := dk_42 (dk_at dksL_law_68 23 rfl rfl)
theorem dL_law_1729 : decode cL_law 1729 = .ok (.iload 4, 2) := dk_21 4 (dk_at dksL_law_69 0 rfl rfl)
theorem dL_law_1731 : decode cL_law 1731 = .ok (.iconst 1, 1) := dk_4 (dk_at dksL_law_69 2 rfl rfl)
theorem dL_law_1732 : decode cL_law 1732 = .ok (.iadd, 1) := dk_96 (dk_at dksL_law_69 3 rfl rfl)
theorem dL_law_1733 : decode cL_law 1733 = .ok (.iaload, 1) := dk_46 (dk_at dksL_law_69 4 rfl rfl)
theorem dL_law_1734 : decode cL_law 1734 = .ok (.aload_n 0, 1) := dk_42 (dk_at dksL_law_69 5 rfl rfl)
theorem dL_law_1735 : decode cL_law 1735 = .ok (.iload 4, 2) := dk_21 4 (dk_at dksL_law_69 6 rfl rfl)
theorem dL_law_1737 : decode cL_law 1737 = .ok (.iconst 2, 1) := dk_5 (dk_at dksL_law_69 8 rfl rfl)
theorem dL_law_1738 : decode cL_law 1738 = .ok (.iadd, 1) := dk_96 (dk_at dksL_law_69 9 rfl rfl)
theorem dL_law_1739 : decode cL_law 1739 = .ok (.iaload, 1) := dk_46 (dk_at dksL_law_69 10 rfl rfl)
theorem dL_law_1740 : decode cL_law 1740 = .ok (.invokevirtual 202, 3) := dk_182 0 202 (dk_at dksL_law_69 11 rfl rfl)
theorem dL_law_1743 : decode cL_law 1743 = .ok (.istore 6, 2) := dk_54 6 (dk_at dksL_law_69 14 rfl rfl)
theorem dL_law_1745 : decode cL_law 1745 = .ok (.aload_n 2, 1) := dk_44 (dk_at dksL_law_69 16 rfl rfl)
theorem dL_law_1746 : decode cL_law 1746 = .ok (.invokevirtual 128, 3) := dk_182 0 128 (dk_at dksL_law_69 17 rfl rfl)
theorem dL_law_1749 : decode cL_law 1749 = .ok (.iload 5, 2) := dk_21 5 (dk_at dksL_law_69 20 rfl rfl)
theorem dL_law_1751 : decode cL_law 1751 = .ok (.if_icmp .eq 5, 3) := dk_159 0 5 (dk_at dksL_law_70 0 rfl rfl)
theorem dL_law_1754 : decode cL_law 1754 = .ok (.iconst 0, 1) := dk_3 (dk_at dksL_law_70 3 rfl rfl)
theorem dL_law_1755 : decode cL_law 1755 = .ok (.ireturn, 1) := dk_172 (dk_at dksL_law_70 4 rfl rfl)
theorem dL_law_1756 : decode cL_law 1756 = .ok (.iload 5, 2) := dk_21 5 (dk_at dksL_law_70 5 rfl rfl)
theorem dL_law_1758 : decode cL_law 1758 = .ok (.ifCond .ne 15, 3) := dk_154 0 15 (dk_at dksL_law_70 7 rfl rfl)
theorem dL_law_1761 : decode cL_law 1761 = .ok (.aload_n 3, 1) := dk_45 (dk_at dksL_law_70 10 rfl rfl)
theorem dL_law_1762 : decode cL_law 1762 = .ok (.iconst 0, 1) := dk_3 (dk_at dksL_law_70 11 rfl rfl)
theorem dL_law_1763 : decode cL_law 1763 = .ok (.laload, 1) := dk_47 (dk_at dksL_law_70 12 rfl rfl)
theorem dL_law_1764 : decode cL_law 1764 = .ok (.iload 6, 2) := dk_21 6 (dk_at dksL_law_70 13 rfl rfl)
theorem dL_law_1766 : decode cL_law 1766 = .ok (.i2l, 1) := dk_133 (dk_at dksL_law_70 15 rfl rfl)
theorem dL_law_1767 : decode cL_law 1767 = .ok (.lcmp, 1) := dk_148 (dk_at dksL_law_70 16 rfl rfl)
theorem dL_law_1768 : decode cL_law 1768 = .ok (.ifCond .eq 5, 3) := dk_153 0 5 (dk_at dksL_law_70 17 rfl rfl)
theorem dL_law_1771 : decode cL_law 1771 = .ok (.iconst 0, 1) := dk_3 (dk_at dksL_law_70 20 rfl rfl)
theorem dL_law_1772 : decode cL_law 1772 = .ok (.ireturn, 1) := dk_172 (dk_at dksL_law_70 21 rfl rfl)
theorem dL_law_1773 : decode cL_law 1773 = .ok (.goto 598, 3) := dk_167 2 86 (dk_at dksL_law_71 0 rfl rfl)
theorem dL_law_1776 : decode cL_law 1776 = .ok (.aload_n 1, 1) := dk_43 (dk_at dksL_law_71 3 rfl rfl)
theorem dL_law_1777 : decode cL_law 1777 = .ok (.aload_n 0, 1) := dk_42 (dk_at dksL_law_71 4 rfl rfl)
theorem dL_law_1778 : decode cL_law 1778 = .ok (.iload 4, 2) := dk_21 4 (dk_at dksL_law_71 5 rfl rfl)
theorem dL_law_1780 : decode cL_law 1780 = .ok (.iconst 1, 1) := dk_4 (dk_at dksL_law_71 7 rfl rfl)
theorem dL_law_1781 : decode cL_law 1781 = .ok (.iadd, 1) := dk_96 (dk_at dksL_law_71 8 rfl rfl)
theorem dL_law_1782 : decode cL_law 1782 = .ok (.iaload, 1) := dk_46 (dk_at dksL_law_71 9 rfl rfl)
theorem dL_law_1783 : decode cL_law 1783 = .ok (.aload_n 0, 1) := dk_42 (dk_at dksL_law_71 10 rfl rfl)
theorem dL_law_1784 : decode cL_law 1784 = .ok (.iload 4, 2) := dk_21 4 (dk_at dksL_law_71 11 rfl rfl)
theorem dL_law_1786 : decode cL_law 1786 = .ok (.iconst 2, 1) := dk_5 (dk_at dksL_law_71 13 rfl rfl)
theorem dL_law_1787 : decode cL_law 1787 = .ok (.iadd, 1) := dk_96 (dk_at dksL_law_71 14 rfl rfl)
theorem dL_law_1788 : decode cL_law 1788 = .ok (.iaload, 1) := dk_46 (dk_at dksL_law_71 15 rfl rfl)
theorem dL_law_1789 : decode cL_law 1789 = .ok (.aload_n 3, 1) := dk_45 (dk_at dksL_law_71 16 rfl rfl)
theorem dL_law_1790 : decode cL_law 1790 = .ok (.invokestatic 203, 3) := dk_184 0 203 (dk_at dksL_law_71 17 rfl rfl)
theorem dL_law_1793 : decode cL_law 1793 = .ok (.istore 5, 2) := dk_54 5 (dk_at dksL_law_71 20 rfl rfl)
theorem dL_law_1795 : decode cL_law 1795 = .ok (.aload_n 2, 1) := dk_44 (dk_at dksL_law_71 22 rfl rfl)
theorem dL_law_1796 : decode cL_law 1796 = .ok (.aload_n 0, 1) := dk_42 (dk_at dksL_law_71 23 rfl rfl)
theorem dL_law_1797 : decode cL_law 1797 = .ok (.iload 4, 2) := dk_21 4 (dk_at dksL_law_72 0 rfl rfl)
theorem dL_law_1799 : decode cL_law 1799 = .ok (.iconst 1, 1) := dk_4 (dk_at dksL_law_72 2 rfl rfl)
theorem dL_law_1800 : decode cL_law 1800 = .ok (.iadd, 1) := dk_96 (dk_at dksL_law_72 3 rfl rfl)
theorem dL_law_1801 : decode cL_law 1801 = .ok (.iaload, 1) := dk_46 (dk_at dksL_law_72 4 rfl rfl)
theorem dL_law_1802 : decode cL_law 1802 = .ok (.aload_n 0, 1) := dk_42 (dk_at dksL_law_72 5 rfl rfl)
theorem dL_law_1803 : decode cL_law 1803 = .ok (.iload 4, 2) := dk_21 4 (dk_at dksL_law_72 6 rfl rfl)
theorem dL_law_1805 : decode cL_law 1805 = .ok (.iconst 2, 1) := dk_5 (dk_at dksL_law_72 8 rfl rfl)
theorem dL_law_1806 : decode cL_law 1806 = .ok (.iadd, 1) := dk_96 (dk_at dksL_law_72 9 rfl rfl)
theorem dL_law_1807 : decode cL_law 1807 = .ok (.iaload, 1) := dk_46 (dk_at dksL_law_72 10 rfl rfl)
theorem dL_law_1808 : decode cL_law 1808 = .ok (.invokevirtual 205, 3) := dk_182 0 205 (dk_at dksL_law_72 11 rfl rfl)
theorem dL_law_1811 : decode cL_law 1811 = .ok (.istore 6, 2) := dk_54 6 (dk_at dksL_law_72 14 rfl rfl)
theorem dL_law_1813 : decode cL_law 1813 = .ok (.aload_n 2, 1) := dk_44 (dk_at dksL_law_72 16 rfl rfl)
theorem dL_law_1814 : decode cL_law 1814 = .ok (.invokevirtual 128, 3) := dk_182 0 128 (dk_at dksL_law_72 17 rfl rfl)
theorem dL_law_1817 : decode cL_law 1817 = .ok (.iload 5, 2) := dk_21 5 (dk_at dksL_law_72 20 rfl rfl)
theorem dL_law_1819 : decode cL_law 1819 = .ok (.if_icmp .eq 5, 3) := dk_159 0 5 (dk_at dksL_law_73 0 rfl rfl)
theorem dL_law_1822 : decode cL_law 1822 = .ok (.iconst 0, 1) := dk_3 (dk_at dksL_law_73 3 rfl rfl)
theorem dL_law_1823 : decode cL_law 1823 = .ok (.ireturn, 1) := dk_172 (dk_at dksL_law_73 4 rfl rfl)
theorem dL_law_1824 : decode cL_law 1824 = .ok (.iload 5, 2) := dk_21 5 (dk_at dksL_law_73 5 rfl rfl)
theorem dL_law_1826 : decode cL_law 1826 = .ok (.ifCond .ne 15, 3) := dk_154 0 15 (dk_at dksL_law_73 7 rfl rfl)
theorem dL_law_1829 : decode cL_law 1829 = .ok (.aload_n 3, 1) := dk_45 (dk_at dksL_law_73 10 rfl rfl)
theorem dL_law_1830 : decode cL_law 1830 = .ok (.iconst 0, 1) := dk_3 (dk_at dksL_law_73 11 rfl rfl)
theorem dL_law_1831 : decode cL_law 1831 = .ok (.laload, 1) := dk_47 (dk_at dksL_law_73 12 rfl rfl)
theorem dL_law_1832 : decode cL_law 1832 = .ok (.iload 6, 2) := dk_21 6 (dk_at dksL_law_73 13 rfl rfl)
theorem dL_law_1834 : decode cL_law 1834 = .ok (.i2l, 1) := dk_133 (dk_at dksL_law_73 15 rfl rfl)
theorem dL_law_1835 : decode cL_law 1835 = .ok (.lcmp, 1) := dk_148 (dk_at dksL_law_73 16 rfl rfl)
theorem dL_law_1836 : decode cL_law 1836 = .ok (.ifCond .eq 5, 3) := dk_153 0 5 (dk_at dksL_law_73 17 rfl rfl)
theorem dL_law_1839 : decode cL_law 1839 = .ok (.iconst 0, 1) := dk_3 (dk_at dksL_law_73 20 rfl rfl)
theorem dL_law_1840 : decode cL_law 1840 = .ok (.ireturn, 1) := dk_172 (dk_at dksL_law_73 21 rfl rfl)
theorem dL_law_1841 : decode cL_law 1841 = .ok (.goto 530, 3) := dk_167 2 18 (dk_at dksL_law_74 0 rfl rfl)
theorem dL_law_1844 : decode cL_law 1844 = .ok (.aload_n 1, 1) := dk_43 (dk_at dksL_law_74 3 rfl rfl)
theorem dL_law_1845 : decode cL_law 1845 = .ok (.aload_n 0, 1) := dk_42 (dk_at dksL_law_74 4 rfl rfl)
theorem dL_law_1846 : decode cL_law 1846 = .ok (.iload 4, 2) := dk_21 4 (dk_at dksL_law_74 5 rfl rfl)
theorem dL_law_1848 : decode cL_law 1848 = .ok (.iconst 1, 1) := dk_4 (dk_at dksL_law_74 7 rfl rfl)
theorem dL_law_1849 : decode cL_law 1849 = .ok (.iadd, 1) := dk_96 (dk_at dksL_law_74 8 rfl rfl)
theorem dL_law_1850 : decode cL_law 1850 = .ok (.iaload, 1) := dk_46 (dk_at dksL_law_74 9 rfl rfl)
theorem dL_law_1851 : decode cL_law 1851 = .ok (.aload_n 3, 1) := dk_45 (dk_at dksL_law_74 10 rfl rfl)
theorem dL_law_1852 : decode cL_law 1852 = .ok (.invokestatic 206, 3) := dk_184 0 206 (dk_at dksL_law_74 11 rfl rfl)
theorem dL_law_1855 : decode cL_law 1855 = .ok (.istore 5, 2) := dk_54 5 (dk_at dksL_law_74 14 rfl rfl)
theorem dL_law_1857 : decode cL_law 1857 = .ok (.aload_n 2, 1) := dk_44 (dk_at dksL_law_74 16 rfl rfl)
theorem dL_law_1858 : decode cL_law 1858 = .ok (.aload_n 0, 1) := dk_42 (dk_at dksL_law_74 17 rfl rfl)
theorem dL_law_1859 : decode cL_law 1859 = .ok (.iload 4, 2) := dk_21 4 (dk_at dksL_law_74 18 rfl rfl)
theorem dL_law_1861 : decode cL_law 1861 = .ok (.iconst 1, 1) := dk_4 (dk_at dksL_law_74 20 rfl rfl)
theorem dL_law_1862 : decode cL_law 1862 = .ok (.iadd, 1) := dk_96 (dk_at dksL_law_74 21 rfl rfl)
theorem dL_law_1863 : decode cL_law 1863 = .ok (.iaload, 1) := dk_46 (dk_at dksL_law_74 22 rfl rfl)
theorem dL_law_1864 : decode cL_law 1864 = .ok (.invokevirtual 208, 3) := dk_182 0 208 (dk_at dksL_law_75 0 rfl rfl)
theorem dL_law_1867 : decode cL_law 1867 = .ok (.istore 6, 2) := dk_54 6 (dk_at dksL_law_75 3 rfl rfl)
theorem dL_law_1869 : decode cL_law 1869 = .ok (.aload_n 2, 1) := dk_44 (dk_at dksL_law_75 5 rfl rfl)
theorem dL_law_1870 : decode cL_law 1870 = .ok (.invokevirtual 128, 3) := dk_182 0 128 (dk_at dksL_law_75 6 rfl rfl)
theorem dL_law_1873 : decode cL_law 1873 = .ok (.iload 5, 2) := dk_21 5 (dk_at dksL_law_75 9 rfl rfl)
theorem dL_law_1875 : decode cL_law 1875 = .ok (.if_icmp .eq 5, 3) := dk_159 0 5 (dk_at dksL_law_75 11 rfl rfl)
theorem dL_law_1878 : decode cL_law 1878 = .ok (.iconst 0, 1) := dk_3 (dk_at dksL_law_75 14 rfl rfl)
theorem dL_law_1879 : decode cL_law 1879 = .ok (.ireturn, 1) := dk_172 (dk_at dksL_law_75 15 rfl rfl)
theorem dL_law_1880 : decode cL_law 1880 = .ok (.iload 5, 2) := dk_21 5 (dk_at dksL_law_75 16 rfl rfl)
theorem dL_law_1882 : decode cL_law 1882 = .ok (.ifCond .ne 15, 3) := dk_154 0 15 (dk_at dksL_law_75 18 rfl rfl)
theorem dL_law_1885 : decode cL_law 1885 = .ok (.aload_n 3, 1) := dk_45 (dk_at dksL_law_75 21 rfl rfl)
theorem dL_law_1886 : decode cL_law 1886 = .ok (.iconst 0, 1) := dk_3 (dk_at dksL_law_75 22 rfl rfl)
theorem dL_law_1887 : decode cL_law 1887 = .ok (.laload, 1) := dk_47 (dk_at dksL_law_75 23 rfl rfl)
theorem dL_law_1888 : decode cL_law 1888 = .ok (.iload 6, 2) := dk_21 6 (dk_at dksL_law_76 0 rfl rfl)
theorem dL_law_1890 : decode cL_law 1890 = .ok (.i2l, 1) := dk_133 (dk_at dksL_law_76 2 rfl rfl)
theorem dL_law_1891 : decode cL_law 1891 = .ok (.lcmp, 1) := dk_148 (dk_at dksL_law_76 3 rfl rfl)
theorem dL_law_1892 : decode cL_law 1892 = .ok (.ifCond .eq 5, 3) := dk_153 0 5 (dk_at dksL_law_76 4 rfl rfl)
theorem dL_law_1895 : decode cL_law 1895 = .ok (.iconst 0, 1) := dk_3 (dk_at dksL_law_76 7 rfl rfl)
theorem dL_law_1896 : decode cL_law 1896 = .ok (.ireturn, 1) := dk_172 (dk_at dksL_law_76 8 rfl rfl)
theorem dL_law_1897 : decode cL_law 1897 = .ok (.goto 474, 3) := dk_167 1 218 (dk_at dksL_law_76 9 rfl rfl)
theorem dL_law_1900 : decode cL_law 1900 = .ok (.aload_n 1, 1) := dk_43 (dk_at dksL_law_76 12 rfl rfl)
theorem dL_law_1901 : decode cL_law 1901 = .ok (.aload_n 0, 1) := dk_42 (dk_at dksL_law_76 13 rfl rfl)
theorem dL_law_1902 : decode cL_law 1902 = .ok (.iload 4, 2) := dk_21 4 (dk_at dksL_law_76 14 rfl rfl)
theorem dL_law_1904 : decode cL_law 1904 = .ok (.iconst 1, 1) := dk_4 (dk_at dksL_law_76 16 rfl rfl)
theorem dL_law_1905 : decode cL_law 1905 = .ok (.iadd, 1) := dk_96 (dk_at dksL_law_76 17 rfl rfl)
theorem dL_law_1906 : decode cL_law 1906 = .ok (.iaload, 1) := dk_46 (dk_at dksL_law_76 18 rfl rfl)
theorem dL_law_1907 : decode cL_law 1907 = .ok (.aload_n 0, 1) := dk_42 (dk_at dksL_law_76 19 rfl rfl)
theorem dL_law_1908 : decode cL_law 1908 = .ok (.iload 4, 2) := dk_21 4 (dk_at dksL_law_76 20 rfl rfl)
theorem dL_law_1910 : decode cL_law 1910 = .ok (.iconst 2, 1) := dk_5 (dk_at dksL_law_76 22 rfl rfl)
theorem dL_law_1911 : decode cL_law 1911 = .ok (.iadd, 1) := dk_96 (dk_at dksL_law_76 23 rfl rfl)
theorem dL_law_1912 : decode cL_law 1912 = .ok (.iaload, 1) := dk_46 (dk_at dksL_law_77 0 rfl rfl)
theorem dL_law_1913 : decode cL_law 1913 = .ok (.aload_n 3, 1) := dk_45 (dk_at dksL_law_77 1 rfl rfl)
theorem dL_law_1914 : decode cL_law 1914 = .ok (.invokestatic 209, 3) := dk_184 0 209 (dk_at dksL_law_77 2 rfl rfl)
theorem dL_law_1917 : decode cL_law 1917 = .ok (.istore 5, 2) := dk_54 5 (dk_at dksL_law_77 5 rfl rfl)
theorem dL_law_1919 : decode cL_law 1919 = .ok (.aload_n 2, 1) := dk_44 (dk_at dksL_law_77 7 rfl rfl)
theorem dL_law_1920 : decode cL_law 1920 = .ok (.aload_n 0, 1) := dk_42 (dk_at dksL_law_77 8 rfl rfl)
theorem dL_law_1921 : decode cL_law 1921 = .ok (.iload 4, 2) := dk_21 4 (dk_at dksL_law_77 9 rfl rfl)
theorem dL_law_1923 : decode cL_law 1923 = .ok (.iconst 1, 1) := dk_4 (dk_at dksL_law_77 11 rfl rfl)
theorem dL_law_1924 : decode cL_law 1924 = .ok (.iadd, 1) := dk_96 (dk_at dksL_law_77 12 rfl rfl)
theorem dL_law_1925 : decode cL_law 1925 = .ok (.iaload, 1) := dk_46 (dk_at dksL_law_77 13 rfl rfl)
theorem dL_law_1926 : decode cL_law 1926 = .ok (.aload_n 0, 1) := dk_42 (dk_at dksL_law_77 14 rfl rfl)
theorem dL_law_1927 : decode cL_law 1927 = .ok (.iload 4, 2) := dk_21 4 (dk_at dksL_law_77 15 rfl rfl)
theorem dL_law_1929 : decode cL_law 1929 = .ok (.iconst 2, 1) := dk_5 (dk_at dksL_law_77 17 rfl rfl)
theorem dL_law_1930 : decode cL_law 1930 = .ok (.iadd, 1) := dk_96 (dk_at dksL_law_77 18 rfl rfl)
theorem dL_law_1931 : decode cL_law 1931 = .ok (.iaload, 1) := dk_46 (dk_at dksL_law_77 19 rfl rfl)
theorem dL_law_1932 : decode cL_law 1932 = .ok (.invokevirtual 211, 3) := dk_182 0 211 (dk_at dksL_law_77 20 rfl rfl)
theorem dL_law_1935 : decode cL_law 1935 = .ok (.istore 6, 2) := dk_54 6 (dk_at dksL_law_78 0 rfl rfl)
theorem dL_law_1937 : decode cL_law 1937 = .ok (.aload_n 2, 1) := dk_44 (dk_at dksL_law_78 2 rfl rfl)
theorem dL_law_1938 : decode cL_law 1938 = .ok (.invokevirtual 128, 3) := dk_182 0 128 (dk_at dksL_law_78 3 rfl rfl)
theorem dL_law_1941 : decode cL_law 1941 = .ok (.iload 5, 2) := dk_21 5 (dk_at dksL_law_78 6 rfl rfl)
theorem dL_law_1943 : decode cL_law 1943 = .ok (.if_icmp .eq 5, 3) := dk_159 0 5 (dk_at dksL_law_78 8 rfl rfl)
theorem dL_law_1946 : decode cL_law 1946 = .ok (.iconst 0, 1) := dk_3 (dk_at dksL_law_78 11 rfl rfl)
theorem dL_law_1947 : decode cL_law 1947 = .ok (.ireturn, 1) := dk_172 (dk_at dksL_law_78 12 rfl rfl)
theorem dL_law_1948 : decode cL_law 1948 = .ok (.iload 5, 2) := dk_21 5 (dk_at dksL_law_78 13 rfl rfl)
theorem dL_law_1950 : decode cL_law 1950 = .ok (.ifCond .ne 15, 3) := dk_154 0 15 (dk_at dksL_law_78 15 rfl rfl)
theorem dL_law_1953 : decode cL_law 1953 = .ok (.aload_n 3, 1) := dk_45 (dk_at dksL_law_78 18 rfl rfl)
theorem dL_law_1954 : decode cL_law 1954 = .ok (.iconst 0, 1) := dk_3 (dk_at dksL_law_78 19 rfl rfl)
theorem dL_law_1955 : decode cL_law 1955 = .ok (.laload, 1) := dk_47 (dk_at dksL_law_78 20 rfl rfl)
theorem dL_law_1956 : decode cL_law 1956 = .ok (.iload 6, 2) := dk_21 6 (dk_at dksL_law_78 21 rfl rfl)
theorem dL_law_1958 : decode cL_law 1958 = .ok (.i2l, 1) := dk_133 (dk_at dksL_law_78 23 rfl rfl)
theorem dL_law_1959 : decode cL_law 1959 = .ok (.lcmp, 1) := dk_148 (dk_at dksL_law_79 0 rfl rfl)
theorem dL_law_1960 : decode cL_law 1960 = .ok (.ifCond .eq 5, 3) := dk_153 0 5 (dk_at dksL_law_79 1 rfl rfl)
theorem dL_law_1963 : decode cL_law 1963 = .ok (.iconst 0, 1) := dk_3 (dk_at dksL_law_79 4 rfl rfl)
theorem dL_law_1964 : decode cL_law 1964 = .ok (.ireturn, 1) := dk_172 (dk_at dksL_law_79 5 rfl rfl)
theorem dL_law_1965 : decode cL_law 1965 = .ok (.goto 406, 3) := dk_167 1 150 (dk_at dksL_law_79 6 rfl rfl)
theorem dL_law_1968 : decode cL_law 1968 = .ok (.aload_n 1, 1) := dk_43 (dk_at dksL_law_79 9 rfl rfl)
theorem dL_law_1969 : decode cL_law 1969 = .ok (.aload_n 0, 1) := dk_42 (dk_at dksL_law_79 10 rfl rfl)
theorem dL_law_1970 : decode cL_law 1970 = .ok (.iload 4, 2) := dk_21 4 (dk_at dksL_law_79 11 rfl rfl)
theorem dL_law_1972 : decode cL_law 1972 = .ok (.iconst 1, 1) := dk_4 (dk_at dksL_law_79 13 rfl rfl)
theorem dL_law_1973 : decode cL_law 1973 = .ok (.iadd, 1) := dk_96 (dk_at dksL_law_79 14 rfl rfl)
theorem dL_law_1974 : decode cL_law 1974 = .ok (.iaload, 1) := dk_46 (dk_at dksL_law_79 15 rfl rfl)
theorem dL_law_1975 : decode cL_law 1975 = .ok (.aload_n 3, 1) := dk_45 (dk_at dksL_law_79 16 rfl rfl)
theorem dL_law_1976 : decode cL_law 1976 = .ok (.invokestatic 212, 3) := dk_184 0 212 (dk_at dksL_law_79 17 rfl rfl)
theorem dL_law_1979 : decode cL_law 1979 = .ok (.istore 5, 2) := dk_54 5 (dk_at dksL_law_79 20 rfl rfl)
theorem dL_law_1981 : decode cL_law 1981 = .ok (.aload_n 2, 1) := dk_44 (dk_at dksL_law_79 22 rfl rfl)
theorem dL_law_1982 : decode cL_law 1982 = .ok (.aload_n 0, 1) := dk_42 (dk_at dksL_law_79 23 rfl rfl)
theorem dL_law_1983 : decode cL_law 1983 = .ok (.iload 4, 2) := dk_21 4 (dk_at dksL_law_80 0 rfl rfl)
theorem dL_law_1985 : decode cL_law 1985 = .ok (.iconst 1, 1) := dk_4 (dk_at dksL_law_80 2 rfl rfl)
theorem dL_law_1986 : decode cL_law 1986 = .ok (.iadd, 1) := dk_96 (dk_at dksL_law_80 3 rfl rfl)
theorem dL_law_1987 : decode cL_law 1987 = .ok (.iaload, 1) := dk_46 (dk_at dksL_law_80 4 rfl rfl)
theorem dL_law_1988 : decode cL_law 1988 = .ok (.invokevirtual 214, 3) := dk_182 0 214 (dk_at dksL_law_80 5 rfl rfl)
theorem dL_law_1991 : decode cL_law 1991 = .ok (.istore 6, 2) := dk_54 6 (dk_at dksL_law_80 8 rfl rfl)
theorem dL_law_1993 : decode cL_law 1993 = .ok (.aload_n 2, 1) := dk_44 (dk_at dksL_law_80 10 rfl rfl)
theorem dL_law_1994 : decode cL_law 1994 = .ok (.invokevirtual 128, 3) := dk_182 0 128 (dk_at dksL_law_80 11 rfl rfl)
theorem dL_law_1997 : decode cL_law 1997 = .ok (.iload 5, 2) := dk_21 5 (dk_at dksL_law_80 14 rfl rfl)
theorem dL_law_1999 : decode cL_law 1999 = .ok (.if_icmp .eq 5, 3) := dk_159 0 5 (dk_at dksL_law_80 16 rfl rfl)
theorem dL_law_2002 : decode cL_law 2002 = .ok (.iconst 0, 1) := dk_3 (dk_at dksL_law_80 19 rfl rfl)
theorem dL_law_2003 : decode cL_law 2003 = .ok (.ireturn, 1) := dk_172 (dk_at dksL_law_80 20 rfl rfl)
theorem dL_law_2004 : decode cL_law 2004 = .ok (.iload 5, 2) := dk_21 5 (dk_at dksL_law_80 21 rfl rfl)
theorem dL_law_2006 : decode cL_law 2006 = .ok (.ifCond .ne 15, 3) := dk_154 0 15 (dk_at dksL_law_81 0 rfl rfl)
theorem dL_law_2009 : decode cL_law 2009 = .ok (.aload_n 3, 1) := dk_45 (dk_at dksL_law_81 3 rfl rfl)
theorem dL_law_2010 : decode cL_law 2010 = .ok (.iconst 0, 1) := dk_3 (dk_at dksL_law_81 4 rfl rfl)
theorem dL_law_2011 : decode cL_law 2011 = .ok (.laload, 1) := dk_47 (dk_at dksL_law_81 5 rfl rfl)
theorem dL_law_2012 : decode cL_law 2012 = .ok (.iload 6, 2) := dk_21 6 (dk_at dksL_law_81 6 rfl rfl)
theorem dL_law_2014 : decode cL_law 2014 = .ok (.i2l, 1) := dk_133 (dk_at dksL_law_81 8 rfl rfl)
theorem dL_law_2015 : decode cL_law 2015 = .ok (.lcmp, 1) := dk_148 (dk_at dksL_law_81 9 rfl rfl)
theorem dL_law_2016 : decode cL_law 2016 = .ok (.ifCond .eq 5, 3) := dk_153 0 5 (dk_at dksL_law_81 10 rfl rfl)
theorem dL_law_2019 : decode cL_law 2019 = .ok (.iconst 0, 1) := dk_3 (dk_at dksL_law_81 13 rfl rfl)
theorem dL_law_2020 : decode cL_law 2020 = .ok (.ireturn, 1) := dk_172 (dk_at dksL_law_81 14 rfl rfl)
theorem dL_law_2021 : decode cL_law 2021 = .ok (.goto 350, 3) := dk_167 1 94 (dk_at dksL_law_81 15 rfl rfl)
theorem dL_law_2024 : decode cL_law 2024 = .ok (.aload_n 1, 1) := dk_43 (dk_at dksL_law_81 18 rfl rfl)
theorem dL_law_2025 : decode cL_law 2025 = .ok (.aload_n 0, 1) := dk_42 (dk_at dksL_law_81 19 rfl rfl)
theorem dL_law_2026 : decode cL_law 2026 = .ok (.iload 4, 2) := dk_21 4 (dk_at dksL_law_81 20 rfl rfl)
theorem dL_law_2028 : decode cL_law 2028 = .ok (.iconst 1, 1) := dk_4 (dk_at dksL_law_81 22 rfl rfl)
theorem dL_law_2029 : decode cL_law 2029 = .ok (.iadd, 1) := dk_96 (dk_at dksL_law_81 23 rfl rfl)
theorem dL_law_2030 : decode cL_law 2030 = .ok (.iaload, 1) := dk_46 (dk_at dksL_law_82 0 rfl rfl)
theorem dL_law_2031 : decode cL_law 2031 = .ok (.aload_n 3, 1) := dk_45 (dk_at dksL_law_82 1 rfl rfl)
theorem dL_law_2032 : decode cL_law 2032 = .ok (.invokestatic 215, 3) := dk_184 0 215 (dk_at dksL_law_82 2 rfl rfl)
theorem dL_law_2035 : decode cL_law 2035 = .ok (.istore 5, 2) := dk_54 5 (dk_at dksL_law_82 5 rfl rfl)
theorem dL_law_2037 : decode cL_law 2037 = .ok (.aload_n 2, 1) := dk_44 (dk_at dksL_law_82 7 rfl rfl)
theorem dL_law_2038 : decode cL_law 2038 = .ok (.aload_n 0, 1) := dk_42 (dk_at dksL_law_82 8 rfl rfl)
theorem dL_law_2039 : decode cL_law 2039 = .ok (.iload 4, 2) := dk_21 4 (dk_at dksL_law_82 9 rfl rfl)
theorem dL_law_2041 : decode cL_law 2041 = .ok (.iconst 1, 1) := dk_4 (dk_at dksL_law_82 11 rfl rfl)
theorem dL_law_2042 : decode cL_law 2042 = .ok (.iadd, 1) := dk_96 (dk_at dksL_law_82 12 rfl rfl)
theorem dL_law_2043 : decode cL_law 2043 = .ok (.iaload, 1) := dk_46 (dk_at dksL_law_82 13 rfl rfl)
theorem dL_law_2044 : decode cL_law 2044 = .ok (.invokevirtual 217, 3) := dk_182 0 217 (dk_at dksL_law_82 14 rfl rfl)
theorem dL_law_2047 : decode cL_law 2047 = .ok (.istore 6, 2) := dk_54 6 (dk_at dksL_law_82 17 rfl rfl)
theorem dL_law_2049 : decode cL_law 2049 = .ok (.aload_n 2, 1) := dk_44 (dk_at dksL_law_82 19 rfl rfl)
theorem dL_law_2050 : decode cL_law 2050 = .ok (.invokevirtual 128, 3) := dk_182 0 128 (dk_at dksL_law_82 20 rfl rfl)
theorem dL_law_2053 : decode cL_law 2053 = .ok (.iload 5, 2) := dk_21 5 (dk_at dksL_law_83 0 rfl rfl)
theorem dL_law_2055 : decode cL_law 2055 = .ok (.if_icmp .eq 5, 3) := dk_159 0 5 (dk_at dksL_law_83 2 rfl rfl)
theorem dL_law_2058 : decode cL_law 2058 = .ok (.iconst 0, 1) := dk_3 (dk_at dksL_law_83 5 rfl rfl)
theorem dL_law_2059 : decode cL_law 2059 = .ok (.ireturn, 1) := dk_172 (dk_at dksL_law_83 6 rfl rfl)
theorem dL_law_2060 : decode cL_law 2060 = .ok (.iload 5, 2) := dk_21 5 (dk_at dksL_law_83 7 rfl rfl)
theorem dL_law_2062 : decode cL_law 2062 = .ok (.ifCond .ne 15, 3) := dk_154 0 15 (dk_at dksL_law_83 9 rfl rfl)
theorem dL_law_2065 : decode cL_law 2065 = .ok (.aload_n 3, 1) := dk_45 (dk_at dksL_law_83 12 rfl rfl)
theorem dL_law_2066 : decode cL_law 2066 = .ok (.iconst 0, 1) := dk_3 (dk_at dksL_law_83 13 rfl rfl)
theorem dL_law_2067 : decode cL_law 2067 = .ok (.laload, 1) := dk_47 (dk_at dksL_law_83 14 rfl rfl)
theorem dL_law_2068 : decode cL_law 2068 = .ok (.iload 6, 2) := dk_21 6 (dk_at dksL_law_83 15 rfl rfl)
theorem dL_law_2070 : decode cL_law 2070 = .ok (.i2l, 1) := dk_133 (dk_at dksL_law_83 17 rfl rfl)
theorem dL_law_2071 : decode cL_law 2071 = .ok (.lcmp, 1) := dk_148 (dk_at dksL_law_83 18 rfl rfl)
theorem dL_law_2072 : decode cL_law 2072 = .ok (.ifCond .eq 5, 3) := dk_153 0 5 (dk_at dksL_law_83 19 rfl rfl)
theorem dL_law_2075 : decode cL_law 2075 = .ok (.iconst 0, 1) := dk_3 (dk_at dksL_law_83 22 rfl rfl)
theorem dL_law_2076 : decode cL_law 2076 = .ok (.ireturn, 1) := dk_172 (dk_at dksL_law_83 23 rfl rfl)
theorem dL_law_2077 : decode cL_law 2077 = .ok (.goto 294, 3) := dk_167 1 38 (dk_at dksL_law_84 0 rfl rfl)
theorem dL_law_2080 : decode cL_law 2080 = .ok (.aload_n 1, 1) := dk_43 (dk_at dksL_law_84 3 rfl rfl)
theorem dL_law_2081 : decode cL_law 2081 = .ok (.invokevirtual 218, 3) := dk_182 0 218 (dk_at dksL_law_84 4 rfl rfl)
theorem dL_law_2084 : decode cL_law 2084 = .ok (.dstore 5, 2) := dk_57 5 (dk_at dksL_law_84 7 rfl rfl)
theorem dL_law_2086 : decode cL_law 2086 = .ok (.aload_n 2, 1) := dk_44 (dk_at dksL_law_84 9 rfl rfl)
theorem dL_law_2087 : decode cL_law 2087 = .ok (.invokevirtual 222, 3) := dk_182 0 222 (dk_at dksL_law_84 10 rfl rfl)
theorem dL_law_2090 : decode cL_law 2090 = .ok (.dstore 7, 2) := dk_57 7 (dk_at dksL_law_84 13 rfl rfl)
theorem dL_law_2092 : decode cL_law 2092 = .ok (.dload 5, 2) := dk_24 5 (dk_at dksL_law_84 15 rfl rfl)
theorem dL_law_2094 : decode cL_law 2094 = .ok (.dload 7, 2) := dk_24 7 (dk_at dksL_law_84 17 rfl rfl)
theorem dL_law_2096 : decode cL_law 2096 = .ok (.dcmp .l, 1) := dk_151 (dk_at dksL_law_84 19 rfl rfl)
theorem dL_law_2097 : decode cL_law 2097 = .ok (.ifCond .eq 21, 3) := dk_153 0 21 (dk_at dksL_law_84 20 rfl rfl)
theorem dL_law_2100 : decode cL_law 2100 = .ok (.dload 5, 2) := dk_24 5 (dk_at dksL_law_85 0 rfl rfl)
theorem dL_law_2102 : decode cL_law 2102 = .ok (.dload 5, 2) := dk_24 5 (dk_at dksL_law_85 2 rfl rfl)
theorem dL_law_2104 : decode cL_law 2104 = .ok (.dcmp .l, 1) := dk_151 (dk_at dksL_law_85 4 rfl rfl)
theorem dL_law_2105 : decode cL_law 2105 = .ok (.ifCond .eq 11, 3) := dk_153 0 11 (dk_at dksL_law_85 5 rfl rfl)
theorem dL_law_2108 : decode cL_law 2108 = .ok (.dload 7, 2) := dk_24 7 (dk_at dksL_law_85 8 rfl rfl)
theorem dL_law_2110 : decode cL_law 2110 = .ok (.dload 7, 2) := dk_24 7 (dk_at dksL_law_85 10 rfl rfl)
theorem dL_law_2112 : decode cL_law 2112 = .ok (.dcmp .l, 1) := dk_151 (dk_at dksL_law_85 12 rfl rfl)
theorem dL_law_2113 : decode cL_law 2113 = .ok (.ifCond .ne 5, 3) := dk_154 0 5 (dk_at dksL_law_85 13 rfl rfl)
theorem dL_law_2116 : decode cL_law 2116 = .ok (.iconst 0, 1) := dk_3 (dk_at dksL_law_85 16 rfl rfl)
theorem dL_law_2117 : decode cL_law 2117 = .ok (.ireturn, 1) := dk_172 (dk_at dksL_law_85 17 rfl rfl)
theorem dL_law_2118 : decode cL_law 2118 = .ok (.goto 253, 3) := dk_167 0 253 (dk_at dksL_law_85 18 rfl rfl)
theorem dL_law_2121 : decode cL_law 2121 = .ok (.aload_n 1, 1) := dk_43 (dk_at dksL_law_85 21 rfl rfl)
theorem dL_law_2122 : decode cL_law 2122 = .ok (.aload_n 0, 1) := dk_42 (dk_at dksL_law_85 22 rfl rfl)
theorem dL_law_2123 : decode cL_law 2123 = .ok (.iload 4, 2) := dk_21 4 (dk_at dksL_law_86 0 rfl rfl)
theorem dL_law_2125 : decode cL_law 2125 = .ok (.iconst 1, 1) := dk_4 (dk_at dksL_law_86 2 rfl rfl)
theorem dL_law_2126 : decode cL_law 2126 = .ok (.iadd, 1) := dk_96 (dk_at dksL_law_86 3 rfl rfl)
theorem dL_law_2127 : decode cL_law 2127 = .ok (.iaload, 1) := dk_46 (dk_at dksL_law_86 4 rfl rfl)
theorem dL_law_2128 : decode cL_law 2128 = .ok (.aload_n 3, 1) := dk_45 (dk_at dksL_law_86 5 rfl rfl)
theorem dL_law_2129 : decode cL_law 2129 = .ok (.invokestatic 223, 3) := dk_184 0 223 (dk_at dksL_law_86 6 rfl rfl)
theorem dL_law_2132 : decode cL_law 2132 = .ok (.istore 5, 2) := dk_54 5 (dk_at dksL_law_86 9 rfl rfl)
theorem dL_law_2134 : decode cL_law 2134 = .ok (.aload_n 2, 1) := dk_44 (dk_at dksL_law_86 11 rfl rfl)
theorem dL_law_2135 : decode cL_law 2135 = .ok (.aload_n 0, 1) := dk_42 (dk_at dksL_law_86 12 rfl rfl)
theorem dL_law_2136 : decode cL_law 2136 = .ok (.iload 4, 2) := dk_21 4 (dk_at dksL_law_86 13 rfl rfl)
theorem dL_law_2138 : decode cL_law 2138 = .ok (.iconst 1, 1) := dk_4 (dk_at dksL_law_86 15 rfl rfl)
theorem dL_law_2139 : decode cL_law 2139 = .ok (.iadd, 1) := dk_96 (dk_at dksL_law_86 16 rfl rfl)
theorem dL_law_2140 : decode cL_law 2140 = .ok (.iaload, 1) := dk_46 (dk_at dksL_law_86 17 rfl rfl)
theorem dL_law_2141 : decode cL_law 2141 = .ok (.invokevirtual 225, 3) := dk_182 0 225 (dk_at dksL_law_86 18 rfl rfl)
theorem dL_law_2144 : decode cL_law 2144 = .ok (.istore 6, 2) := dk_54 6 (dk_at dksL_law_86 21 rfl rfl)
theorem dL_law_2146 : decode cL_law 2146 = .ok (.aload_n 2, 1) := dk_44 (dk_at dksL_law_86 23 rfl rfl)
theorem dL_law_2147 : decode cL_law 2147 = .ok (.invokevirtual 128, 3) := dk_182 0 128 (dk_at dksL_law_87 0 rfl rfl)
theorem dL_law_2150 : decode cL_law 2150 = .ok (.iload 5, 2) := dk_21 5 (dk_at dksL_law_87 3 rfl rfl)
theorem dL_law_2152 : decode cL_law 2152 = .ok (.if_icmp .eq 5, 3) := dk_159 0 5 (dk_at dksL_law_87 5 rfl rfl)
theorem dL_law_2155 : decode cL_law 2155 = .ok (.iconst 0, 1) := dk_3 (dk_at dksL_law_87 8 rfl rfl)
theorem dL_law_2156 : decode cL_law 2156 = .ok (.ireturn, 1) := dk_172 (dk_at dksL_law_87 9 rfl rfl)
theorem dL_law_2157 : decode cL_law 2157 = .ok (.iload 5, 2) := dk_21 5 (dk_at dksL_law_87 10 rfl rfl)
theorem dL_law_2159 : decode cL_law 2159 = .ok (.ifCond .ne 15, 3) := dk_154 0 15 (dk_at dksL_law_87 12 rfl rfl)
theorem dL_law_2162 : decode cL_law 2162 = .ok (.aload_n 3, 1) := dk_45 (dk_at dksL_law_87 15 rfl rfl)
theorem dL_law_2163 : decode cL_law 2163 = .ok (.iconst 0, 1) := dk_3 (dk_at dksL_law_87 16 rfl rfl)
theorem dL_law_2164 : decode cL_law 2164 = .ok (.laload, 1) := dk_47 (dk_at dksL_law_87 17 rfl rfl)
theorem dL_law_2165 : decode cL_law 2165 = .ok (.iload 6, 2) := dk_21 6 (dk_at dksL_law_87 18 rfl rfl)
theorem dL_law_2167 : decode cL_law 2167 = .ok (.i2l, 1) := dk_133 (dk_at dksL_law_87 20 rfl rfl)
theorem dL_law_2168 : decode cL_law 2168 = .ok (.lcmp, 1) := dk_148 (dk_at dksL_law_87 21 rfl rfl)
theorem dL_law_2169 : decode cL_law 2169 = .ok (.ifCond .eq 5, 3) := dk_153 0 5 (dk_at dksL_law_88 0 rfl rfl)
theorem dL_law_2172 : decode cL_law 2172 = .ok (.iconst 0, 1) := dk_3 (dk_at dksL_law_88 3 rfl rfl)
theorem dL_law_2173 : decode cL_law 2173 = .ok (.ireturn, 1) := dk_172 (dk_at dksL_law_88 4 rfl rfl)
theorem dL_law_2174 : decode cL_law 2174 = .ok (.goto 197, 3) := dk_167 0 197 (dk_at dksL_law_88 5 rfl rfl)
theorem dL_law_2177 : decode cL_law 2177 = .ok (.aload_n 1, 1) := dk_43 (dk_at dksL_law_88 8 rfl rfl)
theorem dL_law_2178 : decode cL_law 2178 = .ok (.aload_n 0, 1) := dk_42 (dk_at dksL_law_88 9 rfl rfl)
theorem dL_law_2179 : decode cL_law 2179 = .ok (.iload 4, 2) := dk_21 4 (dk_at dksL_law_88 10 rfl rfl)
theorem dL_law_2181 : decode cL_law 2181 = .ok (.iconst 1, 1) := dk_4 (dk_at dksL_law_88 12 rfl rfl)
theorem dL_law_2182 : decode cL_law 2182 = .ok (.iadd, 1) := dk_96 (dk_at dksL_law_88 13 rfl rfl)
theorem dL_law_2183 : decode cL_law 2183 = .ok (.iaload, 1) := dk_46 (dk_at dksL_law_88 14 rfl rfl)
theorem dL_law_2184 : decode cL_law 2184 = .ok (.aload_n 3, 1) := dk_45 (dk_at dksL_law_88 15 rfl rfl)
theorem dL_law_2185 : decode cL_law 2185 = .ok (.invokestatic 226, 3) := dk_184 0 226 (dk_at dksL_law_88 16 rfl rfl)
theorem dL_law_2188 : decode cL_law 2188 = .ok (.istore 5, 2) := dk_54 5 (dk_at dksL_law_88 19 rfl rfl)
theorem dL_law_2190 : decode cL_law 2190 = .ok (.aload_n 2, 1) := dk_44 (dk_at dksL_law_88 21 rfl rfl)
theorem dL_law_2191 : decode cL_law 2191 = .ok (.aload_n 0, 1) := dk_42 (dk_at dksL_law_88 22 rfl rfl)
theorem dL_law_2192 : decode cL_law 2192 = .ok (.iload 4, 2) := dk_21 4 (dk_at dksL_law_89 0 rfl rfl)
theorem dL_law_2194 : decode cL_law 2194 = .ok (.iconst 1, 1) := dk_4 (dk_at dksL_law_89 2 rfl rfl)
theorem dL_law_2195 : decode cL_law 2195 = .ok (.iadd, 1) := dk_96 (dk_at dksL_law_89 3 rfl rfl)
theorem dL_law_2196 : decode cL_law 2196 = .ok (.iaload, 1) := dk_46 (dk_at dksL_law_89 4 rfl rfl)
theorem dL_law_2197 : decode cL_law 2197 = .ok (.invokevirtual 228, 3) := dk_182 0 228 (dk_at dksL_law_89 5 rfl rfl)
theorem dL_law_2200 : decode cL_law 2200 = .ok (.istore 6, 2) := dk_54 6 (dk_at dksL_law_89 8 rfl rfl)
theorem dL_law_2202 : decode cL_law 2202 = .ok (.aload_n 2, 1) := dk_44 (dk_at dksL_law_89 10 rfl rfl)
theorem dL_law_2203 : decode cL_law 2203 = .ok (.invokevirtual 128, 3) := dk_182 0 128 (dk_at dksL_law_89 11 rfl rfl)
theorem dL_law_2206 : decode cL_law 2206 = .ok (.iload 5, 2) := dk_21 5 (dk_at dksL_law_89 14 rfl rfl)
theorem dL_law_2208 : decode cL_law 2208 = .ok (.if_icmp .eq 5, 3) := dk_159 0 5 (dk_at dksL_law_89 16 rfl rfl)
theorem dL_law_2211 : decode cL_law 2211 = .ok (.iconst 0, 1) := dk_3 (dk_at dksL_law_89 19 rfl rfl)
theorem dL_law_2212 : decode cL_law 2212 = .ok (.ireturn, 1) := dk_172 (dk_at dksL_law_89 20 rfl rfl)
theorem dL_law_2213 : decode cL_law 2213 = .ok (.iload 5, 2) := dk_21 5 (dk_at dksL_law_89 21 rfl rfl)
theorem dL_law_2215 : decode cL_law 2215 = .ok (.ifCond .ne 15, 3) := dk_154 0 15 (dk_at dksL_law_90 0 rfl rfl)
theorem dL_law_2218 : decode cL_law 2218 = .ok (.aload_n 3, 1) := dk_45 (dk_at dksL_law_90 3 rfl rfl)
theorem dL_law_2219 : decode cL_law 2219 = .ok (.iconst 0, 1) := dk_3 (dk_at dksL_law_90 4 rfl rfl)
theorem dL_law_2220 : decode cL_law 2220 = .ok (.laload, 1) := dk_47 (dk_at dksL_law_90 5 rfl rfl)
theorem dL_law_2221 : decode cL_law 2221 = .ok (.iload 6, 2) := dk_21 6 (dk_at dksL_law_90 6 rfl rfl)
theorem dL_law_2223 : decode cL_law 2223 = .ok (.i2l, 1) := dk_133 (dk_at dksL_law_90 8 rfl rfl)
theorem dL_law_2224 : decode cL_law 2224 = .ok (.lcmp, 1) := dk_148 (dk_at dksL_law_90 9 rfl rfl)
theorem dL_law_2225 : decode cL_law 2225 = .ok (.ifCond .eq 5, 3) := dk_153 0 5 (dk_at dksL_law_90 10 rfl rfl)
theorem dL_law_2228 : decode cL_law 2228 = .ok (.iconst 0, 1) := dk_3 (dk_at dksL_law_90 13 rfl rfl)
theorem dL_law_2229 : decode cL_law 2229 = .ok (.ireturn, 1) := dk_172 (dk_at dksL_law_90 14 rfl rfl)
theorem dL_law_2230 : decode cL_law 2230 = .ok (.goto 141, 3) := dk_167 0 141 (dk_at dksL_law_90 15 rfl rfl)
theorem dL_law_2233 : decode cL_law 2233 = .ok (.aload_n 1, 1) := dk_43 (dk_at dksL_law_90 18 rfl rfl)
theorem dL_law_2234 : decode cL_law 2234 = .ok (.aload_n 0, 1) := dk_42 (dk_at dksL_law_90 19 rfl rfl)
theorem dL_law_2235 : decode cL_law 2235 = .ok (.iload 4, 2) := dk_21 4 (dk_at dksL_law_90 20 rfl rfl)
theorem dL_law_2237 : decode cL_law 2237 = .ok (.iconst 1, 1) := dk_4 (dk_at dksL_law_90 22 rfl rfl)
theorem dL_law_2238 : decode cL_law 2238 = .ok (.iadd, 1) := dk_96 (dk_at dksL_law_90 23 rfl rfl)
theorem dL_law_2239 : decode cL_law 2239 = .ok (.iaload, 1) := dk_46 (dk_at dksL_law_91 0 rfl rfl)
theorem dL_law_2240 : decode cL_law 2240 = .ok (.aload_n 3, 1) := dk_45 (dk_at dksL_law_91 1 rfl rfl)
theorem dL_law_2241 : decode cL_law 2241 = .ok (.invokestatic 229, 3) := dk_184 0 229 (dk_at dksL_law_91 2 rfl rfl)
theorem dL_law_2244 : decode cL_law 2244 = .ok (.istore 5, 2) := dk_54 5 (dk_at dksL_law_91 5 rfl rfl)
theorem dL_law_2246 : decode cL_law 2246 = .ok (.aload_n 2, 1) := dk_44 (dk_at dksL_law_91 7 rfl rfl)
theorem dL_law_2247 : decode cL_law 2247 = .ok (.aload_n 0, 1) := dk_42 (dk_at dksL_law_91 8 rfl rfl)
theorem dL_law_2248 : decode cL_law 2248 = .ok (.iload 4, 2) := dk_21 4 (dk_at dksL_law_91 9 rfl rfl)
theorem dL_law_2250 : decode cL_law 2250 = .ok (.iconst 1, 1) := dk_4 (dk_at dksL_law_91 11 rfl rfl)
theorem dL_law_2251 : decode cL_law 2251 = .ok (.iadd, 1) := dk_96 (dk_at dksL_law_91 12 rfl rfl)
theorem dL_law_2252 : decode cL_law 2252 = .ok (.iaload, 1) := dk_46 (dk_at dksL_law_91 13 rfl rfl)
theorem dL_law_2253 : decode cL_law 2253 = .ok (.invokevirtual 231, 3) := dk_182 0 231 (dk_at dksL_law_91 14 rfl rfl)
theorem dL_law_2256 : decode cL_law 2256 = .ok (.istore 6, 2) := dk_54 6 (dk_at dksL_law_91 17 rfl rfl)
theorem dL_law_2258 : decode cL_law 2258 = .ok (.aload_n 2, 1) := dk_44 (dk_at dksL_law_91 19 rfl rfl)
theorem dL_law_2259 : decode cL_law 2259 = .ok (.invokevirtual 128, 3) := dk_182 0 128 (dk_at dksL_law_91 20 rfl rfl)
theorem dL_law_2262 : decode cL_law 2262 = .ok (.iload 5, 2) := dk_21 5 (dk_at dksL_law_92 0 rfl rfl)
theorem dL_law_2264 : decode cL_law 2264 = .ok (.if_icmp .eq 5, 3) := dk_159 0 5 (dk_at dksL_law_92 2 rfl rfl)
theorem dL_law_2267 : decode cL_law 2267 = .ok (.iconst 0, 1) := dk_3 (dk_at dksL_law_92 5 rfl rfl)
theorem dL_law_2268 : decode cL_law 2268 = .ok (.ireturn, 1) := dk_172 (dk_at dksL_law_92 6 rfl rfl)
theorem dL_law_2269 : decode cL_law 2269 = .ok (.iload 5, 2) := dk_21 5 (dk_at dksL_law_92 7 rfl rfl)
theorem dL_law_2271 : decode cL_law 2271 = .ok (.ifCond .ne 15, 3) := dk_154 0 15 (dk_at dksL_law_92 9 rfl rfl)
theorem dL_law_2274 : decode cL_law 2274 = .ok (.aload_n 3, 1) := dk_45 (dk_at dksL_law_92 12 rfl rfl)
theorem dL_law_2275 : decode cL_law 2275 = .ok (.iconst 0, 1) := dk_3 (dk_at dksL_law_92 13 rfl rfl)
theorem dL_law_2276 : decode cL_law 2276 = .ok (.laload, 1) := dk_47 (dk_at dksL_law_92 14 rfl rfl)
theorem dL_law_2277 : decode cL_law 2277 = .ok (.iload 6, 2) := dk_21 6 (dk_at dksL_law_92 15 rfl rfl)
theorem dL_law_2279 : decode cL_law 2279 = .ok (.i2l, 1) := dk_133 (dk_at dksL_law_92 17 rfl rfl)
theorem dL_law_2280 : decode cL_law 2280 = .ok (.lcmp, 1) := dk_148 (dk_at dksL_law_92 18 rfl rfl)
theorem dL_law_2281 : decode cL_law 2281 = .ok (.ifCond .eq 5, 3) := dk_153 0 5 (dk_at dksL_law_92 19 rfl rfl)
theorem dL_law_2284 : decode cL_law 2284 = .ok (.iconst 0, 1) := dk_3 (dk_at dksL_law_92 22 rfl rfl)
theorem dL_law_2285 : decode cL_law 2285 = .ok (.ireturn, 1) := dk_172 (dk_at dksL_law_92 23 rfl rfl)
theorem dL_law_2286 : decode cL_law 2286 = .ok (.goto 85, 3) := dk_167 0 85 (dk_at dksL_law_93 0 rfl rfl)
theorem dL_law_2289 : decode cL_law 2289 = .ok (.aload_n 1, 1) := dk_43 (dk_at dksL_law_93 3 rfl rfl)
theorem dL_law_2290 : decode cL_law 2290 = .ok (.aload_n 0, 1) := dk_42 (dk_at dksL_law_93 4 rfl rfl)
theorem dL_law_2291 : decode cL_law 2291 = .ok (.iload 4, 2) := dk_21 4 (dk_at dksL_law_93 5 rfl rfl)
theorem dL_law_2293 : decode cL_law 2293 = .ok (.iconst 1, 1) := dk_4 (dk_at dksL_law_93 7 rfl rfl)
theorem dL_law_2294 : decode cL_law 2294 = .ok (.iadd, 1) := dk_96 (dk_at dksL_law_93 8 rfl rfl)
theorem dL_law_2295 : decode cL_law 2295 = .ok (.iaload, 1) := dk_46 (dk_at dksL_law_93 9 rfl rfl)
theorem dL_law_2296 : decode cL_law 2296 = .ok (.aload_n 0, 1) := dk_42 (dk_at dksL_law_93 10 rfl rfl)
theorem dL_law_2297 : decode cL_law 2297 = .ok (.iload 4, 2) := dk_21 4 (dk_at dksL_law_93 11 rfl rfl)
theorem dL_law_2299 : decode cL_law 2299 = .ok (.iconst 2, 1) := dk_5 (dk_at dksL_law_93 13 rfl rfl)
theorem dL_law_2300 : decode cL_law 2300 = .ok (.iadd, 1) := dk_96 (dk_at dksL_law_93 14 rfl rfl)
theorem dL_law_2301 : decode cL_law 2301 = .ok (.iaload, 1) := dk_46 (dk_at dksL_law_93 15 rfl rfl)
theorem dL_law_2302 : decode cL_law 2302 = .ok (.aload_n 3, 1) := dk_45 (dk_at dksL_law_93 16 rfl rfl)
theorem dL_law_2303 : decode cL_law 2303 = .ok (.invokestatic 232, 3) := dk_184 0 232 (dk_at dksL_law_93 17 rfl rfl)
theorem dL_law_2306 : decode cL_law 2306 = .ok (.istore 5, 2) := dk_54 5 (dk_at dksL_law_93 20 rfl rfl)
theorem dL_law_2308 : decode cL_law 2308 = .ok (.aload_n 2, 1) := dk_44 (dk_at dksL_law_93 22 rfl rfl)
theorem dL_law_2309 : decode cL_law 2309 = .ok (.aload_n 0, 1) := dk_42 (dk_at dksL_law_93 23 rfl rfl)
theorem dL_law_2310 : decode cL_law 2310 = .ok (.iload 4, 2) := dk_21 4 (dk_at dksL_law_94 0 rfl rfl)
theorem dL_law_2312 : decode cL_law 2312 = .ok (.iconst 1, 1) := dk_4 (dk_at dksL_law_94 2 rfl rfl)
theorem dL_law_2313 : decode cL_law 2313 = .ok (.iadd, 1) := dk_96 (dk_at dksL_law_94 3 rfl rfl)
theorem dL_law_2314 : decode cL_law 2314 = .ok (.iaload, 1) := dk_46 (dk_at dksL_law_94 4 rfl rfl)
theorem dL_law_2315 : decode cL_law 2315 = .ok (.aload_n 0, 1) := dk_42 (dk_at dksL_law_94 5 rfl rfl)
theorem dL_law_2316 : decode cL_law 2316 = .ok (.iload 4, 2) := dk_21 4 (dk_at dksL_law_94 6 rfl rfl)
theorem dL_law_2318 : decode cL_law 2318 = .ok (.iconst 2, 1) := dk_5 (dk_at dksL_law_94 8 rfl rfl)
theorem dL_law_2319 : decode cL_law 2319 = .ok (.iadd, 1) := dk_96 (dk_at dksL_law_94 9 rfl rfl)
theorem dL_law_2320 : decode cL_law 2320 = .ok (.iaload, 1) := dk_46 (dk_at dksL_law_94 10 rfl rfl)
theorem dL_law_2321 : decode cL_law 2321 = .ok (.invokevirtual 234, 3) := dk_182 0 234 (dk_at dksL_law_94 11 rfl rfl)
theorem dL_law_2324 : decode cL_law 2324 = .ok (.istore 6, 2) := dk_54 6 (dk_at dksL_law_94 14 rfl rfl)
theorem dL_law_2326 : decode cL_law 2326 = .ok (.aload_n 2, 1) := dk_44 (dk_at dksL_law_94 16 rfl rfl)
theorem dL_law_2327 : decode cL_law 2327 = .ok (.invokevirtual 128, 3) := dk_182 0 128 (dk_at dksL_law_94 17 rfl rfl)
theorem dL_law_2330 : decode cL_law 2330 = .ok (.iload 5, 2) := dk_21 5 (dk_at dksL_law_94 20 rfl rfl)
theorem dL_law_2332 : decode cL_law 2332 = .ok (.if_icmp .eq 5, 3) := dk_159 0 5 (dk_at dksL_law_95 0 rfl rfl)
theorem dL_law_2335 : decode cL_law 2335 = .ok (.iconst 0, 1) := dk_3 (dk_at dksL_law_95 3 rfl rfl)
theorem dL_law_2336 : decode cL_law 2336 = .ok (.ireturn, 1) := dk_172 (dk_at dksL_law_95 4 rfl rfl)
theorem dL_law_2337 : decode cL_law 2337 = .ok (.iload 5, 2) := dk_21 5 (dk_at dksL_law_95 5 rfl rfl)
theorem dL_law_2339 : decode cL_law 2339 = .ok (.ifCond .ne 15, 3) := dk_154 0 15 (dk_at dksL_law_95 7 rfl rfl)
theorem dL_law_2342 : decode cL_law 2342 = .ok (.aload_n 3, 1) := dk_45 (dk_at dksL_law_95 10 rfl rfl)
theorem dL_law_2343 : decode cL_law 2343 = .ok (.iconst 0, 1) := dk_3 (dk_at dksL_law_95 11 rfl rfl)
theorem dL_law_2344 : decode cL_law 2344 = .ok (.laload, 1) := dk_47 (dk_at dksL_law_95 12 rfl rfl)
theorem dL_law_2345 : decode cL_law 2345 = .ok (.iload 6, 2) := dk_21 6 (dk_at dksL_law_95 13 rfl rfl)
theorem dL_law_2347 : decode cL_law 2347 = .ok (.i2l, 1) := dk_133 (dk_at dksL_law_95 15 rfl rfl)
theorem dL_law_2348 : decode cL_law 2348 = .ok (.lcmp, 1) := dk_148 (dk_at dksL_law_95 16 rfl rfl)
theorem dL_law_2349 : decode cL_law 2349 = .ok (.ifCond .eq 5, 3) := dk_153 0 5 (dk_at dksL_law_95 17 rfl rfl)
theorem dL_law_2352 : decode cL_law 2352 = .ok (.iconst 0, 1) := dk_3 (dk_at dksL_law_95 20 rfl rfl)
theorem dL_law_2353 : decode cL_law 2353 = .ok (.ireturn, 1) := dk_172 (dk_at dksL_law_95 21 rfl rfl)
theorem dL_law_2354 : decode cL_law 2354 = .ok (.goto 17, 3) := dk_167 0 17 (dk_at dksL_law_96 0 rfl rfl)
theorem dL_law_2357 : decode cL_law 2357 = .ok (.aload_n 1, 1) := dk_43 (dk_at dksL_law_96 3 rfl rfl)
theorem dL_law_2358 : decode cL_law 2358 = .ok (.invokevirtual 235, 3) := dk_182 0 235 (dk_at dksL_law_96 4 rfl rfl)
theorem dL_law_2361 : decode cL_law 2361 = .ok (.aload_n 2, 1) := dk_44 (dk_at dksL_law_96 7 rfl rfl)
theorem dL_law_2362 : decode cL_law 2362 = .ok (.invokevirtual 239, 3) := dk_182 0 239 (dk_at dksL_law_96 8 rfl rfl)
theorem dL_law_2365 : decode cL_law 2365 = .ok (.lcmp, 1) := dk_148 (dk_at dksL_law_96 11 rfl rfl)
theorem dL_law_2366 : decode cL_law 2366 = .ok (.ifCond .eq 5, 3) := dk_153 0 5 (dk_at dksL_law_96 12 rfl rfl)
theorem dL_law_2369 : decode cL_law 2369 = .ok (.iconst 0, 1) := dk_3 (dk_at dksL_law_96 15 rfl rfl)
theorem dL_law_2370 : decode cL_law 2370 = .ok (.ireturn, 1) := dk_172 (dk_at dksL_law_96 16 rfl rfl)
theorem dL_law_2371 : decode cL_law 2371 = .ok (.iinc 4 8, 3) := dk_132 4 8 (dk_at dksL_law_96 17 rfl rfl)
theorem dL_law_2374 : decode cL_law 2374 = .ok (.goto (-2351), 3) := dk_167 246 209 (dk_at dksL_law_96 20 rfl rfl)
theorem dL_law_2377 : decode cL_law 2377 = .ok (.iconst 1, 1) := dk_4 (dk_at dksL_law_96 23 rfl rfl)
theorem dL_law_2378 : decode cL_law 2378 = .ok (.ireturn, 1) := dk_172 (dk_at dksL_law_97 0 rfl rfl)
