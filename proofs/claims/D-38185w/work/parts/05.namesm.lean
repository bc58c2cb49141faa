/-! BloomclockModel$Buyer -/
set_option maxRecDepth 100000
def RX11 : String := "BloomclockModel$Buyer"
def TX11 : u_T := fun k => match k with
  | 0 => ("BloomclockModel$Buyer", "latency", "I", true)
  | 1 => ("BloomclockModel$Buyer", "coins", "I", false)
  | 2 => ("BloomclockModel$Buyer", "evened", "I", false)
  | 3 => ("BloomclockModel$Buyer", "leaves", "I", false)
  | 4 => ("BloomclockModel$Buyer", "stock", "[I", true)
  | 5 => ("BloomclockModel$Buyer", "buckets", "I", false)
  | _ => ("BloomclockModel$Buyer", "bound", "I", false)
def tyX11 : Nat → FieldType := fun k => match k with
  | 0 => .int
  | 1 => .int
  | 2 => .int
  | 3 => .int
  | 4 => .array .int
  | 5 => .int
  | _ => .int
abbrev wsX110 : List Cond := u_ws RX11 TX11 7
theorem nmX11 : ∀ a, a < 7 → ∀ b, b < 7 → a ≠ b → (TX11 a).2.1 ≠ (TX11 b).2.1 := by decide +kernel
theorem tyX11_ok : ∀ k, k < 7 → parseFieldDescriptor (TX11 k).2.2.1 = some (tyX11 k) := by decide +kernel
abbrev cX11_init : ByteArray := prog_14_method_1_code
def yX11_init : MethodName := ⟨RX11, "<init>", "(I)V"⟩
def dkwX11_init_1 : List UInt8 := [27, 181, 0, 22, 177]
abbrev dktX11_init_1 : List UInt8 := dkwX11_init_1 ++ []
def dkwX11_init_0 : List UInt8 := [42, 183, 0, 3, 42, 17, 7, 208, 181, 0, 9, 42, 2, 181, 0, 15, 42, 6, 188, 10, 181, 0, 18, 42]
abbrev dktX11_init_0 : List UInt8 := dkwX11_init_0 ++ dktX11_init_1
theorem dksX11_init_0 : cX11_init.data.toList.drop 0 = dktX11_init_0 := by decide +kernel
theorem dksX11_init_1 : cX11_init.data.toList.drop 24 = dktX11_init_1 := dk_seg dksX11_init_0 24 rfl rfl
theorem dX11_init_0 : decode cX11_init 0 = .ok (.aload_n 0, 1) := dk_42 (dk_at dksX11_init_0 0 rfl rfl)
theorem dX11_init_1 : decode cX11_init 1 = .ok (.invokespecial 3, 3) := dk_183 0 3 (dk_at dksX11_init_0 1 rfl rfl)
theorem dX11_init_4 : decode cX11_init 4 = .ok (.aload_n 0, 1) := dk_42 (dk_at dksX11_init_0 4 rfl rfl)
theorem dX11_init_5 : decode cX11_init 5 = .ok (.sipush 2000, 3) := dk_17 7 208 (dk_at dksX11_init_0 5 rfl rfl)
theorem dX11_init_8 : decode cX11_init 8 = .ok (.putfield 9, 3) := dk_181 0 9 (dk_at dksX11_init_0 8 rfl rfl)
theorem dX11_init_11 : decode cX11_init 11 = .ok (.aload_n 0, 1) := dk_42 (dk_at dksX11_init_0 11 rfl rfl)
theorem dX11_init_12 : decode cX11_init 12 = .ok (.iconst (-1), 1) := dk_2 (dk_at dksX11_init_0 12 rfl rfl)
theorem dX11_init_13 : decode cX11_init 13 = .ok (.putfield 15, 3) := dk_181 0 15 (dk_at dksX11_init_0 13 rfl rfl)
theorem dX11_init_16 : decode cX11_init 16 = .ok (.aload_n 0, 1) := dk_42 (dk_at dksX11_init_0 16 rfl rfl)
theorem dX11_init_17 : decode cX11_init 17 = .ok (.iconst 3, 1) := dk_6 (dk_at dksX11_init_0 17 rfl rfl)
theorem dX11_init_18 : decode cX11_init 18 = .ok (.newarray .int, 2) := dk_188_10 (dk_at dksX11_init_0 18 rfl rfl)
theorem dX11_init_20 : decode cX11_init 20 = .ok (.putfield 18, 3) := dk_181 0 18 (dk_at dksX11_init_0 20 rfl rfl)
theorem dX11_init_23 : decode cX11_init 23 = .ok (.aload_n 0, 1) := dk_42 (dk_at dksX11_init_0 23 rfl rfl)
theorem dX11_init_24 : decode cX11_init 24 = .ok (.iload_n 1, 1) := dk_27 (dk_at dksX11_init_1 0 rfl rfl)
theorem dX11_init_25 : decode cX11_init 25 = .ok (.putfield 22, 3) := dk_181 0 22 (dk_at dksX11_init_1 1 rfl rfl)
theorem dX11_init_28 : decode cX11_init 28 = .ok (.return_, 1) := dk_177 (dk_at dksX11_init_1 4 rfl rfl)
abbrev cX11_late : ByteArray := prog_14_method_2_code
def yX11_late : MethodName := ⟨RX11, "late", "()I"⟩
def dkwX11_late_0 : List UInt8 := [3, 42, 180, 0, 22, 42, 180, 0, 25, 100, 184, 0, 28, 172]
abbrev dktX11_late_0 : List UInt8 := dkwX11_late_0 ++ []
theorem dksX11_late_0 : cX11_late.data.toList.drop 0 = dktX11_late_0 := by decide +kernel
theorem dX11_late_0 : decode cX11_late 0 = .ok (.iconst 0, 1) := dk_3 (dk_at dksX11_late_0 0 rfl rfl)
theorem dX11_late_1 : decode cX11_late 1 = .ok (.aload_n 0, 1) := dk_42 (dk_at dksX11_late_0 1 rfl rfl)
theorem dX11_late_2 : decode cX11_late 2 = .ok (.getfield 22, 3) := dk_180 0 22 (dk_at dksX11_late_0 2 rfl rfl)
theorem dX11_late_5 : decode cX11_late 5 = .ok (.aload_n 0, 1) := dk_42 (dk_at dksX11_late_0 5 rfl rfl)
theorem dX11_late_6 : decode cX11_late 6 = .ok (.getfield 25, 3) := dk_180 0 25 (dk_at dksX11_late_0 6 rfl rfl)
theorem dX11_late_9 : decode cX11_late 9 = .ok (.isub, 1) := dk_100 (dk_at dksX11_late_0 9 rfl rfl)
theorem dX11_late_10 : decode cX11_late 10 = .ok (.invokestatic 28, 3) := dk_184 0 28 (dk_at dksX11_late_0 10 rfl rfl)
theorem dX11_late_13 : decode cX11_late 13 = .ok (.ireturn, 1) := dk_172 (dk_at dksX11_late_0 13 rfl rfl)
abbrev cX11_bind : ByteArray := prog_14_method_3_code
def yX11_bind : MethodName := ⟨RX11, "bind", "()Z"⟩
def dkwX11_bind_3 : List UInt8 := [5, 92, 46, 28, 100, 79, 42, 89, 180, 0, 37, 4, 96, 181, 0, 37, 4, 172]
abbrev dktX11_bind_3 : List UInt8 := dkwX11_bind_3 ++ []
def dkwX11_bind_2 : List UInt8 := [42, 180, 0, 18, 3, 92, 46, 29, 100, 79, 42, 180, 0, 18, 4, 92, 46, 27, 100, 79, 42, 180, 0, 18]
abbrev dktX11_bind_2 : List UInt8 := dkwX11_bind_2 ++ dktX11_bind_3
def dkwX11_bind_1 : List UInt8 := [5, 27, 100, 104, 96, 5, 4, 28, 100, 104, 96, 62, 42, 180, 0, 18, 3, 46, 29, 162, 0, 5, 3, 172]
abbrev dktX11_bind_1 : List UInt8 := dkwX11_bind_1 ++ dktX11_bind_2
def dkwX11_bind_0 : List UInt8 := [5, 42, 180, 0, 18, 4, 46, 184, 0, 34, 60, 4, 42, 180, 0, 18, 5, 46, 184, 0, 34, 61, 6, 5]
abbrev dktX11_bind_0 : List UInt8 := dkwX11_bind_0 ++ dktX11_bind_1
theorem dksX11_bind_0 : cX11_bind.data.toList.drop 0 = dktX11_bind_0 := by decide +kernel
theorem dksX11_bind_1 : cX11_bind.data.toList.drop 24 = dktX11_bind_1 := dk_seg dksX11_bind_0 24 rfl rfl
theorem dksX11_bind_2 : cX11_bind.data.toList.drop 48 = dktX11_bind_2 := dk_seg dksX11_bind_1 24 rfl rfl
theorem dksX11_bind_3 : cX11_bind.data.toList.drop 72 = dktX11_bind_3 := dk_seg dksX11_bind_2 24 rfl rfl
theorem dX11_bind_0 : decode cX11_bind 0 = .ok (.iconst 2, 1) := dk_5 (dk_at dksX11_bind_0 0 rfl rfl)
theorem dX11_bind_1 : decode cX11_bind 1 = .ok (.aload_n 0, 1) := dk_42 (dk_at dksX11_bind_0 1 rfl rfl)
theorem dX11_bind_2 : decode cX11_bind 2 = .ok (.getfield 18, 3) := dk_180 0 18 (dk_at dksX11_bind_0 2 rfl rfl)
theorem dX11_bind_5 : decode cX11_bind 5 = .ok (.iconst 1, 1) := dk_4 (dk_at dksX11_bind_0 5 rfl rfl)
theorem dX11_bind_6 : decode cX11_bind 6 = .ok (.iaload, 1) := dk_46 (dk_at dksX11_bind_0 6 rfl rfl)
theorem dX11_bind_7 : decode cX11_bind 7 = .ok (.invokestatic 34, 3) := dk_184 0 34 (dk_at dksX11_bind_0 7 rfl rfl)
theorem dX11_bind_10 : decode cX11_bind 10 = .ok (.istore_n 1, 1) := dk_60 (dk_at dksX11_bind_0 10 rfl rfl)
theorem dX11_bind_11 : decode cX11_bind 11 = .ok (.iconst 1, 1) := dk_4 (dk_at dksX11_bind_0 11 rfl rfl)
theorem dX11_bind_12 : decode cX11_bind 12 = .ok (.aload_n 0, 1) := dk_42 (dk_at dksX11_bind_0 12 rfl rfl)
theorem dX11_bind_13 : decode cX11_bind 13 = .ok (.getfield 18, 3) := dk_180 0 18 (dk_at dksX11_bind_0 13 rfl rfl)
theorem dX11_bind_16 : decode cX11_bind 16 = .ok (.iconst 2, 1) := dk_5 (dk_at dksX11_bind_0 16 rfl rfl)
theorem dX11_bind_17 : decode cX11_bind 17 = .ok (.iaload, 1) := dk_46 (dk_at dksX11_bind_0 17 rfl rfl)
theorem dX11_bind_18 : decode cX11_bind 18 = .ok (.invokestatic 34, 3) := dk_184 0 34 (dk_at dksX11_bind_0 18 rfl rfl)
theorem dX11_bind_21 : decode cX11_bind 21 = .ok (.istore_n 2, 1) := dk_61 (dk_at dksX11_bind_0 21 rfl rfl)
theorem dX11_bind_22 : decode cX11_bind 22 = .ok (.iconst 3, 1) := dk_6 (dk_at dksX11_bind_0 22 rfl rfl)
theorem dX11_bind_23 : decode cX11_bind 23 = .ok (.iconst 2, 1) := dk_5 (dk_at dksX11_bind_0 23 rfl rfl)
theorem dX11_bind_24 : decode cX11_bind 24 = .ok (.iconst 2, 1) := dk_5 (dk_at dksX11_bind_1 0 rfl rfl)
theorem dX11_bind_25 : decode cX11_bind 25 = .ok (.iload_n 1, 1) := dk_27 (dk_at dksX11_bind_1 1 rfl rfl)
theorem dX11_bind_26 : decode cX11_bind 26 = .ok (.isub, 1) := dk_100 (dk_at dksX11_bind_1 2 rfl rfl)
theorem dX11_bind_27 : decode cX11_bind 27 = .ok (.imul, 1) := dk_104 (dk_at dksX11_bind_1 3 rfl rfl)
theorem dX11_bind_28 : decode cX11_bind 28 = .ok (.iadd, 1) := dk_96 (dk_at dksX11_bind_1 4 rfl rfl)
theorem dX11_bind_29 : decode cX11_bind 29 = .ok (.iconst 2, 1) := dk_5 (dk_at dksX11_bind_1 5 rfl rfl)
theorem dX11_bind_30 : decode cX11_bind 30 = .ok (.iconst 1, 1) := dk_4 (dk_at dksX11_bind_1 6 rfl rfl)
theorem dX11_bind_31 : decode cX11_bind 31 = .ok (.iload_n 2, 1) := dk_28 (dk_at dksX11_bind_1 7 rfl rfl)
theorem dX11_bind_32 : decode cX11_bind 32 = .ok (.isub, 1) := dk_100 (dk_at dksX11_bind_1 8 rfl rfl)
theorem dX11_bind_33 : decode cX11_bind 33 = .ok (.imul, 1) := dk_104 (dk_at dksX11_bind_1 9 rfl rfl)
theorem dX11_bind_34 : decode cX11_bind 34 = .ok (.iadd, 1) := dk_96 (dk_at dksX11_bind_1 10 rfl rfl)
theorem dX11_bind_35 : decode cX11_bind 35 = .ok (.istore_n 3, 1) := dk_62 (dk_at dksX11_bind_1 11 rfl rfl)
theorem dX11_bind_36 : decode cX11_bind 36 = .ok (.aload_n 0, 1) := dk_42 (dk_at dksX11_bind_1 12 rfl rfl)
theorem dX11_bind_37 : decode cX11_bind 37 = .ok (.getfield 18, 3) := dk_180 0 18 (dk_at dksX11_bind_1 13 rfl rfl)
theorem dX11_bind_40 : decode cX11_bind 40 = .ok (.iconst 0, 1) := dk_3 (dk_at dksX11_bind_1 16 rfl rfl)
theorem dX11_bind_41 : decode cX11_bind 41 = .ok (.iaload, 1) := dk_46 (dk_at dksX11_bind_1 17 rfl rfl)
theorem dX11_bind_42 : decode cX11_bind 42 = .ok (.iload_n 3, 1) := dk_29 (dk_at dksX11_bind_1 18 rfl rfl)
theorem dX11_bind_43 : decode cX11_bind 43 = .ok (.if_icmp .ge 5, 3) := dk_162 0 5 (dk_at dksX11_bind_1 19 rfl rfl)
theorem dX11_bind_46 : decode cX11_bind 46 = .ok (.iconst 0, 1) := dk_3 (dk_at dksX11_bind_1 22 rfl rfl)
theorem dX11_bind_47 : decode cX11_bind 47 = .ok (.ireturn, 1) := dk_172 (dk_at dksX11_bind_1 23 rfl rfl)
theorem dX11_bind_48 : decode cX11_bind 48 = .ok (.aload_n 0, 1) := dk_42 (dk_at dksX11_bind_2 0 rfl rfl)
theorem dX11_bind_49 : decode cX11_bind 49 = .ok (.getfield 18, 3) := dk_180 0 18 (dk_at dksX11_bind_2 1 rfl rfl)
theorem dX11_bind_52 : decode cX11_bind 52 = .ok (.iconst 0, 1) := dk_3 (dk_at dksX11_bind_2 4 rfl rfl)
theorem dX11_bind_53 : decode cX11_bind 53 = .ok (.dup2, 1) := dk_92 (dk_at dksX11_bind_2 5 rfl rfl)
theorem dX11_bind_54 : decode cX11_bind 54 = .ok (.iaload, 1) := dk_46 (dk_at dksX11_bind_2 6 rfl rfl)
theorem dX11_bind_55 : decode cX11_bind 55 = .ok (.iload_n 3, 1) := dk_29 (dk_at dksX11_bind_2 7 rfl rfl)
theorem dX11_bind_56 : decode cX11_bind 56 = .ok (.isub, 1) := dk_100 (dk_at dksX11_bind_2 8 rfl rfl)
theorem dX11_bind_57 : decode cX11_bind 57 = .ok (.iastore, 1) := dk_79 (dk_at dksX11_bind_2 9 rfl rfl)
theorem dX11_bind_58 : decode cX11_bind 58 = .ok (.aload_n 0, 1) := dk_42 (dk_at dksX11_bind_2 10 rfl rfl)
theorem dX11_bind_59 : decode cX11_bind 59 = .ok (.getfield 18, 3) := dk_180 0 18 (dk_at dksX11_bind_2 11 rfl rfl)
theorem dX11_bind_62 : decode cX11_bind 62 = .ok (.iconst 1, 1) := dk_4 (dk_at dksX11_bind_2 14 rfl rfl)
theorem dX11_bind_63 : decode cX11_bind 63 = .ok (.dup2, 1) := dk_92 (dk_at dksX11_bind_2 15 rfl rfl)
theorem dX11_bind_64 : decode cX11_bind 64 = .ok (.iaload, 1) := dk_46 (dk_at dksX11_bind_2 16 rfl rfl)
theorem dX11_bind_65 : decode cX11_bind 65 = .ok (.iload_n 1, 1) := dk_27 (dk_at dksX11_bind_2 17 rfl rfl)
theorem dX11_bind_66 : decode cX11_bind 66 = .ok (.isub, 1) := dk_100 (dk_at dksX11_bind_2 18 rfl rfl)
theorem dX11_bind_67 : decode cX11_bind 67 = .ok (.iastore, 1) := dk_79 (dk_at dksX11_bind_2 19 rfl rfl)
theorem dX11_bind_68 : decode cX11_bind 68 = .ok (.aload_n 0, 1) := dk_42 (dk_at dksX11_bind_2 20 rfl rfl)
theorem dX11_bind_69 : decode cX11_bind 69 = .ok (.getfield 18, 3) := dk_180 0 18 (dk_at dksX11_bind_2 21 rfl rfl)
theorem dX11_bind_72 : decode cX11_bind 72 = .ok (.iconst 2, 1) := dk_5 (dk_at dksX11_bind_3 0 rfl rfl)
theorem dX11_bind_73 : decode cX11_bind 73 = .ok (.dup2, 1) := dk_92 (dk_at dksX11_bind_3 1 rfl rfl)
theorem dX11_bind_74 : decode cX11_bind 74 = .ok (.iaload, 1) := dk_46 (dk_at dksX11_bind_3 2 rfl rfl)
theorem dX11_bind_75 : decode cX11_bind 75 = .ok (.iload_n 2, 1) := dk_28 (dk_at dksX11_bind_3 3 rfl rfl)
theorem dX11_bind_76 : decode cX11_bind 76 = .ok (.isub, 1) := dk_100 (dk_at dksX11_bind_3 4 rfl rfl)
theorem dX11_bind_77 : decode cX11_bind 77 = .ok (.iastore, 1) := dk_79 (dk_at dksX11_bind_3 5 rfl rfl)
theorem dX11_bind_78 : decode cX11_bind 78 = .ok (.aload_n 0, 1) := dk_42 (dk_at dksX11_bind_3 6 rfl rfl)
theorem dX11_bind_79 : decode cX11_bind 79 = .ok (.dup, 1) := dk_89 (dk_at dksX11_bind_3 7 rfl rfl)
theorem dX11_bind_80 : decode cX11_bind 80 = .ok (.getfield 37, 3) := dk_180 0 37 (dk_at dksX11_bind_3 8 rfl rfl)
theorem dX11_bind_83 : decode cX11_bind 83 = .ok (.iconst 1, 1) := dk_4 (dk_at dksX11_bind_3 11 rfl rfl)
theorem dX11_bind_84 : decode cX11_bind 84 = .ok (.iadd, 1) := dk_96 (dk_at dksX11_bind_3 12 rfl rfl)
theorem dX11_bind_85 : decode cX11_bind 85 = .ok (.putfield 37, 3) := dk_181 0 37 (dk_at dksX11_bind_3 13 rfl rfl)
theorem dX11_bind_88 : decode cX11_bind 88 = .ok (.iconst 1, 1) := dk_4 (dk_at dksX11_bind_3 16 rfl rfl)
theorem dX11_bind_89 : decode cX11_bind 89 = .ok (.ireturn, 1) := dk_172 (dk_at dksX11_bind_3 17 rfl rfl)
theorem q89 : (Jvm.Cond.initialized "BloomclockModel$Buyer") ∈ lw_all := lw_g (lw_at lw_m1 34 rfl) rfl
theorem q573 : (Jvm.Cond.selects "BloomclockModel$Buyer" ({ cls := "java/lang/Object", name := "getClass", desc := "()Ljava/lang/Class;" } : Jvm.MethodName) ({ cls := "java/lang/Object", name := "getClass", desc := "()Ljava/lang/Class;" } : Jvm.MethodName)) ∈ lw_all := lw_g (lw_at lw_m3 38 rfl) rfl
theorem q1578 : (Jvm.Cond.instantiable "BloomclockModel$Buyer" (7 : Nat)) ∈ lw_all := lw_g (lw_at lw_m7 83 rfl) rfl
theorem q1580 : (Jvm.Cond.instanceMethod ({ cls := "BloomclockModel$Buyer", name := "<init>", desc := "(I)V" } : Jvm.MethodName)) ∈ lw_all := lw_g (lw_at lw_m7 85 rfl) rfl
theorem q1581 : (Jvm.Cond.code ({ cls := "BloomclockModel$Buyer", name := "<init>", desc := "(I)V" } : Jvm.MethodName) prog_14_method_1_code (2 : Nat) (Option.none : Option Jvm.ClassFile.FieldType)) ∈ lw_all := lw_g (lw_at lw_m7 86 rfl) rfl
theorem q1582 : (Jvm.Cond.methodLink "BloomclockModel$Buyer" (3 : Nat) ({ cls := "java/lang/Object", name := "<init>", desc := "()V" } : Jvm.MethodName)) ∈ lw_all := lw_g (lw_at lw_m7 87 rfl) rfl
theorem q1583 : (Jvm.Cond.fieldLink "BloomclockModel$Buyer" (22 : Nat) "BloomclockModel$Buyer" "latency" "I") ∈ lw_all := lw_g (lw_at lw_m7 88 rfl) rfl
theorem q1585 : (Jvm.Cond.fieldLink "BloomclockModel$Buyer" (9 : Nat) "BloomclockModel$Buyer" "coins" "I") ∈ lw_all := lw_g (lw_at lw_m7 90 rfl) rfl
theorem q1588 : (Jvm.Cond.fieldLink "BloomclockModel$Buyer" (25 : Nat) "BloomclockModel$Buyer" "evened" "I") ∈ lw_all := lw_g (lw_at lw_m7 93 rfl) rfl
theorem q1590 : (Jvm.Cond.fieldLink "BloomclockModel$Buyer" (15 : Nat) "BloomclockModel$Buyer" "leaves" "I") ∈ lw_all := lw_g (lw_at lw_m7 95 rfl) rfl
theorem q1592 : (Jvm.Cond.fieldLink "BloomclockModel$Buyer" (18 : Nat) "BloomclockModel$Buyer" "stock" "[I") ∈ lw_all := lw_g (lw_at lw_m7 97 rfl) rfl
theorem q1595 : (Jvm.Cond.fieldLink "BloomclockModel$Buyer" (37 : Nat) "BloomclockModel$Buyer" "bound" "I") ∈ lw_all := lw_g (lw_at lw_m7 100 rfl) rfl
theorem q1597 : (Jvm.Cond.laysFinal "BloomclockModel$Buyer" "BloomclockModel$Buyer" "latency" "I") ∈ lw_all := lw_g (lw_at lw_m7 102 rfl) rfl
theorem q1598 : (Jvm.Cond.soleField "BloomclockModel$Buyer" "latency") ∈ lw_all := lw_g (lw_at lw_m7 103 rfl) rfl
theorem q1599 : (Jvm.Cond.lays "BloomclockModel$Buyer" "BloomclockModel$Buyer" "coins" "I") ∈ lw_all := lw_g (lw_at lw_m7 104 rfl) rfl
theorem q1600 : (Jvm.Cond.soleField "BloomclockModel$Buyer" "coins") ∈ lw_all := lw_g (lw_at lw_m7 105 rfl) rfl
theorem q1601 : (Jvm.Cond.lays "BloomclockModel$Buyer" "BloomclockModel$Buyer" "evened" "I") ∈ lw_all := lw_g (lw_at lw_m7 106 rfl) rfl
theorem q1602 : (Jvm.Cond.soleField "BloomclockModel$Buyer" "evened") ∈ lw_all := lw_g (lw_at lw_m7 107 rfl) rfl
theorem q1603 : (Jvm.Cond.lays "BloomclockModel$Buyer" "BloomclockModel$Buyer" "leaves" "I") ∈ lw_all := lw_g (lw_at lw_m7 108 rfl) rfl
theorem q1604 : (Jvm.Cond.soleField "BloomclockModel$Buyer" "leaves") ∈ lw_all := lw_g (lw_at lw_m7 109 rfl) rfl
theorem q1605 : (Jvm.Cond.laysFinal "BloomclockModel$Buyer" "BloomclockModel$Buyer" "stock" "[I") ∈ lw_all := lw_g (lw_at lw_m7 110 rfl) rfl
theorem q1606 : (Jvm.Cond.soleField "BloomclockModel$Buyer" "stock") ∈ lw_all := lw_g (lw_at lw_m7 111 rfl) rfl
theorem q1607 : (Jvm.Cond.lays "BloomclockModel$Buyer" "BloomclockModel$Buyer" "buckets" "I") ∈ lw_all := lw_g (lw_at lw_m7 112 rfl) rfl
theorem q1608 : (Jvm.Cond.soleField "BloomclockModel$Buyer" "buckets") ∈ lw_all := lw_g (lw_at lw_m7 113 rfl) rfl
theorem q1609 : (Jvm.Cond.lays "BloomclockModel$Buyer" "BloomclockModel$Buyer" "bound" "I") ∈ lw_all := lw_g (lw_at lw_m7 114 rfl) rfl
theorem q1610 : (Jvm.Cond.soleField "BloomclockModel$Buyer" "bound") ∈ lw_all := lw_g (lw_at lw_m7 115 rfl) rfl
theorem q1611 : (Jvm.Cond.superclass "BloomclockModel$Buyer" "java/lang/Object") ∈ lw_all := lw_g (lw_at lw_m7 116 rfl) rfl
theorem q1746 : (Jvm.Cond.instanceMethod ({ cls := "BloomclockModel$Buyer", name := "late", desc := "()I" } : Jvm.MethodName)) ∈ lw_all := lw_g (lw_at lw_m8 11 rfl) rfl
theorem q1747 : (Jvm.Cond.selects "BloomclockModel$Buyer" ({ cls := "BloomclockModel$Buyer", name := "late", desc := "()I" } : Jvm.MethodName) ({ cls := "BloomclockModel$Buyer", name := "late", desc := "()I" } : Jvm.MethodName)) ∈ lw_all := lw_g (lw_at lw_m8 12 rfl) rfl
theorem q1748 : (Jvm.Cond.code ({ cls := "BloomclockModel$Buyer", name := "late", desc := "()I" } : Jvm.MethodName) prog_14_method_2_code (1 : Nat) (Option.some Jvm.ClassFile.FieldType.int)) ∈ lw_all := lw_g (lw_at lw_m8 13 rfl) rfl
theorem q1749 : (Jvm.Cond.methodLink "BloomclockModel$Buyer" (28 : Nat) ({ cls := "java/lang/Math", name := "max", desc := "(II)I" } : Jvm.MethodName)) ∈ lw_all := lw_g (lw_at lw_m8 14 rfl) rfl
theorem q1877 : (Jvm.Cond.selects "BloomclockModel$Buyer" ({ cls := "java/lang/Object", name := "equals", desc := "(Ljava/lang/Object;)Z" } : Jvm.MethodName) ({ cls := "java/lang/Object", name := "equals", desc := "(Ljava/lang/Object;)Z" } : Jvm.MethodName)) ∈ lw_all := lw_g (lw_at lw_m8 142 rfl) rfl
theorem q1907 : (Jvm.Cond.instanceMethod ({ cls := "BloomclockModel$Buyer", name := "bind", desc := "()Z" } : Jvm.MethodName)) ∈ lw_all := lw_g (lw_at lw_m8 172 rfl) rfl
theorem q1908 : (Jvm.Cond.selects "BloomclockModel$Buyer" ({ cls := "BloomclockModel$Buyer", name := "bind", desc := "()Z" } : Jvm.MethodName) ({ cls := "BloomclockModel$Buyer", name := "bind", desc := "()Z" } : Jvm.MethodName)) ∈ lw_all := lw_g (lw_at lw_m8 173 rfl) rfl
theorem q1909 : (Jvm.Cond.code ({ cls := "BloomclockModel$Buyer", name := "bind", desc := "()Z" } : Jvm.MethodName) prog_14_method_3_code (4 : Nat) (Option.some Jvm.ClassFile.FieldType.boolean)) ∈ lw_all := lw_g (lw_at lw_m8 174 rfl) rfl
theorem q1910 : (Jvm.Cond.methodLink "BloomclockModel$Buyer" (34 : Nat) ({ cls := "java/lang/Math", name := "min", desc := "(II)I" } : Jvm.MethodName)) ∈ lw_all := lw_g (lw_at lw_m8 175 rfl) rfl
theorem q2066 : (Jvm.Cond.castable "BloomclockModel$Buyer" "java/lang/Object") ∈ lw_tbl := lw_at lw_m9 91 rfl
theorem in_X11 : ∀ w ∈ wsX110, w ∈ lw_all := lw_in wsX110 [1597, 1599, 1601, 1603, 1605, 1607, 1609] (by decide +kernel) (by decide +kernel)
/-! BloomclockModel$Order -/
set_option maxRecDepth 100000
def RX13 : String := "BloomclockModel$Order"
def TX13 : u_T := fun k => match k with
  | 0 => ("BloomclockModel$Order", "buyer", "I", true)
  | 1 => ("BloomclockModel$Order", "cultivar", "I", true)
  | 2 => ("BloomclockModel$Order", "grade", "I", true)
  | 3 => ("BloomclockModel$Order", "shown", "I", true)
  | 4 => ("BloomclockModel$Order", "mark", "I", true)
  | 5 => ("BloomclockModel$Order", "limit", "I", true)
  | _ => ("BloomclockModel$Order", "wants", "I", false)
def tyX13 : Nat → FieldType := fun k => match k with
  | 0 => .int
  | 1 => .int
  | 2 => .int
  | 3 => .int
  | 4 => .int
  | 5 => .int
  | _ => .int
abbrev wsX130 : List Cond := u_ws RX13 TX13 7
theorem nmX13 : ∀ a, a < 7 → ∀ b, b < 7 → a ≠ b → (TX13 a).2.1 ≠ (TX13 b).2.1 := by decide +kernel
theorem tyX13_ok : ∀ k, k < 7 → parseFieldDescriptor (TX13 k).2.2.1 = some (tyX13 k) := by decide +kernel
abbrev cX13_init : ByteArray := prog_19_method_1_code
def yX13_init : MethodName := ⟨RX13, "<init>", "(IIIIIII)V"⟩
def dkwX13_init_1 : List UInt8 := [181, 0, 19, 42, 21, 5, 181, 0, 22, 42, 21, 6, 181, 0, 25, 42, 21, 7, 181, 0, 28, 177]
abbrev dktX13_init_1 : List UInt8 := dkwX13_init_1 ++ []
def dkwX13_init_0 : List UInt8 := [42, 183, 0, 1, 42, 27, 181, 0, 7, 42, 28, 181, 0, 13, 42, 29, 181, 0, 16, 42, 21, 4]
abbrev dktX13_init_0 : List UInt8 := dkwX13_init_0 ++ dktX13_init_1
theorem dksX13_init_0 : cX13_init.data.toList.drop 0 = dktX13_init_0 := by decide +kernel
theorem dksX13_init_1 : cX13_init.data.toList.drop 22 = dktX13_init_1 := dk_seg dksX13_init_0 22 rfl rfl
theorem dX13_init_0 : decode cX13_init 0 = .ok (.aload_n 0, 1) := dk_42 (dk_at dksX13_init_0 0 rfl rfl)
theorem dX13_init_1 : decode cX13_init 1 = .ok (.invokespecial 1, 3) := dk_183 0 1 (dk_at dksX13_init_0 1 rfl rfl)
theorem dX13_init_4 : decode cX13_init 4 = .ok (.aload_n 0, 1) := dk_42 (dk_at dksX13_init_0 4 rfl rfl)
theorem dX13_init_5 : decode cX13_init 5 = .ok (.iload_n 1, 1) := dk_27 (dk_at dksX13_init_0 5 rfl rfl)
theorem dX13_init_6 : decode cX13_init 6 = .ok (.putfield 7, 3) := dk_181 0 7 (dk_at dksX13_init_0 6 rfl rfl)
theorem dX13_init_9 : decode cX13_init 9 = .ok (.aload_n 0, 1) := dk_42 (dk_at dksX13_init_0 9 rfl rfl)
theorem dX13_init_10 : decode cX13_init 10 = .ok (.iload_n 2, 1) := dk_28 (dk_at dksX13_init_0 10 rfl rfl)
theorem dX13_init_11 : decode cX13_init 11 = .ok (.putfield 13, 3) := dk_181 0 13 (dk_at dksX13_init_0 11 rfl rfl)
theorem dX13_init_14 : decode cX13_init 14 = .ok (.aload_n 0, 1) := dk_42 (dk_at dksX13_init_0 14 rfl rfl)
theorem dX13_init_15 : decode cX13_init 15 = .ok (.iload_n 3, 1) := dk_29 (dk_at dksX13_init_0 15 rfl rfl)
theorem dX13_init_16 : decode cX13_init 16 = .ok (.putfield 16, 3) := dk_181 0 16 (dk_at dksX13_init_0 16 rfl rfl)
theorem dX13_init_19 : decode cX13_init 19 = .ok (.aload_n 0, 1) := dk_42 (dk_at dksX13_init_0 19 rfl rfl)
theorem dX13_init_20 : decode cX13_init 20 = .ok (.iload 4, 2) := dk_21 4 (dk_at dksX13_init_0 20 rfl rfl)
theorem dX13_init_22 : decode cX13_init 22 = .ok (.putfield 19, 3) := dk_181 0 19 (dk_at dksX13_init_1 0 rfl rfl)
theorem dX13_init_25 : decode cX13_init 25 = .ok (.aload_n 0, 1) := dk_42 (dk_at dksX13_init_1 3 rfl rfl)
theorem dX13_init_26 : decode cX13_init 26 = .ok (.iload 5, 2) := dk_21 5 (dk_at dksX13_init_1 4 rfl rfl)
theorem dX13_init_28 : decode cX13_init 28 = .ok (.putfield 22, 3) := dk_181 0 22 (dk_at dksX13_init_1 6 rfl rfl)
theorem dX13_init_31 : decode cX13_init 31 = .ok (.aload_n 0, 1) := dk_42 (dk_at dksX13_init_1 9 rfl rfl)
theorem dX13_init_32 : decode cX13_init 32 = .ok (.iload 6, 2) := dk_21 6 (dk_at dksX13_init_1 10 rfl rfl)
theorem dX13_init_34 : decode cX13_init 34 = .ok (.putfield 25, 3) := dk_181 0 25 (dk_at dksX13_init_1 12 rfl rfl)
theorem dX13_init_37 : decode cX13_init 37 = .ok (.aload_n 0, 1) := dk_42 (dk_at dksX13_init_1 15 rfl rfl)
theorem dX13_init_38 : decode cX13_init 38 = .ok (.iload 7, 2) := dk_21 7 (dk_at dksX13_init_1 16 rfl rfl)
theorem dX13_init_40 : decode cX13_init 40 = .ok (.putfield 28, 3) := dk_181 0 28 (dk_at dksX13_init_1 18 rfl rfl)
theorem dX13_init_43 : decode cX13_init 43 = .ok (.return_, 1) := dk_177 (dk_at dksX13_init_1 21 rfl rfl)
abbrev cX13_fits : ByteArray := prog_19_method_2_code
def yX13_fits : MethodName := ⟨RX13, "fits", "(LBloomclockModel$Lot;II)Z"⟩
def dkwX13_fits_1 : List UInt8 := [180, 0, 19, 161, 0, 15, 29, 42, 180, 0, 22, 161, 0, 7, 4, 167, 0, 4, 3, 172]
abbrev dktX13_fits_1 : List UInt8 := dkwX13_fits_1 ++ []
def dkwX13_fits_0 : List UInt8 := [42, 180, 0, 13, 43, 180, 0, 31, 160, 0, 34, 43, 180, 0, 34, 42, 180, 0, 16, 163, 0, 23, 28, 42]
abbrev dktX13_fits_0 : List UInt8 := dkwX13_fits_0 ++ dktX13_fits_1
theorem dksX13_fits_0 : cX13_fits.data.toList.drop 0 = dktX13_fits_0 := by decide +kernel
theorem dksX13_fits_1 : cX13_fits.data.toList.drop 24 = dktX13_fits_1 := dk_seg dksX13_fits_0 24 rfl rfl
theorem dX13_fits_0 : decode cX13_fits 0 = .ok (.aload_n 0, 1) := dk_42 (dk_at dksX13_fits_0 0 rfl rfl)
theorem dX13_fits_1 : decode cX13_fits 1 = .ok (.getfield 13, 3) := dk_180 0 13 (dk_at dksX13_fits_0 1 rfl rfl)
theorem dX13_fits_4 : decode cX13_fits 4 = .ok (.aload_n 1, 1) := dk_43 (dk_at dksX13_fits_0 4 rfl rfl)
theorem dX13_fits_5 : decode cX13_fits 5 = .ok (.getfield 31, 3) := dk_180 0 31 (dk_at dksX13_fits_0 5 rfl rfl)
theorem dX13_fits_8 : decode cX13_fits 8 = .ok (.if_icmp .ne 34, 3) := dk_160 0 34 (dk_at dksX13_fits_0 8 rfl rfl)
theorem dX13_fits_11 : decode cX13_fits 11 = .ok (.aload_n 1, 1) := dk_43 (dk_at dksX13_fits_0 11 rfl rfl)
theorem dX13_fits_12 : decode cX13_fits 12 = .ok (.getfield 34, 3) := dk_180 0 34 (dk_at dksX13_fits_0 12 rfl rfl)
theorem dX13_fits_15 : decode cX13_fits 15 = .ok (.aload_n 0, 1) := dk_42 (dk_at dksX13_fits_0 15 rfl rfl)
theorem dX13_fits_16 : decode cX13_fits 16 = .ok (.getfield 16, 3) := dk_180 0 16 (dk_at dksX13_fits_0 16 rfl rfl)
theorem dX13_fits_19 : decode cX13_fits 19 = .ok (.if_icmp .gt 23, 3) := dk_163 0 23 (dk_at dksX13_fits_0 19 rfl rfl)
theorem dX13_fits_22 : decode cX13_fits 22 = .ok (.iload_n 2, 1) := dk_28 (dk_at dksX13_fits_0 22 rfl rfl)
theorem dX13_fits_23 : decode cX13_fits 23 = .ok (.aload_n 0, 1) := dk_42 (dk_at dksX13_fits_0 23 rfl rfl)
theorem dX13_fits_24 : decode cX13_fits 24 = .ok (.getfield 19, 3) := dk_180 0 19 (dk_at dksX13_fits_1 0 rfl rfl)
theorem dX13_fits_27 : decode cX13_fits 27 = .ok (.if_icmp .lt 15, 3) := dk_161 0 15 (dk_at dksX13_fits_1 3 rfl rfl)
theorem dX13_fits_30 : decode cX13_fits 30 = .ok (.iload_n 3, 1) := dk_29 (dk_at dksX13_fits_1 6 rfl rfl)
theorem dX13_fits_31 : decode cX13_fits 31 = .ok (.aload_n 0, 1) := dk_42 (dk_at dksX13_fits_1 7 rfl rfl)
theorem dX13_fits_32 : decode cX13_fits 32 = .ok (.getfield 22, 3) := dk_180 0 22 (dk_at dksX13_fits_1 8 rfl rfl)
theorem dX13_fits_35 : decode cX13_fits 35 = .ok (.if_icmp .lt 7, 3) := dk_161 0 7 (dk_at dksX13_fits_1 11 rfl rfl)
theorem dX13_fits_38 : decode cX13_fits 38 = .ok (.iconst 1, 1) := dk_4 (dk_at dksX13_fits_1 14 rfl rfl)
theorem dX13_fits_39 : decode cX13_fits 39 = .ok (.goto 4, 3) := dk_167 0 4 (dk_at dksX13_fits_1 15 rfl rfl)
theorem dX13_fits_42 : decode cX13_fits 42 = .ok (.iconst 0, 1) := dk_3 (dk_at dksX13_fits_1 18 rfl rfl)
theorem dX13_fits_43 : decode cX13_fits 43 = .ok (.ireturn, 1) := dk_172 (dk_at dksX13_fits_1 19 rfl rfl)
theorem q91 : (Jvm.Cond.initialized "BloomclockModel$Order") ∈ lw_all := lw_g (lw_at lw_m1 36 rfl) rfl
theorem q578 : (Jvm.Cond.selects "BloomclockModel$Order" ({ cls := "java/lang/Object", name := "getClass", desc := "()Ljava/lang/Class;" } : Jvm.MethodName) ({ cls := "java/lang/Object", name := "getClass", desc := "()Ljava/lang/Class;" } : Jvm.MethodName)) ∈ lw_all := lw_g (lw_at lw_m3 43 rfl) rfl
theorem q1404 : (Jvm.Cond.fieldLink "BloomclockModel$Order" (31 : Nat) "BloomclockModel$Lot" "cultivar" "I") ∈ lw_all := lw_g (lw_at lw_m6 149 rfl) rfl
theorem q1407 : (Jvm.Cond.fieldLink "BloomclockModel$Order" (34 : Nat) "BloomclockModel$Lot" "grade" "I") ∈ lw_all := lw_g (lw_at lw_m6 152 rfl) rfl
theorem q1629 : (Jvm.Cond.instantiable "BloomclockModel$Order" (7 : Nat)) ∈ lw_all := lw_g (lw_at lw_m7 134 rfl) rfl
theorem q1631 : (Jvm.Cond.instanceMethod ({ cls := "BloomclockModel$Order", name := "<init>", desc := "(IIIIIII)V" } : Jvm.MethodName)) ∈ lw_all := lw_g (lw_at lw_m7 136 rfl) rfl
theorem q1632 : (Jvm.Cond.code ({ cls := "BloomclockModel$Order", name := "<init>", desc := "(IIIIIII)V" } : Jvm.MethodName) prog_19_method_1_code (8 : Nat) (Option.none : Option Jvm.ClassFile.FieldType)) ∈ lw_all := lw_g (lw_at lw_m7 137 rfl) rfl
theorem q1633 : (Jvm.Cond.methodLink "BloomclockModel$Order" (1 : Nat) ({ cls := "java/lang/Object", name := "<init>", desc := "()V" } : Jvm.MethodName)) ∈ lw_all := lw_g (lw_at lw_m7 138 rfl) rfl
theorem q1634 : (Jvm.Cond.fieldLink "BloomclockModel$Order" (7 : Nat) "BloomclockModel$Order" "buyer" "I") ∈ lw_all := lw_g (lw_at lw_m7 139 rfl) rfl
theorem q1637 : (Jvm.Cond.fieldLink "BloomclockModel$Order" (13 : Nat) "BloomclockModel$Order" "cultivar" "I") ∈ lw_all := lw_g (lw_at lw_m7 142 rfl) rfl
theorem q1638 : (Jvm.Cond.fieldLink "BloomclockModel$Order" (16 : Nat) "BloomclockModel$Order" "grade" "I") ∈ lw_all := lw_g (lw_at lw_m7 143 rfl) rfl
theorem q1639 : (Jvm.Cond.fieldLink "BloomclockModel$Order" (19 : Nat) "BloomclockModel$Order" "shown" "I") ∈ lw_all := lw_g (lw_at lw_m7 144 rfl) rfl
theorem q1640 : (Jvm.Cond.fieldLink "BloomclockModel$Order" (22 : Nat) "BloomclockModel$Order" "mark" "I") ∈ lw_all := lw_g (lw_at lw_m7 145 rfl) rfl
theorem q1641 : (Jvm.Cond.fieldLink "BloomclockModel$Order" (25 : Nat) "BloomclockModel$Order" "limit" "I") ∈ lw_all := lw_g (lw_at lw_m7 146 rfl) rfl
theorem q1643 : (Jvm.Cond.fieldLink "BloomclockModel$Order" (28 : Nat) "BloomclockModel$Order" "wants" "I") ∈ lw_all := lw_g (lw_at lw_m7 148 rfl) rfl
theorem q1646 : (Jvm.Cond.laysFinal "BloomclockModel$Order" "BloomclockModel$Order" "buyer" "I") ∈ lw_all := lw_g (lw_at lw_m7 151 rfl) rfl
theorem q1647 : (Jvm.Cond.soleField "BloomclockModel$Order" "buyer") ∈ lw_all := lw_g (lw_at lw_m7 152 rfl) rfl
theorem q1648 : (Jvm.Cond.laysFinal "BloomclockModel$Order" "BloomclockModel$Order" "cultivar" "I") ∈ lw_all := lw_g (lw_at lw_m7 153 rfl) rfl
theorem q1649 : (Jvm.Cond.soleField "BloomclockModel$Order" "cultivar") ∈ lw_all := lw_g (lw_at lw_m7 154 rfl) rfl
theorem q1650 : (Jvm.Cond.laysFinal "BloomclockModel$Order" "BloomclockModel$Order" "grade" "I") ∈ lw_all := lw_g (lw_at lw_m7 155 rfl) rfl
theorem q1651 : (Jvm.Cond.soleField "BloomclockModel$Order" "grade") ∈ lw_all := lw_g (lw_at lw_m7 156 rfl) rfl
theorem q1652 : (Jvm.Cond.laysFinal "BloomclockModel$Order" "BloomclockModel$Order" "shown" "I") ∈ lw_all := lw_g (lw_at lw_m7 157 rfl) rfl
theorem q1653 : (Jvm.Cond.soleField "BloomclockModel$Order" "shown") ∈ lw_all := lw_g (lw_at lw_m7 158 rfl) rfl
theorem q1654 : (Jvm.Cond.laysFinal "BloomclockModel$Order" "BloomclockModel$Order" "mark" "I") ∈ lw_all := lw_g (lw_at lw_m7 159 rfl) rfl
theorem q1655 : (Jvm.Cond.soleField "BloomclockModel$Order" "mark") ∈ lw_all := lw_g (lw_at lw_m7 160 rfl) rfl
theorem q1656 : (Jvm.Cond.laysFinal "BloomclockModel$Order" "BloomclockModel$Order" "limit" "I") ∈ lw_all := lw_g (lw_at lw_m7 161 rfl) rfl
theorem q1657 : (Jvm.Cond.soleField "BloomclockModel$Order" "limit") ∈ lw_all := lw_g (lw_at lw_m7 162 rfl) rfl
theorem q1658 : (Jvm.Cond.lays "BloomclockModel$Order" "BloomclockModel$Order" "wants" "I") ∈ lw_all := lw_g (lw_at lw_m7 163 rfl) rfl
theorem q1659 : (Jvm.Cond.soleField "BloomclockModel$Order" "wants") ∈ lw_all := lw_g (lw_at lw_m7 164 rfl) rfl
theorem q1660 : (Jvm.Cond.superclass "BloomclockModel$Order" "java/lang/Object") ∈ lw_all := lw_g (lw_at lw_m7 165 rfl) rfl
theorem q1733 : (Jvm.Cond.instanceMethod ({ cls := "BloomclockModel$Order", name := "fits", desc := "(LBloomclockModel$Lot;II)Z" } : Jvm.MethodName)) ∈ lw_all := lw_g (lw_at lw_m7 238 rfl) rfl
theorem q1734 : (Jvm.Cond.selects "BloomclockModel$Order" ({ cls := "BloomclockModel$Order", name := "fits", desc := "(LBloomclockModel$Lot;II)Z" } : Jvm.MethodName) ({ cls := "BloomclockModel$Order", name := "fits", desc := "(LBloomclockModel$Lot;II)Z" } : Jvm.MethodName)) ∈ lw_all := lw_g (lw_at lw_m7 239 rfl) rfl
theorem q1735 : (Jvm.Cond.code ({ cls := "BloomclockModel$Order", name := "fits", desc := "(LBloomclockModel$Lot;II)Z" } : Jvm.MethodName) prog_19_method_2_code (4 : Nat) (Option.some Jvm.ClassFile.FieldType.boolean)) ∈ lw_all := lw_g (lw_at lw_m8 0 rfl) rfl
theorem q1882 : (Jvm.Cond.selects "BloomclockModel$Order" ({ cls := "java/lang/Object", name := "equals", desc := "(Ljava/lang/Object;)Z" } : Jvm.MethodName) ({ cls := "java/lang/Object", name := "equals", desc := "(Ljava/lang/Object;)Z" } : Jvm.MethodName)) ∈ lw_all := lw_g (lw_at lw_m8 147 rfl) rfl
theorem q2068 : (Jvm.Cond.castable "BloomclockModel$Order" "java/lang/Object") ∈ lw_tbl := lw_at lw_m9 93 rfl
theorem in_X13 : ∀ w ∈ wsX130, w ∈ lw_all := lw_in wsX130 [1646, 1648, 1650, 1652, 1654, 1656, 1658] (by decide +kernel) (by decide +kernel)
/-! BloomclockModel$Clock -/
set_option maxRecDepth 100000
def RX17 : String := "BloomclockModel$Clock"
def TX17 : u_T := fun k => match k with
  | 0 => ("BloomclockModel$Clock", "wants", "[I", true)
  | 1 => ("BloomclockModel$Clock", "coins", "[I", true)
  | 2 => ("BloomclockModel$Clock", "isOut", "[Z", true)
  | 3 => ("BloomclockModel$Clock", "from", "I", false)
  | 4 => ("BloomclockModel$Clock", "stems", "I", false)
  | 5 => ("BloomclockModel$Clock", "buckets", "I", false)
  | 6 => ("BloomclockModel$Clock", "lot", "LBloomclockModel$Lot;", false)
  | 7 => ("BloomclockModel$Clock", "shown", "I", false)
  | 8 => ("BloomclockModel$Clock", "minimum", "I", false)
  | 9 => ("BloomclockModel$Clock", "order", "I", false)
  | 10 => ("BloomclockModel$Clock", "price", "I", false)
  | 11 => ("BloomclockModel$Clock", "many", "I", false)
  | _ => ("BloomclockModel$Clock", "this$0", "LBloomclockModel;", true)
def tyX17 : Nat → FieldType := fun k => match k with
  | 0 => .array .int
  | 1 => .array .int
  | 2 => .array .boolean
  | 3 => .int
  | 4 => .int
  | 5 => .int
  | 6 => .object "BloomclockModel$Lot"
  | 7 => .int
  | 8 => .int
  | 9 => .int
  | 10 => .int
  | 11 => .int
  | _ => .object "BloomclockModel"
abbrev wsX170 : List Cond := u_ws RX17 TX17 13
set_option maxRecDepth 100000 in
theorem nmX17 : ∀ a, a < 13 → ∀ b, b < 13 → a ≠ b → (TX17 a).2.1 ≠ (TX17 b).2.1 := by decide +kernel
set_option maxRecDepth 100000 in
theorem tyX17_ok : ∀ k, k < 13 → parseFieldDescriptor (TX17 k).2.2.1 = some (tyX17 k) := by decide +kernel
abbrev cX17_init : ByteArray := prog_15_method_1_code
def yX17_init : MethodName := ⟨RX17, "<init>", "(LBloomclockModel;)V"⟩
def dkwX17_init_1 : List UInt8 := [42, 7, 188, 4, 181, 0, 22, 177]
abbrev dktX17_init_1 : List UInt8 := dkwX17_init_1 ++ []
def dkwX17_init_0 : List UInt8 := [42, 43, 181, 0, 3, 42, 183, 0, 9, 42, 16, 12, 188, 10, 181, 0, 15, 42, 7, 188, 10, 181, 0, 19]
abbrev dktX17_init_0 : List UInt8 := dkwX17_init_0 ++ dktX17_init_1
theorem dksX17_init_0 : cX17_init.data.toList.drop 0 = dktX17_init_0 := by decide +kernel
theorem dksX17_init_1 : cX17_init.data.toList.drop 24 = dktX17_init_1 := dk_seg dksX17_init_0 24 rfl rfl
theorem dX17_init_0 : decode cX17_init 0 = .ok (.aload_n 0, 1) := dk_42 (dk_at dksX17_init_0 0 rfl rfl)
theorem dX17_init_1 : decode cX17_init 1 = .ok (.aload_n 1, 1) := dk_43 (dk_at dksX17_init_0 1 rfl rfl)
theorem dX17_init_2 : decode cX17_init 2 = .ok (.putfield 3, 3) := dk_181 0 3 (dk_at dksX17_init_0 2 rfl rfl)
theorem dX17_init_5 : decode cX17_init 5 = .ok (.aload_n 0, 1) := dk_42 (dk_at dksX17_init_0 5 rfl rfl)
theorem dX17_init_6 : decode cX17_init 6 = .ok (.invokespecial 9, 3) := dk_183 0 9 (dk_at dksX17_init_0 6 rfl rfl)
theorem dX17_init_9 : decode cX17_init 9 = .ok (.aload_n 0, 1) := dk_42 (dk_at dksX17_init_0 9 rfl rfl)
theorem dX17_init_10 : decode cX17_init 10 = .ok (.bipush 12, 2) := dk_16 12 (dk_at dksX17_init_0 10 rfl rfl)
theorem dX17_init_12 : decode cX17_init 12 = .ok (.newarray .int, 2) := dk_188_10 (dk_at dksX17_init_0 12 rfl rfl)
theorem dX17_init_14 : decode cX17_init 14 = .ok (.putfield 15, 3) := dk_181 0 15 (dk_at dksX17_init_0 14 rfl rfl)
theorem dX17_init_17 : decode cX17_init 17 = .ok (.aload_n 0, 1) := dk_42 (dk_at dksX17_init_0 17 rfl rfl)
theorem dX17_init_18 : decode cX17_init 18 = .ok (.iconst 4, 1) := dk_7 (dk_at dksX17_init_0 18 rfl rfl)
theorem dX17_init_19 : decode cX17_init 19 = .ok (.newarray .int, 2) := dk_188_10 (dk_at dksX17_init_0 19 rfl rfl)
theorem dX17_init_21 : decode cX17_init 21 = .ok (.putfield 19, 3) := dk_181 0 19 (dk_at dksX17_init_0 21 rfl rfl)
theorem dX17_init_24 : decode cX17_init 24 = .ok (.aload_n 0, 1) := dk_42 (dk_at dksX17_init_1 0 rfl rfl)
theorem dX17_init_25 : decode cX17_init 25 = .ok (.iconst 4, 1) := dk_7 (dk_at dksX17_init_1 1 rfl rfl)
theorem dX17_init_26 : decode cX17_init 26 = .ok (.newarray .boolean, 2) := dk_188_4 (dk_at dksX17_init_1 2 rfl rfl)
theorem dX17_init_28 : decode cX17_init 28 = .ok (.putfield 22, 3) := dk_181 0 22 (dk_at dksX17_init_1 4 rfl rfl)
theorem dX17_init_31 : decode cX17_init 31 = .ok (.return_, 1) := dk_177 (dk_at dksX17_init_1 7 rfl rfl)
abbrev cX17_begin : ByteArray := prog_15_method_2_code
def yX17_begin : MethodName := ⟨RX17, "begin", "(LBloomclockModel$Lot;II)V"⟩
def dkwX17_begin_6 : List UInt8 := [16, 99, 181, 0, 72, 177]
abbrev dktX17_begin_6 : List UInt8 := dkwX17_begin_6 ++ []
def dkwX17_begin_5 : List UInt8 := [132, 4, 1, 167, 255, 205, 42, 43, 180, 0, 62, 181, 0, 67, 42, 43, 180, 0, 68, 181, 0, 71, 42]
abbrev dktX17_begin_5 : List UInt8 := dkwX17_begin_5 ++ dktX17_begin_6
def dkwX17_begin_4 : List UInt8 := [180, 0, 55, 21, 4, 182, 0, 47, 192, 0, 58, 180, 0, 60, 79, 42, 180, 0, 22, 21, 4, 3, 84]
abbrev dktX17_begin_4 : List UInt8 := dkwX17_begin_4 ++ dktX17_begin_5
def dkwX17_begin_3 : List UInt8 := [180, 0, 3, 180, 0, 55, 182, 0, 41, 162, 0, 42, 42, 180, 0, 19, 21, 4, 42, 180, 0, 3]
abbrev dktX17_begin_3 : List UInt8 := dkwX17_begin_3 ++ dktX17_begin_4
def dkwX17_begin_2 : List UInt8 := [182, 0, 47, 192, 0, 51, 180, 0, 53, 79, 132, 4, 1, 167, 255, 213, 3, 54, 4, 21, 4, 42]
abbrev dktX17_begin_2 : List UInt8 := dkwX17_begin_2 ++ dktX17_begin_3
def dkwX17_begin_1 : List UInt8 := [180, 0, 37, 182, 0, 41, 162, 0, 34, 42, 180, 0, 15, 21, 4, 42, 180, 0, 3, 180, 0, 37, 21, 4]
abbrev dktX17_begin_1 : List UInt8 := dkwX17_begin_1 ++ dktX17_begin_2
def dkwX17_begin_0 : List UInt8 := [42, 43, 181, 0, 26, 42, 28, 181, 0, 30, 42, 29, 181, 0, 34, 3, 54, 4, 21, 4, 42, 180, 0, 3]
abbrev dktX17_begin_0 : List UInt8 := dkwX17_begin_0 ++ dktX17_begin_1
theorem dksX17_begin_0 : cX17_begin.data.toList.drop 0 = dktX17_begin_0 := by decide +kernel
theorem dksX17_begin_1 : cX17_begin.data.toList.drop 24 = dktX17_begin_1 := dk_seg dksX17_begin_0 24 rfl rfl
theorem dksX17_begin_2 : cX17_begin.data.toList.drop 48 = dktX17_begin_2 := dk_seg dksX17_begin_1 24 rfl rfl
theorem dksX17_begin_3 : cX17_begin.data.toList.drop 70 = dktX17_begin_3 := dk_seg dksX17_begin_2 22 rfl rfl
theorem dksX17_begin_4 : cX17_begin.data.toList.drop 92 = dktX17_begin_4 := dk_seg dksX17_begin_3 22 rfl rfl
theorem dksX17_begin_5 : cX17_begin.data.toList.drop 115 = dktX17_begin_5 := dk_seg dksX17_begin_4 23 rfl rfl
theorem dksX17_begin_6 : cX17_begin.data.toList.drop 138 = dktX17_begin_6 := dk_seg dksX17_begin_5 23 rfl rfl
theorem dX17_begin_0 : decode cX17_begin 0 = .ok (.aload_n 0, 1) := dk_42 (dk_at dksX17_begin_0 0 rfl rfl)
theorem dX17_begin_1 : decode cX17_begin 1 = .ok (.aload_n 1, 1) := dk_43 (dk_at dksX17_begin_0 1 rfl rfl)
theorem dX17_begin_2 : decode cX17_begin 2 = .ok (.putfield 26, 3) := dk_181 0 26 (dk_at dksX17_begin_0 2 rfl rfl)
theorem dX17_begin_5 : decode cX17_begin 5 = .ok (.aload_n 0, 1) := dk_42 (dk_at dksX17_begin_0 5 rfl rfl)
theorem dX17_begin_6 : decode cX17_begin 6 = .ok (.iload_n 2, 1) := dk_28 (dk_at dksX17_begin_0 6 rfl rfl)
theorem dX17_begin_7 : decode cX17_begin 7 = .ok (.putfield 30, 3) := dk_181 0 30 (dk_at dksX17_begin_0 7 rfl rfl)
theorem dX17_begin_10 : decode cX17_begin 10 = .ok (.aload_n 0, 1) := dk_42 (dk_at dksX17_begin_0 10 rfl rfl)
theorem dX17_begin_11 : decode cX17_begin 11 = .ok (.iload_n 3, 1) := dk_29 (dk_at dksX17_begin_0 11 rfl rfl)
theorem dX17_begin_12 : decode cX17_begin 12 = .ok (.putfield 34, 3) := dk_181 0 34 (dk_at dksX17_begin_0 12 rfl rfl)
theorem dX17_begin_15 : decode cX17_begin 15 = .ok (.iconst 0, 1) := dk_3 (dk_at dksX17_begin_0 15 rfl rfl)
theorem dX17_begin_16 : decode cX17_begin 16 = .ok (.istore 4, 2) := dk_54 4 (dk_at dksX17_begin_0 16 rfl rfl)
theorem dX17_begin_18 : decode cX17_begin 18 = .ok (.iload 4, 2) := dk_21 4 (dk_at dksX17_begin_0 18 rfl rfl)
theorem dX17_begin_20 : decode cX17_begin 20 = .ok (.aload_n 0, 1) := dk_42 (dk_at dksX17_begin_0 20 rfl rfl)
theorem dX17_begin_21 : decode cX17_begin 21 = .ok (.getfield 3, 3) := dk_180 0 3 (dk_at dksX17_begin_0 21 rfl rfl)
theorem dX17_begin_24 : decode cX17_begin 24 = .ok (.getfield 37, 3) := dk_180 0 37 (dk_at dksX17_begin_1 0 rfl rfl)
theorem dX17_begin_27 : decode cX17_begin 27 = .ok (.invokevirtual 41, 3) := dk_182 0 41 (dk_at dksX17_begin_1 3 rfl rfl)
theorem dX17_begin_30 : decode cX17_begin 30 = .ok (.if_icmp .ge 34, 3) := dk_162 0 34 (dk_at dksX17_begin_1 6 rfl rfl)
theorem dX17_begin_33 : decode cX17_begin 33 = .ok (.aload_n 0, 1) := dk_42 (dk_at dksX17_begin_1 9 rfl rfl)
theorem dX17_begin_34 : decode cX17_begin 34 = .ok (.getfield 15, 3) := dk_180 0 15 (dk_at dksX17_begin_1 10 rfl rfl)
theorem dX17_begin_37 : decode cX17_begin 37 = .ok (.iload 4, 2) := dk_21 4 (dk_at dksX17_begin_1 13 rfl rfl)
theorem dX17_begin_39 : decode cX17_begin 39 = .ok (.aload_n 0, 1) := dk_42 (dk_at dksX17_begin_1 15 rfl rfl)
theorem dX17_begin_40 : decode cX17_begin 40 = .ok (.getfield 3, 3) := dk_180 0 3 (dk_at dksX17_begin_1 16 rfl rfl)
theorem dX17_begin_43 : decode cX17_begin 43 = .ok (.getfield 37, 3) := dk_180 0 37 (dk_at dksX17_begin_1 19 rfl rfl)
theorem dX17_begin_46 : decode cX17_begin 46 = .ok (.iload 4, 2) := dk_21 4 (dk_at dksX17_begin_1 22 rfl rfl)
theorem dX17_begin_48 : decode cX17_begin 48 = .ok (.invokevirtual 47, 3) := dk_182 0 47 (dk_at dksX17_begin_2 0 rfl rfl)
theorem dX17_begin_51 : decode cX17_begin 51 = .ok (.checkcast 51, 3) := dk_192 0 51 (dk_at dksX17_begin_2 3 rfl rfl)
theorem dX17_begin_54 : decode cX17_begin 54 = .ok (.getfield 53, 3) := dk_180 0 53 (dk_at dksX17_begin_2 6 rfl rfl)
theorem dX17_begin_57 : decode cX17_begin 57 = .ok (.iastore, 1) := dk_79 (dk_at dksX17_begin_2 9 rfl rfl)
theorem dX17_begin_58 : decode cX17_begin 58 = .ok (.iinc 4 1, 3) := dk_132 4 1 (dk_at dksX17_begin_2 10 rfl rfl)
theorem dX17_begin_61 : decode cX17_begin 61 = .ok (.goto (-43), 3) := dk_167 255 213 (dk_at dksX17_begin_2 13 rfl rfl)
theorem dX17_begin_64 : decode cX17_begin 64 = .ok (.iconst 0, 1) := dk_3 (dk_at dksX17_begin_2 16 rfl rfl)
theorem dX17_begin_65 : decode cX17_begin 65 = .ok (.istore 4, 2) := dk_54 4 (dk_at dksX17_begin_2 17 rfl rfl)
theorem dX17_begin_67 : decode cX17_begin 67 = .ok (.iload 4, 2) := dk_21 4 (dk_at dksX17_begin_2 19 rfl rfl)
theorem dX17_begin_69 : decode cX17_begin 69 = .ok (.aload_n 0, 1) := dk_42 (dk_at dksX17_begin_2 21 rfl rfl)
theorem dX17_begin_70 : decode cX17_begin 70 = .ok (.getfield 3, 3) := dk_180 0 3 (dk_at dksX17_begin_3 0 rfl rfl)
theorem dX17_begin_73 : decode cX17_begin 73 = .ok (.getfield 55, 3) := dk_180 0 55 (dk_at dksX17_begin_3 3 rfl rfl)
theorem dX17_begin_76 : decode cX17_begin 76 = .ok (.invokevirtual 41, 3) := dk_182 0 41 (dk_at dksX17_begin_3 6 rfl rfl)
theorem dX17_begin_79 : decode cX17_begin 79 = .ok (.if_icmp .ge 42, 3) := dk_162 0 42 (dk_at dksX17_begin_3 9 rfl rfl)
theorem dX17_begin_82 : decode cX17_begin 82 = .ok (.aload_n 0, 1) := dk_42 (dk_at dksX17_begin_3 12 rfl rfl)
theorem dX17_begin_83 : decode cX17_begin 83 = .ok (.getfield 19, 3) := dk_180 0 19 (dk_at dksX17_begin_3 13 rfl rfl)
theorem dX17_begin_86 : decode cX17_begin 86 = .ok (.iload 4, 2) := dk_21 4 (dk_at dksX17_begin_3 16 rfl rfl)
theorem dX17_begin_88 : decode cX17_begin 88 = .ok (.aload_n 0, 1) := dk_42 (dk_at dksX17_begin_3 18 rfl rfl)
theorem dX17_begin_89 : decode cX17_begin 89 = .ok (.getfield 3, 3) := dk_180 0 3 (dk_at dksX17_begin_3 19 rfl rfl)
theorem dX17_begin_92 : decode cX17_begin 92 = .ok (.getfield 55, 3) := dk_180 0 55 (dk_at dksX17_begin_4 0 rfl rfl)
theorem dX17_begin_95 : decode cX17_begin 95 = .ok (.iload 4, 2) := dk_21 4 (dk_at dksX17_begin_4 3 rfl rfl)
theorem dX17_begin_97 : decode cX17_begin 97 = .ok (.invokevirtual 47, 3) := dk_182 0 47 (dk_at dksX17_begin_4 5 rfl rfl)
theorem dX17_begin_100 : decode cX17_begin 100 = .ok (.checkcast 58, 3) := dk_192 0 58 (dk_at dksX17_begin_4 8 rfl rfl)
theorem dX17_begin_103 : decode cX17_begin 103 = .ok (.getfield 60, 3) := dk_180 0 60 (dk_at dksX17_begin_4 11 rfl rfl)
theorem dX17_begin_106 : decode cX17_begin 106 = .ok (.iastore, 1) := dk_79 (dk_at dksX17_begin_4 14 rfl rfl)
theorem dX17_begin_107 : decode cX17_begin 107 = .ok (.aload_n 0, 1) := dk_42 (dk_at dksX17_begin_4 15 rfl rfl)
theorem dX17_begin_108 : decode cX17_begin 108 = .ok (.getfield 22, 3) := dk_180 0 22 (dk_at dksX17_begin_4 16 rfl rfl)
theorem dX17_begin_111 : decode cX17_begin 111 = .ok (.iload 4, 2) := dk_21 4 (dk_at dksX17_begin_4 19 rfl rfl)
theorem dX17_begin_113 : decode cX17_begin 113 = .ok (.iconst 0, 1) := dk_3 (dk_at dksX17_begin_4 21 rfl rfl)
theorem dX17_begin_114 : decode cX17_begin 114 = .ok (.bastore, 1) := dk_84 (dk_at dksX17_begin_4 22 rfl rfl)
theorem dX17_begin_115 : decode cX17_begin 115 = .ok (.iinc 4 1, 3) := dk_132 4 1 (dk_at dksX17_begin_5 0 rfl rfl)
theorem dX17_begin_118 : decode cX17_begin 118 = .ok (.goto (-51), 3) := dk_167 255 205 (dk_at dksX17_begin_5 3 rfl rfl)
theorem dX17_begin_121 : decode cX17_begin 121 = .ok (.aload_n 0, 1) := dk_42 (dk_at dksX17_begin_5 6 rfl rfl)
theorem dX17_begin_122 : decode cX17_begin 122 = .ok (.aload_n 1, 1) := dk_43 (dk_at dksX17_begin_5 7 rfl rfl)
theorem dX17_begin_123 : decode cX17_begin 123 = .ok (.getfield 62, 3) := dk_180 0 62 (dk_at dksX17_begin_5 8 rfl rfl)
theorem dX17_begin_126 : decode cX17_begin 126 = .ok (.putfield 67, 3) := dk_181 0 67 (dk_at dksX17_begin_5 11 rfl rfl)
theorem dX17_begin_129 : decode cX17_begin 129 = .ok (.aload_n 0, 1) := dk_42 (dk_at dksX17_begin_5 14 rfl rfl)
theorem dX17_begin_130 : decode cX17_begin 130 = .ok (.aload_n 1, 1) := dk_43 (dk_at dksX17_begin_5 15 rfl rfl)
theorem dX17_begin_131 : decode cX17_begin 131 = .ok (.getfield 68, 3) := dk_180 0 68 (dk_at dksX17_begin_5 16 rfl rfl)
theorem dX17_begin_134 : decode cX17_begin 134 = .ok (.putfield 71, 3) := dk_181 0 71 (dk_at dksX17_begin_5 19 rfl rfl)
theorem dX17_begin_137 : decode cX17_begin 137 = .ok (.aload_n 0, 1) := dk_42 (dk_at dksX17_begin_5 22 rfl rfl)
theorem dX17_begin_138 : decode cX17_begin 138 = .ok (.bipush 99, 2) := dk_16 99 (dk_at dksX17_begin_6 0 rfl rfl)
theorem dX17_begin_140 : decode cX17_begin 140 = .ok (.putfield 72, 3) := dk_181 0 72 (dk_at dksX17_begin_6 2 rfl rfl)
theorem dX17_begin_143 : decode cX17_begin 143 = .ok (.return_, 1) := dk_177 (dk_at dksX17_begin_6 5 rfl rfl)
abbrev cX17_sells : ByteArray := prog_15_method_5_code
def yX17_sells : MethodName := ⟨RX17, "sells", "()Z"⟩
def dkwX17_sells_11 : List UInt8 := [180, 0, 22, 27, 4, 84, 167, 0, 10, 42, 27, 182, 0, 125, 4, 172, 167, 254, 245, 3, 172]
abbrev dktX17_sells_11 : List UInt8 := dkwX17_sells_11 ++ []
def dkwX17_sells_10 : List UInt8 := [184, 0, 78, 42, 180, 0, 116, 108, 184, 0, 119, 181, 0, 122, 42, 180, 0, 122, 154, 0, 13, 42]
abbrev dktX17_sells_10 : List UInt8 := dkwX17_sells_10 ++ dktX17_sells_11
def dkwX17_sells_9 : List UInt8 := [180, 0, 15, 42, 180, 0, 94, 46, 42, 180, 0, 67, 184, 0, 119, 3, 42, 180, 0, 19, 27, 46]
abbrev dktX17_sells_9 : List UInt8 := dkwX17_sells_9 ++ dktX17_sells_10
def dkwX17_sells_8 : List UInt8 := [180, 0, 3, 180, 0, 37, 42, 180, 0, 94, 182, 0, 47, 192, 0, 51, 180, 0, 84, 60, 42, 42]
abbrev dktX17_sells_8 : List UInt8 := dkwX17_sells_8 ++ dktX17_sells_9
def dkwX17_sells_7 : List UInt8 := [180, 0, 94, 182, 0, 90, 100, 181, 0, 116, 42, 180, 0, 116, 42, 180, 0, 34, 162, 0, 5, 3, 172, 42]
abbrev dktX17_sells_7 : List UInt8 := dkwX17_sells_7 ++ dktX17_sells_8
def dkwX17_sells_6 : List UInt8 := [132, 1, 1, 167, 255, 129, 42, 180, 0, 94, 2, 160, 0, 5, 3, 172, 42, 42, 180, 0, 72, 42, 42]
abbrev dktX17_sells_6 : List UInt8 := dkwX17_sells_6 ++ dktX17_sells_7
def dkwX17_sells_5 : List UInt8 := [180, 0, 94, 2, 159, 0, 15, 42, 27, 42, 180, 0, 94, 182, 0, 112, 153, 0, 8, 42, 27, 181, 0, 94]
abbrev dktX17_sells_5 : List UInt8 := dkwX17_sells_5 ++ dktX17_sells_6
def dkwX17_sells_4 : List UInt8 := [180, 0, 26, 180, 0, 100, 182, 0, 47, 192, 0, 103, 180, 0, 105, 182, 0, 108, 153, 0, 28, 42]
abbrev dktX17_sells_4 : List UInt8 := dkwX17_sells_4 ++ dktX17_sells_5
def dkwX17_sells_3 : List UInt8 := [27, 182, 0, 47, 192, 0, 51, 42, 180, 0, 26, 42, 180, 0, 30, 42, 180, 0, 3, 180, 0, 97, 42]
abbrev dktX17_sells_3 : List UInt8 := dkwX17_sells_3 ++ dktX17_sells_4
def dkwX17_sells_2 : List UInt8 := [180, 0, 37, 27, 182, 0, 47, 192, 0, 51, 180, 0, 84, 51, 154, 0, 79, 42, 180, 0, 3, 180, 0, 37]
abbrev dktX17_sells_2 : List UInt8 := dkwX17_sells_2 ++ dktX17_sells_3
def dkwX17_sells_1 : List UInt8 := [182, 0, 41, 162, 0, 119, 42, 180, 0, 15, 27, 46, 158, 0, 104, 42, 180, 0, 22, 42, 180, 0, 3]
abbrev dktX17_sells_1 : List UInt8 := dkwX17_sells_1 ++ dktX17_sells_2
def dkwX17_sells_0 : List UInt8 := [42, 180, 0, 67, 158, 1, 10, 42, 2, 181, 0, 94, 3, 60, 27, 42, 180, 0, 3, 180, 0, 37]
abbrev dktX17_sells_0 : List UInt8 := dkwX17_sells_0 ++ dktX17_sells_1
theorem dksX17_sells_0 : cX17_sells.data.toList.drop 0 = dktX17_sells_0 := by decide +kernel
theorem dksX17_sells_1 : cX17_sells.data.toList.drop 22 = dktX17_sells_1 := dk_seg dksX17_sells_0 22 rfl rfl
theorem dksX17_sells_2 : cX17_sells.data.toList.drop 45 = dktX17_sells_2 := dk_seg dksX17_sells_1 23 rfl rfl
theorem dksX17_sells_3 : cX17_sells.data.toList.drop 69 = dktX17_sells_3 := dk_seg dksX17_sells_2 24 rfl rfl
theorem dksX17_sells_4 : cX17_sells.data.toList.drop 92 = dktX17_sells_4 := dk_seg dksX17_sells_3 23 rfl rfl
theorem dksX17_sells_5 : cX17_sells.data.toList.drop 114 = dktX17_sells_5 := dk_seg dksX17_sells_4 22 rfl rfl
theorem dksX17_sells_6 : cX17_sells.data.toList.drop 138 = dktX17_sells_6 := dk_seg dksX17_sells_5 24 rfl rfl
theorem dksX17_sells_7 : cX17_sells.data.toList.drop 161 = dktX17_sells_7 := dk_seg dksX17_sells_6 23 rfl rfl
theorem dksX17_sells_8 : cX17_sells.data.toList.drop 185 = dktX17_sells_8 := dk_seg dksX17_sells_7 24 rfl rfl
theorem dksX17_sells_9 : cX17_sells.data.toList.drop 207 = dktX17_sells_9 := dk_seg dksX17_sells_8 22 rfl rfl
theorem dksX17_sells_10 : cX17_sells.data.toList.drop 229 = dktX17_sells_10 := dk_seg dksX17_sells_9 22 rfl rfl
theorem dksX17_sells_11 : cX17_sells.data.toList.drop 251 = dktX17_sells_11 := dk_seg dksX17_sells_10 22 rfl rfl
theorem dX17_sells_0 : decode cX17_sells 0 = .ok (.aload_n 0, 1) := dk_42 (dk_at dksX17_sells_0 0 rfl rfl)
theorem dX17_sells_1 : decode cX17_sells 1 = .ok (.getfield 67, 3) := dk_180 0 67 (dk_at dksX17_sells_0 1 rfl rfl)
theorem dX17_sells_4 : decode cX17_sells 4 = .ok (.ifCond .le 266, 3) := dk_158 1 10 (dk_at dksX17_sells_0 4 rfl rfl)
theorem dX17_sells_7 : decode cX17_sells 7 = .ok (.aload_n 0, 1) := dk_42 (dk_at dksX17_sells_0 7 rfl rfl)
theorem dX17_sells_8 : decode cX17_sells 8 = .ok (.iconst (-1), 1) := dk_2 (dk_at dksX17_sells_0 8 rfl rfl)
theorem dX17_sells_9 : decode cX17_sells 9 = .ok (.putfield 94, 3) := dk_181 0 94 (dk_at dksX17_sells_0 9 rfl rfl)
theorem dX17_sells_12 : decode cX17_sells 12 = .ok (.iconst 0, 1) := dk_3 (dk_at dksX17_sells_0 12 rfl rfl)
theorem dX17_sells_13 : decode cX17_sells 13 = .ok (.istore_n 1, 1) := dk_60 (dk_at dksX17_sells_0 13 rfl rfl)
theorem dX17_sells_14 : decode cX17_sells 14 = .ok (.iload_n 1, 1) := dk_27 (dk_at dksX17_sells_0 14 rfl rfl)
theorem dX17_sells_15 : decode cX17_sells 15 = .ok (.aload_n 0, 1) := dk_42 (dk_at dksX17_sells_0 15 rfl rfl)
theorem dX17_sells_16 : decode cX17_sells 16 = .ok (.getfield 3, 3) := dk_180 0 3 (dk_at dksX17_sells_0 16 rfl rfl)
theorem dX17_sells_19 : decode cX17_sells 19 = .ok (.getfield 37, 3) := dk_180 0 37 (dk_at dksX17_sells_0 19 rfl rfl)
theorem dX17_sells_22 : decode cX17_sells 22 = .ok (.invokevirtual 41, 3) := dk_182 0 41 (dk_at dksX17_sells_1 0 rfl rfl)
theorem dX17_sells_25 : decode cX17_sells 25 = .ok (.if_icmp .ge 119, 3) := dk_162 0 119 (dk_at dksX17_sells_1 3 rfl rfl)
theorem dX17_sells_28 : decode cX17_sells 28 = .ok (.aload_n 0, 1) := dk_42 (dk_at dksX17_sells_1 6 rfl rfl)
theorem dX17_sells_29 : decode cX17_sells 29 = .ok (.getfield 15, 3) := dk_180 0 15 (dk_at dksX17_sells_1 7 rfl rfl)
theorem dX17_sells_32 : decode cX17_sells 32 = .ok (.iload_n 1, 1) := dk_27 (dk_at dksX17_sells_1 10 rfl rfl)
theorem dX17_sells_33 : decode cX17_sells 33 = .ok (.iaload, 1) := dk_46 (dk_at dksX17_sells_1 11 rfl rfl)
theorem dX17_sells_34 : decode cX17_sells 34 = .ok (.ifCond .le 104, 3) := dk_158 0 104 (dk_at dksX17_sells_1 12 rfl rfl)
theorem dX17_sells_37 : decode cX17_sells 37 = .ok (.aload_n 0, 1) := dk_42 (dk_at dksX17_sells_1 15 rfl rfl)
theorem dX17_sells_38 : decode cX17_sells 38 = .ok (.getfield 22, 3) := dk_180 0 22 (dk_at dksX17_sells_1 16 rfl rfl)
theorem dX17_sells_41 : decode cX17_sells 41 = .ok (.aload_n 0, 1) := dk_42 (dk_at dksX17_sells_1 19 rfl rfl)
theorem dX17_sells_42 : decode cX17_sells 42 = .ok (.getfield 3, 3) := dk_180 0 3 (dk_at dksX17_sells_1 20 rfl rfl)
theorem dX17_sells_45 : decode cX17_sells 45 = .ok (.getfield 37, 3) := dk_180 0 37 (dk_at dksX17_sells_2 0 rfl rfl)
theorem dX17_sells_48 : decode cX17_sells 48 = .ok (.iload_n 1, 1) := dk_27 (dk_at dksX17_sells_2 3 rfl rfl)
theorem dX17_sells_49 : decode cX17_sells 49 = .ok (.invokevirtual 47, 3) := dk_182 0 47 (dk_at dksX17_sells_2 4 rfl rfl)
theorem dX17_sells_52 : decode cX17_sells 52 = .ok (.checkcast 51, 3) := dk_192 0 51 (dk_at dksX17_sells_2 7 rfl rfl)
theorem dX17_sells_55 : decode cX17_sells 55 = .ok (.getfield 84, 3) := dk_180 0 84 (dk_at dksX17_sells_2 10 rfl rfl)
theorem dX17_sells_58 : decode cX17_sells 58 = .ok (.baload, 1) := dk_51 (dk_at dksX17_sells_2 13 rfl rfl)
theorem dX17_sells_59 : decode cX17_sells 59 = .ok (.ifCond .ne 79, 3) := dk_154 0 79 (dk_at dksX17_sells_2 14 rfl rfl)
theorem dX17_sells_62 : decode cX17_sells 62 = .ok (.aload_n 0, 1) := dk_42 (dk_at dksX17_sells_2 17 rfl rfl)
theorem dX17_sells_63 : decode cX17_sells 63 = .ok (.getfield 3, 3) := dk_180 0 3 (dk_at dksX17_sells_2 18 rfl rfl)
theorem dX17_sells_66 : decode cX17_sells 66 = .ok (.getfield 37, 3) := dk_180 0 37 (dk_at dksX17_sells_2 21 rfl rfl)
theorem dX17_sells_69 : decode cX17_sells 69 = .ok (.iload_n 1, 1) := dk_27 (dk_at dksX17_sells_3 0 rfl rfl)
theorem dX17_sells_70 : decode cX17_sells 70 = .ok (.invokevirtual 47, 3) := dk_182 0 47 (dk_at dksX17_sells_3 1 rfl rfl)
theorem dX17_sells_73 : decode cX17_sells 73 = .ok (.checkcast 51, 3) := dk_192 0 51 (dk_at dksX17_sells_3 4 rfl rfl)
theorem dX17_sells_76 : decode cX17_sells 76 = .ok (.aload_n 0, 1) := dk_42 (dk_at dksX17_sells_3 7 rfl rfl)
theorem dX17_sells_77 : decode cX17_sells 77 = .ok (.getfield 26, 3) := dk_180 0 26 (dk_at dksX17_sells_3 8 rfl rfl)
theorem dX17_sells_80 : decode cX17_sells 80 = .ok (.aload_n 0, 1) := dk_42 (dk_at dksX17_sells_3 11 rfl rfl)
theorem dX17_sells_81 : decode cX17_sells 81 = .ok (.getfield 30, 3) := dk_180 0 30 (dk_at dksX17_sells_3 12 rfl rfl)
theorem dX17_sells_84 : decode cX17_sells 84 = .ok (.aload_n 0, 1) := dk_42 (dk_at dksX17_sells_3 15 rfl rfl)
theorem dX17_sells_85 : decode cX17_sells 85 = .ok (.getfield 3, 3) := dk_180 0 3 (dk_at dksX17_sells_3 16 rfl rfl)
theorem dX17_sells_88 : decode cX17_sells 88 = .ok (.getfield 97, 3) := dk_180 0 97 (dk_at dksX17_sells_3 19 rfl rfl)
theorem dX17_sells_91 : decode cX17_sells 91 = .ok (.aload_n 0, 1) := dk_42 (dk_at dksX17_sells_3 22 rfl rfl)
theorem dX17_sells_92 : decode cX17_sells 92 = .ok (.getfield 26, 3) := dk_180 0 26 (dk_at dksX17_sells_4 0 rfl rfl)
theorem dX17_sells_95 : decode cX17_sells 95 = .ok (.getfield 100, 3) := dk_180 0 100 (dk_at dksX17_sells_4 3 rfl rfl)
theorem dX17_sells_98 : decode cX17_sells 98 = .ok (.invokevirtual 47, 3) := dk_182 0 47 (dk_at dksX17_sells_4 6 rfl rfl)
theorem dX17_sells_101 : decode cX17_sells 101 = .ok (.checkcast 103, 3) := dk_192 0 103 (dk_at dksX17_sells_4 9 rfl rfl)
theorem dX17_sells_104 : decode cX17_sells 104 = .ok (.getfield 105, 3) := dk_180 0 105 (dk_at dksX17_sells_4 12 rfl rfl)
theorem dX17_sells_107 : decode cX17_sells 107 = .ok (.invokevirtual 108, 3) := dk_182 0 108 (dk_at dksX17_sells_4 15 rfl rfl)
theorem dX17_sells_110 : decode cX17_sells 110 = .ok (.ifCond .eq 28, 3) := dk_153 0 28 (dk_at dksX17_sells_4 18 rfl rfl)
theorem dX17_sells_113 : decode cX17_sells 113 = .ok (.aload_n 0, 1) := dk_42 (dk_at dksX17_sells_4 21 rfl rfl)
theorem dX17_sells_114 : decode cX17_sells 114 = .ok (.getfield 94, 3) := dk_180 0 94 (dk_at dksX17_sells_5 0 rfl rfl)
theorem dX17_sells_117 : decode cX17_sells 117 = .ok (.iconst (-1), 1) := dk_2 (dk_at dksX17_sells_5 3 rfl rfl)
theorem dX17_sells_118 : decode cX17_sells 118 = .ok (.if_icmp .eq 15, 3) := dk_159 0 15 (dk_at dksX17_sells_5 4 rfl rfl)
theorem dX17_sells_121 : decode cX17_sells 121 = .ok (.aload_n 0, 1) := dk_42 (dk_at dksX17_sells_5 7 rfl rfl)
theorem dX17_sells_122 : decode cX17_sells 122 = .ok (.iload_n 1, 1) := dk_27 (dk_at dksX17_sells_5 8 rfl rfl)
theorem dX17_sells_123 : decode cX17_sells 123 = .ok (.aload_n 0, 1) := dk_42 (dk_at dksX17_sells_5 9 rfl rfl)
theorem dX17_sells_124 : decode cX17_sells 124 = .ok (.getfield 94, 3) := dk_180 0 94 (dk_at dksX17_sells_5 10 rfl rfl)
theorem dX17_sells_127 : decode cX17_sells 127 = .ok (.invokevirtual 112, 3) := dk_182 0 112 (dk_at dksX17_sells_5 13 rfl rfl)
theorem dX17_sells_130 : decode cX17_sells 130 = .ok (.ifCond .eq 8, 3) := dk_153 0 8 (dk_at dksX17_sells_5 16 rfl rfl)
theorem dX17_sells_133 : decode cX17_sells 133 = .ok (.aload_n 0, 1) := dk_42 (dk_at dksX17_sells_5 19 rfl rfl)
theorem dX17_sells_134 : decode cX17_sells 134 = .ok (.iload_n 1, 1) := dk_27 (dk_at dksX17_sells_5 20 rfl rfl)
theorem dX17_sells_135 : decode cX17_sells 135 = .ok (.putfield 94, 3) := dk_181 0 94 (dk_at dksX17_sells_5 21 rfl rfl)
theorem dX17_sells_138 : decode cX17_sells 138 = .ok (.iinc 1 1, 3) := dk_132 1 1 (dk_at dksX17_sells_6 0 rfl rfl)
theorem dX17_sells_141 : decode cX17_sells 141 = .ok (.goto (-127), 3) := dk_167 255 129 (dk_at dksX17_sells_6 3 rfl rfl)
theorem dX17_sells_144 : decode cX17_sells 144 = .ok (.aload_n 0, 1) := dk_42 (dk_at dksX17_sells_6 6 rfl rfl)
theorem dX17_sells_145 : decode cX17_sells 145 = .ok (.getfield 94, 3) := dk_180 0 94 (dk_at dksX17_sells_6 7 rfl rfl)
theorem dX17_sells_148 : decode cX17_sells 148 = .ok (.iconst (-1), 1) := dk_2 (dk_at dksX17_sells_6 10 rfl rfl)
theorem dX17_sells_149 : decode cX17_sells 149 = .ok (.if_icmp .ne 5, 3) := dk_160 0 5 (dk_at dksX17_sells_6 11 rfl rfl)
theorem dX17_sells_152 : decode cX17_sells 152 = .ok (.iconst 0, 1) := dk_3 (dk_at dksX17_sells_6 14 rfl rfl)
theorem dX17_sells_153 : decode cX17_sells 153 = .ok (.ireturn, 1) := dk_172 (dk_at dksX17_sells_6 15 rfl rfl)
theorem dX17_sells_154 : decode cX17_sells 154 = .ok (.aload_n 0, 1) := dk_42 (dk_at dksX17_sells_6 16 rfl rfl)
theorem dX17_sells_155 : decode cX17_sells 155 = .ok (.aload_n 0, 1) := dk_42 (dk_at dksX17_sells_6 17 rfl rfl)
theorem dX17_sells_156 : decode cX17_sells 156 = .ok (.getfield 72, 3) := dk_180 0 72 (dk_at dksX17_sells_6 18 rfl rfl)
theorem dX17_sells_159 : decode cX17_sells 159 = .ok (.aload_n 0, 1) := dk_42 (dk_at dksX17_sells_6 21 rfl rfl)
theorem dX17_sells_160 : decode cX17_sells 160 = .ok (.aload_n 0, 1) := dk_42 (dk_at dksX17_sells_6 22 rfl rfl)
theorem dX17_sells_161 : decode cX17_sells 161 = .ok (.getfield 94, 3) := dk_180 0 94 (dk_at dksX17_sells_7 0 rfl rfl)
theorem dX17_sells_164 : decode cX17_sells 164 = .ok (.invokevirtual 90, 3) := dk_182 0 90 (dk_at dksX17_sells_7 3 rfl rfl)
theorem dX17_sells_167 : decode cX17_sells 167 = .ok (.isub, 1) := dk_100 (dk_at dksX17_sells_7 6 rfl rfl)
theorem dX17_sells_168 : decode cX17_sells 168 = .ok (.putfield 116, 3) := dk_181 0 116 (dk_at dksX17_sells_7 7 rfl rfl)
theorem dX17_sells_171 : decode cX17_sells 171 = .ok (.aload_n 0, 1) := dk_42 (dk_at dksX17_sells_7 10 rfl rfl)
theorem dX17_sells_172 : decode cX17_sells 172 = .ok (.getfield 116, 3) := dk_180 0 116 (dk_at dksX17_sells_7 11 rfl rfl)
theorem dX17_sells_175 : decode cX17_sells 175 = .ok (.aload_n 0, 1) := dk_42 (dk_at dksX17_sells_7 14 rfl rfl)
theorem dX17_sells_176 : decode cX17_sells 176 = .ok (.getfield 34, 3) := dk_180 0 34 (dk_at dksX17_sells_7 15 rfl rfl)
theorem dX17_sells_179 : decode cX17_sells 179 = .ok (.if_icmp .ge 5, 3) := dk_162 0 5 (dk_at dksX17_sells_7 18 rfl rfl)
theorem dX17_sells_182 : decode cX17_sells 182 = .ok (.iconst 0, 1) := dk_3 (dk_at dksX17_sells_7 21 rfl rfl)
theorem dX17_sells_183 : decode cX17_sells 183 = .ok (.ireturn, 1) := dk_172 (dk_at dksX17_sells_7 22 rfl rfl)
theorem dX17_sells_184 : decode cX17_sells 184 = .ok (.aload_n 0, 1) := dk_42 (dk_at dksX17_sells_7 23 rfl rfl)
theorem dX17_sells_185 : decode cX17_sells 185 = .ok (.getfield 3, 3) := dk_180 0 3 (dk_at dksX17_sells_8 0 rfl rfl)
theorem dX17_sells_188 : decode cX17_sells 188 = .ok (.getfield 37, 3) := dk_180 0 37 (dk_at dksX17_sells_8 3 rfl rfl)
theorem dX17_sells_191 : decode cX17_sells 191 = .ok (.aload_n 0, 1) := dk_42 (dk_at dksX17_sells_8 6 rfl rfl)
theorem dX17_sells_192 : decode cX17_sells 192 = .ok (.getfield 94, 3) := dk_180 0 94 (dk_at dksX17_sells_8 7 rfl rfl)
theorem dX17_sells_195 : decode cX17_sells 195 = .ok (.invokevirtual 47, 3) := dk_182 0 47 (dk_at dksX17_sells_8 10 rfl rfl)
theorem dX17_sells_198 : decode cX17_sells 198 = .ok (.checkcast 51, 3) := dk_192 0 51 (dk_at dksX17_sells_8 13 rfl rfl)
theorem dX17_sells_201 : decode cX17_sells 201 = .ok (.getfield 84, 3) := dk_180 0 84 (dk_at dksX17_sells_8 16 rfl rfl)
theorem dX17_sells_204 : decode cX17_sells 204 = .ok (.istore_n 1, 1) := dk_60 (dk_at dksX17_sells_8 19 rfl rfl)
theorem dX17_sells_205 : decode cX17_sells 205 = .ok (.aload_n 0, 1) := dk_42 (dk_at dksX17_sells_8 20 rfl rfl)
theorem dX17_sells_206 : decode cX17_sells 206 = .ok (.aload_n 0, 1) := dk_42 (dk_at dksX17_sells_8 21 rfl rfl)
theorem dX17_sells_207 : decode cX17_sells 207 = .ok (.getfield 15, 3) := dk_180 0 15 (dk_at dksX17_sells_9 0 rfl rfl)
theorem dX17_sells_210 : decode cX17_sells 210 = .ok (.aload_n 0, 1) := dk_42 (dk_at dksX17_sells_9 3 rfl rfl)
theorem dX17_sells_211 : decode cX17_sells 211 = .ok (.getfield 94, 3) := dk_180 0 94 (dk_at dksX17_sells_9 4 rfl rfl)
theorem dX17_sells_214 : decode cX17_sells 214 = .ok (.iaload, 1) := dk_46 (dk_at dksX17_sells_9 7 rfl rfl)
theorem dX17_sells_215 : decode cX17_sells 215 = .ok (.aload_n 0, 1) := dk_42 (dk_at dksX17_sells_9 8 rfl rfl)
theorem dX17_sells_216 : decode cX17_sells 216 = .ok (.getfield 67, 3) := dk_180 0 67 (dk_at dksX17_sells_9 9 rfl rfl)
theorem dX17_sells_219 : decode cX17_sells 219 = .ok (.invokestatic 119, 3) := dk_184 0 119 (dk_at dksX17_sells_9 12 rfl rfl)
theorem dX17_sells_222 : decode cX17_sells 222 = .ok (.iconst 0, 1) := dk_3 (dk_at dksX17_sells_9 15 rfl rfl)
theorem dX17_sells_223 : decode cX17_sells 223 = .ok (.aload_n 0, 1) := dk_42 (dk_at dksX17_sells_9 16 rfl rfl)
theorem dX17_sells_224 : decode cX17_sells 224 = .ok (.getfield 19, 3) := dk_180 0 19 (dk_at dksX17_sells_9 17 rfl rfl)
theorem dX17_sells_227 : decode cX17_sells 227 = .ok (.iload_n 1, 1) := dk_27 (dk_at dksX17_sells_9 20 rfl rfl)
theorem dX17_sells_228 : decode cX17_sells 228 = .ok (.iaload, 1) := dk_46 (dk_at dksX17_sells_9 21 rfl rfl)
theorem dX17_sells_229 : decode cX17_sells 229 = .ok (.invokestatic 78, 3) := dk_184 0 78 (dk_at dksX17_sells_10 0 rfl rfl)
theorem dX17_sells_232 : decode cX17_sells 232 = .ok (.aload_n 0, 1) := dk_42 (dk_at dksX17_sells_10 3 rfl rfl)
theorem dX17_sells_233 : decode cX17_sells 233 = .ok (.getfield 116, 3) := dk_180 0 116 (dk_at dksX17_sells_10 4 rfl rfl)
theorem dX17_sells_236 : decode cX17_sells 236 = .ok (.idiv, 1) := dk_108 (dk_at dksX17_sells_10 7 rfl rfl)
theorem dX17_sells_237 : decode cX17_sells 237 = .ok (.invokestatic 119, 3) := dk_184 0 119 (dk_at dksX17_sells_10 8 rfl rfl)
theorem dX17_sells_240 : decode cX17_sells 240 = .ok (.putfield 122, 3) := dk_181 0 122 (dk_at dksX17_sells_10 11 rfl rfl)
theorem dX17_sells_243 : decode cX17_sells 243 = .ok (.aload_n 0, 1) := dk_42 (dk_at dksX17_sells_10 14 rfl rfl)
theorem dX17_sells_244 : decode cX17_sells 244 = .ok (.getfield 122, 3) := dk_180 0 122 (dk_at dksX17_sells_10 15 rfl rfl)
theorem dX17_sells_247 : decode cX17_sells 247 = .ok (.ifCond .ne 13, 3) := dk_154 0 13 (dk_at dksX17_sells_10 18 rfl rfl)
theorem dX17_sells_250 : decode cX17_sells 250 = .ok (.aload_n 0, 1) := dk_42 (dk_at dksX17_sells_10 21 rfl rfl)
theorem dX17_sells_251 : decode cX17_sells 251 = .ok (.getfield 22, 3) := dk_180 0 22 (dk_at dksX17_sells_11 0 rfl rfl)
theorem dX17_sells_254 : decode cX17_sells 254 = .ok (.iload_n 1, 1) := dk_27 (dk_at dksX17_sells_11 3 rfl rfl)
theorem dX17_sells_255 : decode cX17_sells 255 = .ok (.iconst 1, 1) := dk_4 (dk_at dksX17_sells_11 4 rfl rfl)
theorem dX17_sells_256 : decode cX17_sells 256 = .ok (.bastore, 1) := dk_84 (dk_at dksX17_sells_11 5 rfl rfl)
theorem dX17_sells_257 : decode cX17_sells 257 = .ok (.goto 10, 3) := dk_167 0 10 (dk_at dksX17_sells_11 6 rfl rfl)
theorem dX17_sells_260 : decode cX17_sells 260 = .ok (.aload_n 0, 1) := dk_42 (dk_at dksX17_sells_11 9 rfl rfl)
theorem dX17_sells_261 : decode cX17_sells 261 = .ok (.iload_n 1, 1) := dk_27 (dk_at dksX17_sells_11 10 rfl rfl)
theorem dX17_sells_262 : decode cX17_sells 262 = .ok (.invokevirtual 125, 3) := dk_182 0 125 (dk_at dksX17_sells_11 11 rfl rfl)
theorem dX17_sells_265 : decode cX17_sells 265 = .ok (.iconst 1, 1) := dk_4 (dk_at dksX17_sells_11 14 rfl rfl)
theorem dX17_sells_266 : decode cX17_sells 266 = .ok (.ireturn, 1) := dk_172 (dk_at dksX17_sells_11 15 rfl rfl)
theorem dX17_sells_267 : decode cX17_sells 267 = .ok (.goto (-267), 3) := dk_167 254 245 (dk_at dksX17_sells_11 16 rfl rfl)
theorem dX17_sells_270 : decode cX17_sells 270 = .ok (.iconst 0, 1) := dk_3 (dk_at dksX17_sells_11 19 rfl rfl)
theorem dX17_sells_271 : decode cX17_sells 271 = .ok (.ireturn, 1) := dk_172 (dk_at dksX17_sells_11 20 rfl rfl)
abbrev cX17_isBefore : ByteArray := prog_15_method_4_code
def yX17_isBefore : MethodName := ⟨RX17, "isBefore", "(II)Z"⟩
def dkwX17_isBefore_3 : List UInt8 := [167, 0, 4, 3, 172]
abbrev dktX17_isBefore_3 : List UInt8 := dkwX17_isBefore_3 ++ []
def dkwX17_isBefore_2 : List UInt8 := [180, 0, 84, 42, 180, 0, 3, 180, 0, 37, 28, 182, 0, 47, 192, 0, 51, 180, 0, 84, 162, 0, 7, 4]
abbrev dktX17_isBefore_2 : List UInt8 := dkwX17_isBefore_2 ++ dktX17_isBefore_3
def dkwX17_isBefore_1 : List UInt8 := [162, 0, 7, 4, 167, 0, 4, 3, 172, 42, 180, 0, 3, 180, 0, 37, 27, 182, 0, 47, 192, 0, 51]
abbrev dktX17_isBefore_1 : List UInt8 := dkwX17_isBefore_1 ++ dktX17_isBefore_2
def dkwX17_isBefore_0 : List UInt8 := [42, 27, 182, 0, 90, 42, 28, 182, 0, 90, 159, 0, 22, 42, 27, 182, 0, 90, 42, 28, 182, 0, 90]
abbrev dktX17_isBefore_0 : List UInt8 := dkwX17_isBefore_0 ++ dktX17_isBefore_1
theorem dksX17_isBefore_0 : cX17_isBefore.data.toList.drop 0 = dktX17_isBefore_0 := by decide +kernel
theorem dksX17_isBefore_1 : cX17_isBefore.data.toList.drop 23 = dktX17_isBefore_1 := dk_seg dksX17_isBefore_0 23 rfl rfl
theorem dksX17_isBefore_2 : cX17_isBefore.data.toList.drop 46 = dktX17_isBefore_2 := dk_seg dksX17_isBefore_1 23 rfl rfl
theorem dksX17_isBefore_3 : cX17_isBefore.data.toList.drop 70 = dktX17_isBefore_3 := dk_seg dksX17_isBefore_2 24 rfl rfl
theorem dX17_isBefore_0 : decode cX17_isBefore 0 = .ok (.aload_n 0, 1) := dk_42 (dk_at dksX17_isBefore_0 0 rfl rfl)
theorem dX17_isBefore_1 : decode cX17_isBefore 1 = .ok (.iload_n 1, 1) := dk_27 (dk_at dksX17_isBefore_0 1 rfl rfl)
theorem dX17_isBefore_2 : decode cX17_isBefore 2 = .ok (.invokevirtual 90, 3) := dk_182 0 90 (dk_at dksX17_isBefore_0 2 rfl rfl)
theorem dX17_isBefore_5 : decode cX17_isBefore 5 = .ok (.aload_n 0, 1) := dk_42 (dk_at dksX17_isBefore_0 5 rfl rfl)
theorem dX17_isBefore_6 : decode cX17_isBefore 6 = .ok (.iload_n 2, 1) := dk_28 (dk_at dksX17_isBefore_0 6 rfl rfl)
theorem dX17_isBefore_7 : decode cX17_isBefore 7 = .ok (.invokevirtual 90, 3) := dk_182 0 90 (dk_at dksX17_isBefore_0 7 rfl rfl)
theorem dX17_isBefore_10 : decode cX17_isBefore 10 = .ok (.if_icmp .eq 22, 3) := dk_159 0 22 (dk_at dksX17_isBefore_0 10 rfl rfl)
theorem dX17_isBefore_13 : decode cX17_isBefore 13 = .ok (.aload_n 0, 1) := dk_42 (dk_at dksX17_isBefore_0 13 rfl rfl)
theorem dX17_isBefore_14 : decode cX17_isBefore 14 = .ok (.iload_n 1, 1) := dk_27 (dk_at dksX17_isBefore_0 14 rfl rfl)
theorem dX17_isBefore_15 : decode cX17_isBefore 15 = .ok (.invokevirtual 90, 3) := dk_182 0 90 (dk_at dksX17_isBefore_0 15 rfl rfl)
theorem dX17_isBefore_18 : decode cX17_isBefore 18 = .ok (.aload_n 0, 1) := dk_42 (dk_at dksX17_isBefore_0 18 rfl rfl)
theorem dX17_isBefore_19 : decode cX17_isBefore 19 = .ok (.iload_n 2, 1) := dk_28 (dk_at dksX17_isBefore_0 19 rfl rfl)
theorem dX17_isBefore_20 : decode cX17_isBefore 20 = .ok (.invokevirtual 90, 3) := dk_182 0 90 (dk_at dksX17_isBefore_0 20 rfl rfl)
theorem dX17_isBefore_23 : decode cX17_isBefore 23 = .ok (.if_icmp .ge 7, 3) := dk_162 0 7 (dk_at dksX17_isBefore_1 0 rfl rfl)
theorem dX17_isBefore_26 : decode cX17_isBefore 26 = .ok (.iconst 1, 1) := dk_4 (dk_at dksX17_isBefore_1 3 rfl rfl)
theorem dX17_isBefore_27 : decode cX17_isBefore 27 = .ok (.goto 4, 3) := dk_167 0 4 (dk_at dksX17_isBefore_1 4 rfl rfl)
theorem dX17_isBefore_30 : decode cX17_isBefore 30 = .ok (.iconst 0, 1) := dk_3 (dk_at dksX17_isBefore_1 7 rfl rfl)
theorem dX17_isBefore_31 : decode cX17_isBefore 31 = .ok (.ireturn, 1) := dk_172 (dk_at dksX17_isBefore_1 8 rfl rfl)
theorem dX17_isBefore_32 : decode cX17_isBefore 32 = .ok (.aload_n 0, 1) := dk_42 (dk_at dksX17_isBefore_1 9 rfl rfl)
theorem dX17_isBefore_33 : decode cX17_isBefore 33 = .ok (.getfield 3, 3) := dk_180 0 3 (dk_at dksX17_isBefore_1 10 rfl rfl)
theorem dX17_isBefore_36 : decode cX17_isBefore 36 = .ok (.getfield 37, 3) := dk_180 0 37 (dk_at dksX17_isBefore_1 13 rfl rfl)
theorem dX17_isBefore_39 : decode cX17_isBefore 39 = .ok (.iload_n 1, 1) := dk_27 (dk_at dksX17_isBefore_1 16 rfl rfl)
theorem dX17_isBefore_40 : decode cX17_isBefore 40 = .ok (.invokevirtual 47, 3) := dk_182 0 47 (dk_at dksX17_isBefore_1 17 rfl rfl)
theorem dX17_isBefore_43 : decode cX17_isBefore 43 = .ok (.checkcast 51, 3) := dk_192 0 51 (dk_at dksX17_isBefore_1 20 rfl rfl)
theorem dX17_isBefore_46 : decode cX17_isBefore 46 = .ok (.getfield 84, 3) := dk_180 0 84 (dk_at dksX17_isBefore_2 0 rfl rfl)
theorem dX17_isBefore_49 : decode cX17_isBefore 49 = .ok (.aload_n 0, 1) := dk_42 (dk_at dksX17_isBefore_2 3 rfl rfl)
theorem dX17_isBefore_50 : decode cX17_isBefore 50 = .ok (.getfield 3, 3) := dk_180 0 3 (dk_at dksX17_isBefore_2 4 rfl rfl)
theorem dX17_isBefore_53 : decode cX17_isBefore 53 = .ok (.getfield 37, 3) := dk_180 0 37 (dk_at dksX17_isBefore_2 7 rfl rfl)
theorem dX17_isBefore_56 : decode cX17_isBefore 56 = .ok (.iload_n 2, 1) := dk_28 (dk_at dksX17_isBefore_2 10 rfl rfl)
theorem dX17_isBefore_57 : decode cX17_isBefore 57 = .ok (.invokevirtual 47, 3) := dk_182 0 47 (dk_at dksX17_isBefore_2 11 rfl rfl)
theorem dX17_isBefore_60 : decode cX17_isBefore 60 = .ok (.checkcast 51, 3) := dk_192 0 51 (dk_at dksX17_isBefore_2 14 rfl rfl)
theorem dX17_isBefore_63 : decode cX17_isBefore 63 = .ok (.getfield 84, 3) := dk_180 0 84 (dk_at dksX17_isBefore_2 17 rfl rfl)
theorem dX17_isBefore_66 : decode cX17_isBefore 66 = .ok (.if_icmp .ge 7, 3) := dk_162 0 7 (dk_at dksX17_isBefore_2 20 rfl rfl)
theorem dX17_isBefore_69 : decode cX17_isBefore 69 = .ok (.iconst 1, 1) := dk_4 (dk_at dksX17_isBefore_2 23 rfl rfl)
theorem dX17_isBefore_70 : decode cX17_isBefore 70 = .ok (.goto 4, 3) := dk_167 0 4 (dk_at dksX17_isBefore_3 0 rfl rfl)
theorem dX17_isBefore_73 : decode cX17_isBefore 73 = .ok (.iconst 0, 1) := dk_3 (dk_at dksX17_isBefore_3 3 rfl rfl)
theorem dX17_isBefore_74 : decode cX17_isBefore 74 = .ok (.ireturn, 1) := dk_172 (dk_at dksX17_isBefore_3 4 rfl rfl)
abbrev cX17_stamp : ByteArray := prog_15_method_3_code
def yX17_stamp : MethodName := ⟨RX17, "stamp", "(I)I"⟩
def dkwX17_stamp_2 : List UInt8 := [180, 0, 84, 182, 0, 47, 192, 0, 58, 182, 0, 87, 96, 172]
abbrev dktX17_stamp_2 : List UInt8 := dkwX17_stamp_2 ++ []
def dkwX17_stamp_1 : List UInt8 := [184, 0, 78, 42, 180, 0, 3, 180, 0, 55, 42, 180, 0, 3, 180, 0, 37, 27, 182, 0, 47, 192, 0, 51]
abbrev dktX17_stamp_1 : List UInt8 := dkwX17_stamp_1 ++ dktX17_stamp_2
def dkwX17_stamp_0 : List UInt8 := [3, 42, 180, 0, 72, 42, 180, 0, 3, 180, 0, 37, 27, 182, 0, 47, 192, 0, 51, 180, 0, 75, 100]
abbrev dktX17_stamp_0 : List UInt8 := dkwX17_stamp_0 ++ dktX17_stamp_1
theorem dksX17_stamp_0 : cX17_stamp.data.toList.drop 0 = dktX17_stamp_0 := by decide +kernel
theorem dksX17_stamp_1 : cX17_stamp.data.toList.drop 23 = dktX17_stamp_1 := dk_seg dksX17_stamp_0 23 rfl rfl
theorem dksX17_stamp_2 : cX17_stamp.data.toList.drop 47 = dktX17_stamp_2 := dk_seg dksX17_stamp_1 24 rfl rfl
theorem dX17_stamp_0 : decode cX17_stamp 0 = .ok (.iconst 0, 1) := dk_3 (dk_at dksX17_stamp_0 0 rfl rfl)
theorem dX17_stamp_1 : decode cX17_stamp 1 = .ok (.aload_n 0, 1) := dk_42 (dk_at dksX17_stamp_0 1 rfl rfl)
theorem dX17_stamp_2 : decode cX17_stamp 2 = .ok (.getfield 72, 3) := dk_180 0 72 (dk_at dksX17_stamp_0 2 rfl rfl)
theorem dX17_stamp_5 : decode cX17_stamp 5 = .ok (.aload_n 0, 1) := dk_42 (dk_at dksX17_stamp_0 5 rfl rfl)
theorem dX17_stamp_6 : decode cX17_stamp 6 = .ok (.getfield 3, 3) := dk_180 0 3 (dk_at dksX17_stamp_0 6 rfl rfl)
theorem dX17_stamp_9 : decode cX17_stamp 9 = .ok (.getfield 37, 3) := dk_180 0 37 (dk_at dksX17_stamp_0 9 rfl rfl)
theorem dX17_stamp_12 : decode cX17_stamp 12 = .ok (.iload_n 1, 1) := dk_27 (dk_at dksX17_stamp_0 12 rfl rfl)
theorem dX17_stamp_13 : decode cX17_stamp 13 = .ok (.invokevirtual 47, 3) := dk_182 0 47 (dk_at dksX17_stamp_0 13 rfl rfl)
theorem dX17_stamp_16 : decode cX17_stamp 16 = .ok (.checkcast 51, 3) := dk_192 0 51 (dk_at dksX17_stamp_0 16 rfl rfl)
theorem dX17_stamp_19 : decode cX17_stamp 19 = .ok (.getfield 75, 3) := dk_180 0 75 (dk_at dksX17_stamp_0 19 rfl rfl)
theorem dX17_stamp_22 : decode cX17_stamp 22 = .ok (.isub, 1) := dk_100 (dk_at dksX17_stamp_0 22 rfl rfl)
theorem dX17_stamp_23 : decode cX17_stamp 23 = .ok (.invokestatic 78, 3) := dk_184 0 78 (dk_at dksX17_stamp_1 0 rfl rfl)
theorem dX17_stamp_26 : decode cX17_stamp 26 = .ok (.aload_n 0, 1) := dk_42 (dk_at dksX17_stamp_1 3 rfl rfl)
theorem dX17_stamp_27 : decode cX17_stamp 27 = .ok (.getfield 3, 3) := dk_180 0 3 (dk_at dksX17_stamp_1 4 rfl rfl)
theorem dX17_stamp_30 : decode cX17_stamp 30 = .ok (.getfield 55, 3) := dk_180 0 55 (dk_at dksX17_stamp_1 7 rfl rfl)
theorem dX17_stamp_33 : decode cX17_stamp 33 = .ok (.aload_n 0, 1) := dk_42 (dk_at dksX17_stamp_1 10 rfl rfl)
theorem dX17_stamp_34 : decode cX17_stamp 34 = .ok (.getfield 3, 3) := dk_180 0 3 (dk_at dksX17_stamp_1 11 rfl rfl)
theorem dX17_stamp_37 : decode cX17_stamp 37 = .ok (.getfield 37, 3) := dk_180 0 37 (dk_at dksX17_stamp_1 14 rfl rfl)
theorem dX17_stamp_40 : decode cX17_stamp 40 = .ok (.iload_n 1, 1) := dk_27 (dk_at dksX17_stamp_1 17 rfl rfl)
theorem dX17_stamp_41 : decode cX17_stamp 41 = .ok (.invokevirtual 47, 3) := dk_182 0 47 (dk_at dksX17_stamp_1 18 rfl rfl)
theorem dX17_stamp_44 : decode cX17_stamp 44 = .ok (.checkcast 51, 3) := dk_192 0 51 (dk_at dksX17_stamp_1 21 rfl rfl)
theorem dX17_stamp_47 : decode cX17_stamp 47 = .ok (.getfield 84, 3) := dk_180 0 84 (dk_at dksX17_stamp_2 0 rfl rfl)
theorem dX17_stamp_50 : decode cX17_stamp 50 = .ok (.invokevirtual 47, 3) := dk_182 0 47 (dk_at dksX17_stamp_2 3 rfl rfl)
theorem dX17_stamp_53 : decode cX17_stamp 53 = .ok (.checkcast 58, 3) := dk_192 0 58 (dk_at dksX17_stamp_2 6 rfl rfl)
theorem dX17_stamp_56 : decode cX17_stamp 56 = .ok (.invokevirtual 87, 3) := dk_182 0 87 (dk_at dksX17_stamp_2 9 rfl rfl)
theorem dX17_stamp_59 : decode cX17_stamp 59 = .ok (.iadd, 1) := dk_96 (dk_at dksX17_stamp_2 12 rfl rfl)
theorem dX17_stamp_60 : decode cX17_stamp 60 = .ok (.ireturn, 1) := dk_172 (dk_at dksX17_stamp_2 13 rfl rfl)
abbrev cX17_take : ByteArray := prog_15_method_6_code
def yX17_take : MethodName := ⟨RX17, "take", "(I)V"⟩
def dkwX17_take_4 : List UInt8 := [181, 0, 67, 42, 16, 99, 42, 180, 0, 116, 16, 10, 96, 184, 0, 119, 181, 0, 72, 177]
abbrev dktX17_take_4 : List UInt8 := dkwX17_take_4 ++ []
def dkwX17_take_3 : List UInt8 := [96, 100, 79, 42, 89, 180, 0, 71, 28, 100, 181, 0, 71, 42, 89, 180, 0, 67, 42, 180, 0, 122, 100]
abbrev dktX17_take_3 : List UInt8 := dkwX17_take_3 ++ dktX17_take_4
def dkwX17_take_2 : List UInt8 := [180, 0, 122, 100, 79, 42, 180, 0, 19, 27, 92, 46, 42, 180, 0, 116, 42, 180, 0, 122, 104, 5, 28, 104]
abbrev dktX17_take_2 : List UInt8 := dkwX17_take_2 ++ dktX17_take_3
def dkwX17_take_1 : List UInt8 := [180, 0, 122, 16, 20, 184, 0, 129, 184, 0, 119, 61, 42, 180, 0, 15, 42, 180, 0, 94, 92, 46, 42]
abbrev dktX17_take_1 : List UInt8 := dkwX17_take_1 ++ dktX17_take_2
def dkwX17_take_0 : List UInt8 := [42, 180, 0, 122, 42, 180, 0, 67, 160, 0, 10, 42, 180, 0, 71, 167, 0, 19, 42, 180, 0, 71, 42]
abbrev dktX17_take_0 : List UInt8 := dkwX17_take_0 ++ dktX17_take_1
theorem dksX17_take_0 : cX17_take.data.toList.drop 0 = dktX17_take_0 := by decide +kernel
theorem dksX17_take_1 : cX17_take.data.toList.drop 23 = dktX17_take_1 := dk_seg dksX17_take_0 23 rfl rfl
theorem dksX17_take_2 : cX17_take.data.toList.drop 46 = dktX17_take_2 := dk_seg dksX17_take_1 23 rfl rfl
theorem dksX17_take_3 : cX17_take.data.toList.drop 70 = dktX17_take_3 := dk_seg dksX17_take_2 24 rfl rfl
theorem dksX17_take_4 : cX17_take.data.toList.drop 93 = dktX17_take_4 := dk_seg dksX17_take_3 23 rfl rfl
theorem dX17_take_0 : decode cX17_take 0 = .ok (.aload_n 0, 1) := dk_42 (dk_at dksX17_take_0 0 rfl rfl)
theorem dX17_take_1 : decode cX17_take 1 = .ok (.getfield 122, 3) := dk_180 0 122 (dk_at dksX17_take_0 1 rfl rfl)
theorem dX17_take_4 : decode cX17_take 4 = .ok (.aload_n 0, 1) := dk_42 (dk_at dksX17_take_0 4 rfl rfl)
theorem dX17_take_5 : decode cX17_take 5 = .ok (.getfield 67, 3) := dk_180 0 67 (dk_at dksX17_take_0 5 rfl rfl)
theorem dX17_take_8 : decode cX17_take 8 = .ok (.if_icmp .ne 10, 3) := dk_160 0 10 (dk_at dksX17_take_0 8 rfl rfl)
theorem dX17_take_11 : decode cX17_take 11 = .ok (.aload_n 0, 1) := dk_42 (dk_at dksX17_take_0 11 rfl rfl)
theorem dX17_take_12 : decode cX17_take 12 = .ok (.getfield 71, 3) := dk_180 0 71 (dk_at dksX17_take_0 12 rfl rfl)
theorem dX17_take_15 : decode cX17_take 15 = .ok (.goto 19, 3) := dk_167 0 19 (dk_at dksX17_take_0 15 rfl rfl)
theorem dX17_take_18 : decode cX17_take 18 = .ok (.aload_n 0, 1) := dk_42 (dk_at dksX17_take_0 18 rfl rfl)
theorem dX17_take_19 : decode cX17_take 19 = .ok (.getfield 71, 3) := dk_180 0 71 (dk_at dksX17_take_0 19 rfl rfl)
theorem dX17_take_22 : decode cX17_take 22 = .ok (.aload_n 0, 1) := dk_42 (dk_at dksX17_take_0 22 rfl rfl)
theorem dX17_take_23 : decode cX17_take 23 = .ok (.getfield 122, 3) := dk_180 0 122 (dk_at dksX17_take_1 0 rfl rfl)
theorem dX17_take_26 : decode cX17_take 26 = .ok (.bipush 20, 2) := dk_16 20 (dk_at dksX17_take_1 3 rfl rfl)
theorem dX17_take_28 : decode cX17_take 28 = .ok (.invokestatic 129, 3) := dk_184 0 129 (dk_at dksX17_take_1 5 rfl rfl)
theorem dX17_take_31 : decode cX17_take 31 = .ok (.invokestatic 119, 3) := dk_184 0 119 (dk_at dksX17_take_1 8 rfl rfl)
theorem dX17_take_34 : decode cX17_take 34 = .ok (.istore_n 2, 1) := dk_61 (dk_at dksX17_take_1 11 rfl rfl)
theorem dX17_take_35 : decode cX17_take 35 = .ok (.aload_n 0, 1) := dk_42 (dk_at dksX17_take_1 12 rfl rfl)
theorem dX17_take_36 : decode cX17_take 36 = .ok (.getfield 15, 3) := dk_180 0 15 (dk_at dksX17_take_1 13 rfl rfl)
theorem dX17_take_39 : decode cX17_take 39 = .ok (.aload_n 0, 1) := dk_42 (dk_at dksX17_take_1 16 rfl rfl)
theorem dX17_take_40 : decode cX17_take 40 = .ok (.getfield 94, 3) := dk_180 0 94 (dk_at dksX17_take_1 17 rfl rfl)
theorem dX17_take_43 : decode cX17_take 43 = .ok (.dup2, 1) := dk_92 (dk_at dksX17_take_1 20 rfl rfl)
theorem dX17_take_44 : decode cX17_take 44 = .ok (.iaload, 1) := dk_46 (dk_at dksX17_take_1 21 rfl rfl)
theorem dX17_take_45 : decode cX17_take 45 = .ok (.aload_n 0, 1) := dk_42 (dk_at dksX17_take_1 22 rfl rfl)
theorem dX17_take_46 : decode cX17_take 46 = .ok (.getfield 122, 3) := dk_180 0 122 (dk_at dksX17_take_2 0 rfl rfl)
theorem dX17_take_49 : decode cX17_take 49 = .ok (.isub, 1) := dk_100 (dk_at dksX17_take_2 3 rfl rfl)
theorem dX17_take_50 : decode cX17_take 50 = .ok (.iastore, 1) := dk_79 (dk_at dksX17_take_2 4 rfl rfl)
theorem dX17_take_51 : decode cX17_take 51 = .ok (.aload_n 0, 1) := dk_42 (dk_at dksX17_take_2 5 rfl rfl)
theorem dX17_take_52 : decode cX17_take 52 = .ok (.getfield 19, 3) := dk_180 0 19 (dk_at dksX17_take_2 6 rfl rfl)
theorem dX17_take_55 : decode cX17_take 55 = .ok (.iload_n 1, 1) := dk_27 (dk_at dksX17_take_2 9 rfl rfl)
theorem dX17_take_56 : decode cX17_take 56 = .ok (.dup2, 1) := dk_92 (dk_at dksX17_take_2 10 rfl rfl)
theorem dX17_take_57 : decode cX17_take 57 = .ok (.iaload, 1) := dk_46 (dk_at dksX17_take_2 11 rfl rfl)
theorem dX17_take_58 : decode cX17_take 58 = .ok (.aload_n 0, 1) := dk_42 (dk_at dksX17_take_2 12 rfl rfl)
theorem dX17_take_59 : decode cX17_take 59 = .ok (.getfield 116, 3) := dk_180 0 116 (dk_at dksX17_take_2 13 rfl rfl)
theorem dX17_take_62 : decode cX17_take 62 = .ok (.aload_n 0, 1) := dk_42 (dk_at dksX17_take_2 16 rfl rfl)
theorem dX17_take_63 : decode cX17_take 63 = .ok (.getfield 122, 3) := dk_180 0 122 (dk_at dksX17_take_2 17 rfl rfl)
theorem dX17_take_66 : decode cX17_take 66 = .ok (.imul, 1) := dk_104 (dk_at dksX17_take_2 20 rfl rfl)
theorem dX17_take_67 : decode cX17_take 67 = .ok (.iconst 2, 1) := dk_5 (dk_at dksX17_take_2 21 rfl rfl)
theorem dX17_take_68 : decode cX17_take 68 = .ok (.iload_n 2, 1) := dk_28 (dk_at dksX17_take_2 22 rfl rfl)
theorem dX17_take_69 : decode cX17_take 69 = .ok (.imul, 1) := dk_104 (dk_at dksX17_take_2 23 rfl rfl)
theorem dX17_take_70 : decode cX17_take 70 = .ok (.iadd, 1) := dk_96 (dk_at dksX17_take_3 0 rfl rfl)
theorem dX17_take_71 : decode cX17_take 71 = .ok (.isub, 1) := dk_100 (dk_at dksX17_take_3 1 rfl rfl)
theorem dX17_take_72 : decode cX17_take 72 = .ok (.iastore, 1) := dk_79 (dk_at dksX17_take_3 2 rfl rfl)
theorem dX17_take_73 : decode cX17_take 73 = .ok (.aload_n 0, 1) := dk_42 (dk_at dksX17_take_3 3 rfl rfl)
theorem dX17_take_74 : decode cX17_take 74 = .ok (.dup, 1) := dk_89 (dk_at dksX17_take_3 4 rfl rfl)
theorem dX17_take_75 : decode cX17_take 75 = .ok (.getfield 71, 3) := dk_180 0 71 (dk_at dksX17_take_3 5 rfl rfl)
theorem dX17_take_78 : decode cX17_take 78 = .ok (.iload_n 2, 1) := dk_28 (dk_at dksX17_take_3 8 rfl rfl)
theorem dX17_take_79 : decode cX17_take 79 = .ok (.isub, 1) := dk_100 (dk_at dksX17_take_3 9 rfl rfl)
theorem dX17_take_80 : decode cX17_take 80 = .ok (.putfield 71, 3) := dk_181 0 71 (dk_at dksX17_take_3 10 rfl rfl)
theorem dX17_take_83 : decode cX17_take 83 = .ok (.aload_n 0, 1) := dk_42 (dk_at dksX17_take_3 13 rfl rfl)
theorem dX17_take_84 : decode cX17_take 84 = .ok (.dup, 1) := dk_89 (dk_at dksX17_take_3 14 rfl rfl)
theorem dX17_take_85 : decode cX17_take 85 = .ok (.getfield 67, 3) := dk_180 0 67 (dk_at dksX17_take_3 15 rfl rfl)
theorem dX17_take_88 : decode cX17_take 88 = .ok (.aload_n 0, 1) := dk_42 (dk_at dksX17_take_3 18 rfl rfl)
theorem dX17_take_89 : decode cX17_take 89 = .ok (.getfield 122, 3) := dk_180 0 122 (dk_at dksX17_take_3 19 rfl rfl)
theorem dX17_take_92 : decode cX17_take 92 = .ok (.isub, 1) := dk_100 (dk_at dksX17_take_3 22 rfl rfl)
theorem dX17_take_93 : decode cX17_take 93 = .ok (.putfield 67, 3) := dk_181 0 67 (dk_at dksX17_take_4 0 rfl rfl)
theorem dX17_take_96 : decode cX17_take 96 = .ok (.aload_n 0, 1) := dk_42 (dk_at dksX17_take_4 3 rfl rfl)
theorem dX17_take_97 : decode cX17_take 97 = .ok (.bipush 99, 2) := dk_16 99 (dk_at dksX17_take_4 4 rfl rfl)
theorem dX17_take_99 : decode cX17_take 99 = .ok (.aload_n 0, 1) := dk_42 (dk_at dksX17_take_4 6 rfl rfl)
theorem dX17_take_100 : decode cX17_take 100 = .ok (.getfield 116, 3) := dk_180 0 116 (dk_at dksX17_take_4 7 rfl rfl)
theorem dX17_take_103 : decode cX17_take 103 = .ok (.bipush 10, 2) := dk_16 10 (dk_at dksX17_take_4 10 rfl rfl)
theorem dX17_take_105 : decode cX17_take 105 = .ok (.iadd, 1) := dk_96 (dk_at dksX17_take_4 12 rfl rfl)
theorem dX17_take_106 : decode cX17_take 106 = .ok (.invokestatic 119, 3) := dk_184 0 119 (dk_at dksX17_take_4 13 rfl rfl)
theorem dX17_take_109 : decode cX17_take 109 = .ok (.putfield 72, 3) := dk_181 0 72 (dk_at dksX17_take_4 16 rfl rfl)
theorem dX17_take_112 : decode cX17_take 112 = .ok (.return_, 1) := dk_177 (dk_at dksX17_take_4 19 rfl rfl)
abbrev cX17_share : ByteArray := prog_15_method_7_code
def yX17_share : MethodName := ⟨RX17, "share", "()I"⟩
def dkwX17_share_0 : List UInt8 := [42, 180, 0, 116, 42, 180, 0, 122, 104, 42, 180, 0, 116, 42, 180, 0, 122, 104, 16, 20, 108, 100, 172]
abbrev dktX17_share_0 : List UInt8 := dkwX17_share_0 ++ []
theorem dksX17_share_0 : cX17_share.data.toList.drop 0 = dktX17_share_0 := by decide +kernel
theorem dX17_share_0 : decode cX17_share 0 = .ok (.aload_n 0, 1) := dk_42 (dk_at dksX17_share_0 0 rfl rfl)
theorem dX17_share_1 : decode cX17_share 1 = .ok (.getfield 116, 3) := dk_180 0 116 (dk_at dksX17_share_0 1 rfl rfl)
theorem dX17_share_4 : decode cX17_share 4 = .ok (.aload_n 0, 1) := dk_42 (dk_at dksX17_share_0 4 rfl rfl)
theorem dX17_share_5 : decode cX17_share 5 = .ok (.getfield 122, 3) := dk_180 0 122 (dk_at dksX17_share_0 5 rfl rfl)
theorem dX17_share_8 : decode cX17_share 8 = .ok (.imul, 1) := dk_104 (dk_at dksX17_share_0 8 rfl rfl)
theorem dX17_share_9 : decode cX17_share 9 = .ok (.aload_n 0, 1) := dk_42 (dk_at dksX17_share_0 9 rfl rfl)
theorem dX17_share_10 : decode cX17_share 10 = .ok (.getfield 116, 3) := dk_180 0 116 (dk_at dksX17_share_0 10 rfl rfl)
theorem dX17_share_13 : decode cX17_share 13 = .ok (.aload_n 0, 1) := dk_42 (dk_at dksX17_share_0 13 rfl rfl)
theorem dX17_share_14 : decode cX17_share 14 = .ok (.getfield 122, 3) := dk_180 0 122 (dk_at dksX17_share_0 14 rfl rfl)
theorem dX17_share_17 : decode cX17_share 17 = .ok (.imul, 1) := dk_104 (dk_at dksX17_share_0 17 rfl rfl)
theorem dX17_share_18 : decode cX17_share 18 = .ok (.bipush 20, 2) := dk_16 20 (dk_at dksX17_share_0 18 rfl rfl)
theorem dX17_share_20 : decode cX17_share 20 = .ok (.idiv, 1) := dk_108 (dk_at dksX17_share_0 20 rfl rfl)
theorem dX17_share_21 : decode cX17_share 21 = .ok (.isub, 1) := dk_100 (dk_at dksX17_share_0 21 rfl rfl)
theorem dX17_share_22 : decode cX17_share 22 = .ok (.ireturn, 1) := dk_172 (dk_at dksX17_share_0 22 rfl rfl)
theorem q95 : (Jvm.Cond.initialized "BloomclockModel$Clock") ∈ lw_all := lw_g (lw_at lw_m1 40 rfl) rfl
theorem q574 : (Jvm.Cond.selects "BloomclockModel$Clock" ({ cls := "java/lang/Object", name := "getClass", desc := "()Ljava/lang/Class;" } : Jvm.MethodName) ({ cls := "java/lang/Object", name := "getClass", desc := "()Ljava/lang/Class;" } : Jvm.MethodName)) ∈ lw_all := lw_g (lw_at lw_m3 39 rfl) rfl
theorem q1232 : (Jvm.Cond.fieldLinkNest "BloomclockModel$Clock" (97 : Nat) "BloomclockModel" "growers" "Ljava/util/ArrayList;" "BloomclockModel") ∈ lw_tbl := lw_at lw_m5 217 rfl
theorem q1236 : (Jvm.Cond.fieldLinkNest "BloomclockModel$Clock" (55 : Nat) "BloomclockModel" "buyers" "Ljava/util/ArrayList;" "BloomclockModel") ∈ lw_tbl := lw_at lw_m5 221 rfl
theorem q1238 : (Jvm.Cond.fieldLinkNest "BloomclockModel$Clock" (37 : Nat) "BloomclockModel" "orders" "Ljava/util/ArrayList;" "BloomclockModel") ∈ lw_tbl := lw_at lw_m5 223 rfl
theorem q1307 : (Jvm.Cond.fieldLink "BloomclockModel$Clock" (105 : Nat) "BloomclockModel$Grower" "mark" "I") ∈ lw_all := lw_g (lw_at lw_m6 52 rfl) rfl
theorem q1401 : (Jvm.Cond.fieldLink "BloomclockModel$Clock" (100 : Nat) "BloomclockModel$Lot" "grower" "I") ∈ lw_all := lw_g (lw_at lw_m6 146 rfl) rfl
theorem q1410 : (Jvm.Cond.fieldLink "BloomclockModel$Clock" (62 : Nat) "BloomclockModel$Lot" "stems" "I") ∈ lw_all := lw_g (lw_at lw_m6 155 rfl) rfl
theorem q1415 : (Jvm.Cond.fieldLink "BloomclockModel$Clock" (68 : Nat) "BloomclockModel$Lot" "buckets" "I") ∈ lw_all := lw_g (lw_at lw_m6 160 rfl) rfl
theorem q1586 : (Jvm.Cond.fieldLink "BloomclockModel$Clock" (60 : Nat) "BloomclockModel$Buyer" "coins" "I") ∈ lw_all := lw_g (lw_at lw_m7 91 rfl) rfl
theorem q1635 : (Jvm.Cond.fieldLink "BloomclockModel$Clock" (84 : Nat) "BloomclockModel$Order" "buyer" "I") ∈ lw_all := lw_g (lw_at lw_m7 140 rfl) rfl
theorem q1642 : (Jvm.Cond.fieldLink "BloomclockModel$Clock" (75 : Nat) "BloomclockModel$Order" "limit" "I") ∈ lw_all := lw_g (lw_at lw_m7 147 rfl) rfl
theorem q1644 : (Jvm.Cond.fieldLink "BloomclockModel$Clock" (53 : Nat) "BloomclockModel$Order" "wants" "I") ∈ lw_all := lw_g (lw_at lw_m7 149 rfl) rfl
theorem q1671 : (Jvm.Cond.instantiable "BloomclockModel$Clock" (13 : Nat)) ∈ lw_all := lw_g (lw_at lw_m7 176 rfl) rfl
theorem q1673 : (Jvm.Cond.instanceMethod ({ cls := "BloomclockModel$Clock", name := "<init>", desc := "(LBloomclockModel;)V" } : Jvm.MethodName)) ∈ lw_all := lw_g (lw_at lw_m7 178 rfl) rfl
theorem q1674 : (Jvm.Cond.code ({ cls := "BloomclockModel$Clock", name := "<init>", desc := "(LBloomclockModel;)V" } : Jvm.MethodName) prog_15_method_1_code (2 : Nat) (Option.none : Option Jvm.ClassFile.FieldType)) ∈ lw_all := lw_g (lw_at lw_m7 179 rfl) rfl
theorem q1675 : (Jvm.Cond.methodLink "BloomclockModel$Clock" (9 : Nat) ({ cls := "java/lang/Object", name := "<init>", desc := "()V" } : Jvm.MethodName)) ∈ lw_all := lw_g (lw_at lw_m7 180 rfl) rfl
theorem q1676 : (Jvm.Cond.fieldLink "BloomclockModel$Clock" (15 : Nat) "BloomclockModel$Clock" "wants" "[I") ∈ lw_all := lw_g (lw_at lw_m7 181 rfl) rfl
theorem q1677 : (Jvm.Cond.fieldLink "BloomclockModel$Clock" (19 : Nat) "BloomclockModel$Clock" "coins" "[I") ∈ lw_all := lw_g (lw_at lw_m7 182 rfl) rfl
theorem q1678 : (Jvm.Cond.fieldLink "BloomclockModel$Clock" (22 : Nat) "BloomclockModel$Clock" "isOut" "[Z") ∈ lw_all := lw_g (lw_at lw_m7 183 rfl) rfl
theorem q1679 : (Jvm.Cond.fieldLink "BloomclockModel$Clock" (72 : Nat) "BloomclockModel$Clock" "from" "I") ∈ lw_all := lw_g (lw_at lw_m7 184 rfl) rfl
theorem q1680 : (Jvm.Cond.fieldLink "BloomclockModel$Clock" (67 : Nat) "BloomclockModel$Clock" "stems" "I") ∈ lw_all := lw_g (lw_at lw_m7 185 rfl) rfl
theorem q1681 : (Jvm.Cond.fieldLink "BloomclockModel$Clock" (71 : Nat) "BloomclockModel$Clock" "buckets" "I") ∈ lw_all := lw_g (lw_at lw_m7 186 rfl) rfl
theorem q1682 : (Jvm.Cond.fieldLink "BloomclockModel$Clock" (26 : Nat) "BloomclockModel$Clock" "lot" "LBloomclockModel$Lot;") ∈ lw_all := lw_g (lw_at lw_m7 187 rfl) rfl
theorem q1683 : (Jvm.Cond.fieldLink "BloomclockModel$Clock" (30 : Nat) "BloomclockModel$Clock" "shown" "I") ∈ lw_all := lw_g (lw_at lw_m7 188 rfl) rfl
theorem q1684 : (Jvm.Cond.fieldLink "BloomclockModel$Clock" (34 : Nat) "BloomclockModel$Clock" "minimum" "I") ∈ lw_all := lw_g (lw_at lw_m7 189 rfl) rfl
theorem q1685 : (Jvm.Cond.fieldLink "BloomclockModel$Clock" (94 : Nat) "BloomclockModel$Clock" "order" "I") ∈ lw_all := lw_g (lw_at lw_m7 190 rfl) rfl
theorem q1687 : (Jvm.Cond.fieldLink "BloomclockModel$Clock" (116 : Nat) "BloomclockModel$Clock" "price" "I") ∈ lw_all := lw_g (lw_at lw_m7 192 rfl) rfl
theorem q1689 : (Jvm.Cond.fieldLink "BloomclockModel$Clock" (122 : Nat) "BloomclockModel$Clock" "many" "I") ∈ lw_all := lw_g (lw_at lw_m7 194 rfl) rfl
theorem q1691 : (Jvm.Cond.fieldLink "BloomclockModel$Clock" (3 : Nat) "BloomclockModel$Clock" "this$0" "LBloomclockModel;") ∈ lw_all := lw_g (lw_at lw_m7 196 rfl) rfl
theorem q1692 : (Jvm.Cond.laysFinal "BloomclockModel$Clock" "BloomclockModel$Clock" "wants" "[I") ∈ lw_all := lw_g (lw_at lw_m7 197 rfl) rfl
theorem q1693 : (Jvm.Cond.soleField "BloomclockModel$Clock" "wants") ∈ lw_all := lw_g (lw_at lw_m7 198 rfl) rfl
theorem q1694 : (Jvm.Cond.laysFinal "BloomclockModel$Clock" "BloomclockModel$Clock" "coins" "[I") ∈ lw_all := lw_g (lw_at lw_m7 199 rfl) rfl
theorem q1695 : (Jvm.Cond.soleField "BloomclockModel$Clock" "coins") ∈ lw_all := lw_g (lw_at lw_m7 200 rfl) rfl
theorem q1696 : (Jvm.Cond.laysFinal "BloomclockModel$Clock" "BloomclockModel$Clock" "isOut" "[Z") ∈ lw_all := lw_g (lw_at lw_m7 201 rfl) rfl
theorem q1697 : (Jvm.Cond.soleField "BloomclockModel$Clock" "isOut") ∈ lw_all := lw_g (lw_at lw_m7 202 rfl) rfl
theorem q1698 : (Jvm.Cond.lays "BloomclockModel$Clock" "BloomclockModel$Clock" "from" "I") ∈ lw_all := lw_g (lw_at lw_m7 203 rfl) rfl
theorem q1699 : (Jvm.Cond.soleField "BloomclockModel$Clock" "from") ∈ lw_all := lw_g (lw_at lw_m7 204 rfl) rfl
theorem q1700 : (Jvm.Cond.lays "BloomclockModel$Clock" "BloomclockModel$Clock" "stems" "I") ∈ lw_all := lw_g (lw_at lw_m7 205 rfl) rfl
theorem q1701 : (Jvm.Cond.soleField "BloomclockModel$Clock" "stems") ∈ lw_all := lw_g (lw_at lw_m7 206 rfl) rfl
theorem q1702 : (Jvm.Cond.lays "BloomclockModel$Clock" "BloomclockModel$Clock" "buckets" "I") ∈ lw_all := lw_g (lw_at lw_m7 207 rfl) rfl
theorem q1703 : (Jvm.Cond.soleField "BloomclockModel$Clock" "buckets") ∈ lw_all := lw_g (lw_at lw_m7 208 rfl) rfl
theorem q1704 : (Jvm.Cond.lays "BloomclockModel$Clock" "BloomclockModel$Clock" "lot" "LBloomclockModel$Lot;") ∈ lw_all := lw_g (lw_at lw_m7 209 rfl) rfl
theorem q1705 : (Jvm.Cond.soleField "BloomclockModel$Clock" "lot") ∈ lw_all := lw_g (lw_at lw_m7 210 rfl) rfl
theorem q1706 : (Jvm.Cond.lays "BloomclockModel$Clock" "BloomclockModel$Clock" "shown" "I") ∈ lw_all := lw_g (lw_at lw_m7 211 rfl) rfl
theorem q1707 : (Jvm.Cond.soleField "BloomclockModel$Clock" "shown") ∈ lw_all := lw_g (lw_at lw_m7 212 rfl) rfl
theorem q1708 : (Jvm.Cond.lays "BloomclockModel$Clock" "BloomclockModel$Clock" "minimum" "I") ∈ lw_all := lw_g (lw_at lw_m7 213 rfl) rfl
theorem q1709 : (Jvm.Cond.soleField "BloomclockModel$Clock" "minimum") ∈ lw_all := lw_g (lw_at lw_m7 214 rfl) rfl
theorem q1710 : (Jvm.Cond.lays "BloomclockModel$Clock" "BloomclockModel$Clock" "order" "I") ∈ lw_all := lw_g (lw_at lw_m7 215 rfl) rfl
theorem q1711 : (Jvm.Cond.soleField "BloomclockModel$Clock" "order") ∈ lw_all := lw_g (lw_at lw_m7 216 rfl) rfl
theorem q1712 : (Jvm.Cond.lays "BloomclockModel$Clock" "BloomclockModel$Clock" "price" "I") ∈ lw_all := lw_g (lw_at lw_m7 217 rfl) rfl
theorem q1713 : (Jvm.Cond.soleField "BloomclockModel$Clock" "price") ∈ lw_all := lw_g (lw_at lw_m7 218 rfl) rfl
theorem q1714 : (Jvm.Cond.lays "BloomclockModel$Clock" "BloomclockModel$Clock" "many" "I") ∈ lw_all := lw_g (lw_at lw_m7 219 rfl) rfl
theorem q1715 : (Jvm.Cond.soleField "BloomclockModel$Clock" "many") ∈ lw_all := lw_g (lw_at lw_m7 220 rfl) rfl
theorem q1716 : (Jvm.Cond.laysFinal "BloomclockModel$Clock" "BloomclockModel$Clock" "this$0" "LBloomclockModel;") ∈ lw_all := lw_g (lw_at lw_m7 221 rfl) rfl
theorem q1717 : (Jvm.Cond.soleField "BloomclockModel$Clock" "this$0") ∈ lw_all := lw_g (lw_at lw_m7 222 rfl) rfl
theorem q1718 : (Jvm.Cond.superclass "BloomclockModel$Clock" "java/lang/Object") ∈ lw_all := lw_g (lw_at lw_m7 223 rfl) rfl
theorem q1720 : (Jvm.Cond.instanceMethod ({ cls := "BloomclockModel$Clock", name := "begin", desc := "(LBloomclockModel$Lot;II)V" } : Jvm.MethodName)) ∈ lw_all := lw_g (lw_at lw_m7 225 rfl) rfl
theorem q1721 : (Jvm.Cond.selects "BloomclockModel$Clock" ({ cls := "BloomclockModel$Clock", name := "begin", desc := "(LBloomclockModel$Lot;II)V" } : Jvm.MethodName) ({ cls := "BloomclockModel$Clock", name := "begin", desc := "(LBloomclockModel$Lot;II)V" } : Jvm.MethodName)) ∈ lw_all := lw_g (lw_at lw_m7 226 rfl) rfl
theorem q1722 : (Jvm.Cond.code ({ cls := "BloomclockModel$Clock", name := "begin", desc := "(LBloomclockModel$Lot;II)V" } : Jvm.MethodName) prog_15_method_2_code (5 : Nat) (Option.none : Option Jvm.ClassFile.FieldType)) ∈ lw_all := lw_g (lw_at lw_m7 227 rfl) rfl
theorem q1723 : (Jvm.Cond.methodLink "BloomclockModel$Clock" (41 : Nat) ({ cls := "java/util/ArrayList", name := "size", desc := "()I" } : Jvm.MethodName)) ∈ lw_all := lw_g (lw_at lw_m7 228 rfl) rfl
theorem q1724 : (Jvm.Cond.methodLink "BloomclockModel$Clock" (47 : Nat) ({ cls := "java/util/ArrayList", name := "get", desc := "(I)Ljava/lang/Object;" } : Jvm.MethodName)) ∈ lw_all := lw_g (lw_at lw_m7 229 rfl) rfl
theorem q1725 : (Jvm.Cond.classLink "BloomclockModel$Clock" (51 : Nat) "BloomclockModel$Order") ∈ lw_all := lw_g (lw_at lw_m7 230 rfl) rfl
theorem q1726 : (Jvm.Cond.classLink "BloomclockModel$Clock" (58 : Nat) "BloomclockModel$Buyer") ∈ lw_all := lw_g (lw_at lw_m7 231 rfl) rfl
theorem q1728 : (Jvm.Cond.instanceMethod ({ cls := "BloomclockModel$Clock", name := "sells", desc := "()Z" } : Jvm.MethodName)) ∈ lw_all := lw_g (lw_at lw_m7 233 rfl) rfl
theorem q1729 : (Jvm.Cond.selects "BloomclockModel$Clock" ({ cls := "BloomclockModel$Clock", name := "sells", desc := "()Z" } : Jvm.MethodName) ({ cls := "BloomclockModel$Clock", name := "sells", desc := "()Z" } : Jvm.MethodName)) ∈ lw_all := lw_g (lw_at lw_m7 234 rfl) rfl
theorem q1730 : (Jvm.Cond.code ({ cls := "BloomclockModel$Clock", name := "sells", desc := "()Z" } : Jvm.MethodName) prog_15_method_5_code (2 : Nat) (Option.some Jvm.ClassFile.FieldType.boolean)) ∈ lw_all := lw_g (lw_at lw_m7 235 rfl) rfl
theorem q1731 : (Jvm.Cond.classLink "BloomclockModel$Clock" (103 : Nat) "BloomclockModel$Grower") ∈ lw_all := lw_g (lw_at lw_m7 236 rfl) rfl
theorem q1732 : (Jvm.Cond.methodLink "BloomclockModel$Clock" (108 : Nat) ({ cls := "BloomclockModel$Order", name := "fits", desc := "(LBloomclockModel$Lot;II)Z" } : Jvm.MethodName)) ∈ lw_all := lw_g (lw_at lw_m7 237 rfl) rfl
theorem q1736 : (Jvm.Cond.methodLink "BloomclockModel$Clock" (112 : Nat) ({ cls := "BloomclockModel$Clock", name := "isBefore", desc := "(II)Z" } : Jvm.MethodName)) ∈ lw_all := lw_g (lw_at lw_m8 1 rfl) rfl
theorem q1737 : (Jvm.Cond.privateMethod ({ cls := "BloomclockModel$Clock", name := "isBefore", desc := "(II)Z" } : Jvm.MethodName)) ∈ lw_tbl := lw_at lw_m8 2 rfl
theorem q1738 : (Jvm.Cond.instanceMethod ({ cls := "BloomclockModel$Clock", name := "isBefore", desc := "(II)Z" } : Jvm.MethodName)) ∈ lw_all := lw_g (lw_at lw_m8 3 rfl) rfl
theorem q1739 : (Jvm.Cond.code ({ cls := "BloomclockModel$Clock", name := "isBefore", desc := "(II)Z" } : Jvm.MethodName) prog_15_method_4_code (3 : Nat) (Option.some Jvm.ClassFile.FieldType.boolean)) ∈ lw_all := lw_g (lw_at lw_m8 4 rfl) rfl
theorem q1740 : (Jvm.Cond.methodLink "BloomclockModel$Clock" (90 : Nat) ({ cls := "BloomclockModel$Clock", name := "stamp", desc := "(I)I" } : Jvm.MethodName)) ∈ lw_all := lw_g (lw_at lw_m8 5 rfl) rfl
theorem q1741 : (Jvm.Cond.privateMethod ({ cls := "BloomclockModel$Clock", name := "stamp", desc := "(I)I" } : Jvm.MethodName)) ∈ lw_tbl := lw_at lw_m8 6 rfl
theorem q1742 : (Jvm.Cond.instanceMethod ({ cls := "BloomclockModel$Clock", name := "stamp", desc := "(I)I" } : Jvm.MethodName)) ∈ lw_all := lw_g (lw_at lw_m8 7 rfl) rfl
theorem q1743 : (Jvm.Cond.code ({ cls := "BloomclockModel$Clock", name := "stamp", desc := "(I)I" } : Jvm.MethodName) prog_15_method_3_code (2 : Nat) (Option.some Jvm.ClassFile.FieldType.int)) ∈ lw_all := lw_g (lw_at lw_m8 8 rfl) rfl
theorem q1744 : (Jvm.Cond.methodLink "BloomclockModel$Clock" (78 : Nat) ({ cls := "java/lang/Math", name := "max", desc := "(II)I" } : Jvm.MethodName)) ∈ lw_all := lw_g (lw_at lw_m8 9 rfl) rfl
theorem q1745 : (Jvm.Cond.methodLink "BloomclockModel$Clock" (87 : Nat) ({ cls := "BloomclockModel$Buyer", name := "late", desc := "()I" } : Jvm.MethodName)) ∈ lw_all := lw_g (lw_at lw_m8 10 rfl) rfl
theorem q1750 : (Jvm.Cond.methodLink "BloomclockModel$Clock" (119 : Nat) ({ cls := "java/lang/Math", name := "min", desc := "(II)I" } : Jvm.MethodName)) ∈ lw_all := lw_g (lw_at lw_m8 15 rfl) rfl
theorem q1751 : (Jvm.Cond.methodLink "BloomclockModel$Clock" (125 : Nat) ({ cls := "BloomclockModel$Clock", name := "take", desc := "(I)V" } : Jvm.MethodName)) ∈ lw_all := lw_g (lw_at lw_m8 16 rfl) rfl
theorem q1752 : (Jvm.Cond.privateMethod ({ cls := "BloomclockModel$Clock", name := "take", desc := "(I)V" } : Jvm.MethodName)) ∈ lw_tbl := lw_at lw_m8 17 rfl
theorem q1753 : (Jvm.Cond.instanceMethod ({ cls := "BloomclockModel$Clock", name := "take", desc := "(I)V" } : Jvm.MethodName)) ∈ lw_all := lw_g (lw_at lw_m8 18 rfl) rfl
theorem q1754 : (Jvm.Cond.code ({ cls := "BloomclockModel$Clock", name := "take", desc := "(I)V" } : Jvm.MethodName) prog_15_method_6_code (3 : Nat) (Option.none : Option Jvm.ClassFile.FieldType)) ∈ lw_all := lw_g (lw_at lw_m8 19 rfl) rfl
theorem q1755 : (Jvm.Cond.methodLinkNest "BloomclockModel$Clock" (129 : Nat) ({ cls := "BloomclockModel", name := "up", desc := "(II)I" } : Jvm.MethodName) "BloomclockModel") ∈ lw_tbl := lw_at lw_m8 20 rfl
theorem q1878 : (Jvm.Cond.selects "BloomclockModel$Clock" ({ cls := "java/lang/Object", name := "equals", desc := "(Ljava/lang/Object;)Z" } : Jvm.MethodName) ({ cls := "java/lang/Object", name := "equals", desc := "(Ljava/lang/Object;)Z" } : Jvm.MethodName)) ∈ lw_all := lw_g (lw_at lw_m8 143 rfl) rfl
theorem q2009 : (Jvm.Cond.instanceMethod ({ cls := "BloomclockModel$Clock", name := "share", desc := "()I" } : Jvm.MethodName)) ∈ lw_all := lw_g (lw_at lw_m9 34 rfl) rfl
theorem q2010 : (Jvm.Cond.selects "BloomclockModel$Clock" ({ cls := "BloomclockModel$Clock", name := "share", desc := "()I" } : Jvm.MethodName) ({ cls := "BloomclockModel$Clock", name := "share", desc := "()I" } : Jvm.MethodName)) ∈ lw_all := lw_g (lw_at lw_m9 35 rfl) rfl
theorem q2011 : (Jvm.Cond.code ({ cls := "BloomclockModel$Clock", name := "share", desc := "()I" } : Jvm.MethodName) prog_15_method_7_code (1 : Nat) (Option.some Jvm.ClassFile.FieldType.int)) ∈ lw_all := lw_g (lw_at lw_m9 36 rfl) rfl
theorem q2072 : (Jvm.Cond.castable "BloomclockModel$Clock" "java/lang/Object") ∈ lw_tbl := lw_at lw_m9 97 rfl
theorem in_X17 : ∀ w ∈ wsX170, w ∈ lw_all := lw_in wsX170 [1692, 1694, 1696, 1698, 1700, 1702, 1704, 1706, 1708, 1710, 1712, 1714, 1716] (by decide +kernel) (by decide +kernel)
/-! BloomclockModel$Trolley -/
set_option maxRecDepth 100000
def RX18 : String := "BloomclockModel$Trolley"
def TX18 : u_T := fun k => match k with
  | 0 => ("BloomclockModel$Trolley", "buyer", "I", true)
  | 1 => ("BloomclockModel$Trolley", "cultivar", "I", true)
  | 2 => ("BloomclockModel$Trolley", "stems", "I", true)
  | _ => ("BloomclockModel$Trolley", "life", "I", false)
def tyX18 : Nat → FieldType := fun k => match k with
  | 0 => .int
  | 1 => .int
  | 2 => .int
  | _ => .int
abbrev wsX180 : List Cond := u_ws RX18 TX18 4
theorem nmX18 : ∀ a, a < 4 → ∀ b, b < 4 → a ≠ b → (TX18 a).2.1 ≠ (TX18 b).2.1 := by decide +kernel
theorem tyX18_ok : ∀ k, k < 4 → parseFieldDescriptor (TX18 k).2.2.1 = some (tyX18 k) := by decide +kernel
abbrev cX18_init : ByteArray := prog_21_method_1_code
def yX18_init : MethodName := ⟨RX18, "<init>", "(IIII)V"⟩
def dkwX18_init_1 : List UInt8 := [181, 0, 19, 177]
abbrev dktX18_init_1 : List UInt8 := dkwX18_init_1 ++ []
def dkwX18_init_0 : List UInt8 := [42, 183, 0, 1, 42, 27, 181, 0, 7, 42, 28, 181, 0, 13, 42, 29, 181, 0, 16, 42, 21, 4]
abbrev dktX18_init_0 : List UInt8 := dkwX18_init_0 ++ dktX18_init_1
theorem dksX18_init_0 : cX18_init.data.toList.drop 0 = dktX18_init_0 := by decide +kernel
theorem dksX18_init_1 : cX18_init.data.toList.drop 22 = dktX18_init_1 := dk_seg dksX18_init_0 22 rfl rfl
theorem dX18_init_0 : decode cX18_init 0 = .ok (.aload_n 0, 1) := dk_42 (dk_at dksX18_init_0 0 rfl rfl)
theorem dX18_init_1 : decode cX18_init 1 = .ok (.invokespecial 1, 3) := dk_183 0 1 (dk_at dksX18_init_0 1 rfl rfl)
theorem dX18_init_4 : decode cX18_init 4 = .ok (.aload_n 0, 1) := dk_42 (dk_at dksX18_init_0 4 rfl rfl)
theorem dX18_init_5 : decode cX18_init 5 = .ok (.iload_n 1, 1) := dk_27 (dk_at dksX18_init_0 5 rfl rfl)
theorem dX18_init_6 : decode cX18_init 6 = .ok (.putfield 7, 3) := dk_181 0 7 (dk_at dksX18_init_0 6 rfl rfl)
theorem dX18_init_9 : decode cX18_init 9 = .ok (.aload_n 0, 1) := dk_42 (dk_at dksX18_init_0 9 rfl rfl)
theorem dX18_init_10 : decode cX18_init 10 = .ok (.iload_n 2, 1) := dk_28 (dk_at dksX18_init_0 10 rfl rfl)
theorem dX18_init_11 : decode cX18_init 11 = .ok (.putfield 13, 3) := dk_181 0 13 (dk_at dksX18_init_0 11 rfl rfl)
theorem dX18_init_14 : decode cX18_init 14 = .ok (.aload_n 0, 1) := dk_42 (dk_at dksX18_init_0 14 rfl rfl)
theorem dX18_init_15 : decode cX18_init 15 = .ok (.iload_n 3, 1) := dk_29 (dk_at dksX18_init_0 15 rfl rfl)
theorem dX18_init_16 : decode cX18_init 16 = .ok (.putfield 16, 3) := dk_181 0 16 (dk_at dksX18_init_0 16 rfl rfl)
theorem dX18_init_19 : decode cX18_init 19 = .ok (.aload_n 0, 1) := dk_42 (dk_at dksX18_init_0 19 rfl rfl)
theorem dX18_init_20 : decode cX18_init 20 = .ok (.iload 4, 2) := dk_21 4 (dk_at dksX18_init_0 20 rfl rfl)
theorem dX18_init_22 : decode cX18_init 22 = .ok (.putfield 19, 3) := dk_181 0 19 (dk_at dksX18_init_1 0 rfl rfl)
theorem dX18_init_25 : decode cX18_init 25 = .ok (.return_, 1) := dk_177 (dk_at dksX18_init_1 3 rfl rfl)
theorem q96 : (Jvm.Cond.initialized "BloomclockModel$Trolley") ∈ lw_all := lw_g (lw_at lw_m1 41 rfl) rfl
theorem q580 : (Jvm.Cond.selects "BloomclockModel$Trolley" ({ cls := "java/lang/Object", name := "getClass", desc := "()Ljava/lang/Class;" } : Jvm.MethodName) ({ cls := "java/lang/Object", name := "getClass", desc := "()Ljava/lang/Class;" } : Jvm.MethodName)) ∈ lw_all := lw_g (lw_at lw_m3 45 rfl) rfl
theorem q1765 : (Jvm.Cond.instantiable "BloomclockModel$Trolley" (4 : Nat)) ∈ lw_all := lw_g (lw_at lw_m8 30 rfl) rfl
theorem q1767 : (Jvm.Cond.instanceMethod ({ cls := "BloomclockModel$Trolley", name := "<init>", desc := "(IIII)V" } : Jvm.MethodName)) ∈ lw_all := lw_g (lw_at lw_m8 32 rfl) rfl
theorem q1768 : (Jvm.Cond.code ({ cls := "BloomclockModel$Trolley", name := "<init>", desc := "(IIII)V" } : Jvm.MethodName) prog_21_method_1_code (5 : Nat) (Option.none : Option Jvm.ClassFile.FieldType)) ∈ lw_all := lw_g (lw_at lw_m8 33 rfl) rfl
theorem q1769 : (Jvm.Cond.methodLink "BloomclockModel$Trolley" (1 : Nat) ({ cls := "java/lang/Object", name := "<init>", desc := "()V" } : Jvm.MethodName)) ∈ lw_all := lw_g (lw_at lw_m8 34 rfl) rfl
theorem q1770 : (Jvm.Cond.fieldLink "BloomclockModel$Trolley" (7 : Nat) "BloomclockModel$Trolley" "buyer" "I") ∈ lw_all := lw_g (lw_at lw_m8 35 rfl) rfl
theorem q1772 : (Jvm.Cond.fieldLink "BloomclockModel$Trolley" (13 : Nat) "BloomclockModel$Trolley" "cultivar" "I") ∈ lw_all := lw_g (lw_at lw_m8 37 rfl) rfl
theorem q1774 : (Jvm.Cond.fieldLink "BloomclockModel$Trolley" (16 : Nat) "BloomclockModel$Trolley" "stems" "I") ∈ lw_all := lw_g (lw_at lw_m8 39 rfl) rfl
theorem q1776 : (Jvm.Cond.fieldLink "BloomclockModel$Trolley" (19 : Nat) "BloomclockModel$Trolley" "life" "I") ∈ lw_all := lw_g (lw_at lw_m8 41 rfl) rfl
theorem q1778 : (Jvm.Cond.laysFinal "BloomclockModel$Trolley" "BloomclockModel$Trolley" "buyer" "I") ∈ lw_all := lw_g (lw_at lw_m8 43 rfl) rfl
theorem q1779 : (Jvm.Cond.soleField "BloomclockModel$Trolley" "buyer") ∈ lw_all := lw_g (lw_at lw_m8 44 rfl) rfl
theorem q1780 : (Jvm.Cond.laysFinal "BloomclockModel$Trolley" "BloomclockModel$Trolley" "cultivar" "I") ∈ lw_all := lw_g (lw_at lw_m8 45 rfl) rfl
theorem q1781 : (Jvm.Cond.soleField "BloomclockModel$Trolley" "cultivar") ∈ lw_all := lw_g (lw_at lw_m8 46 rfl) rfl
theorem q1782 : (Jvm.Cond.laysFinal "BloomclockModel$Trolley" "BloomclockModel$Trolley" "stems" "I") ∈ lw_all := lw_g (lw_at lw_m8 47 rfl) rfl
theorem q1783 : (Jvm.Cond.soleField "BloomclockModel$Trolley" "stems") ∈ lw_all := lw_g (lw_at lw_m8 48 rfl) rfl
theorem q1784 : (Jvm.Cond.lays "BloomclockModel$Trolley" "BloomclockModel$Trolley" "life" "I") ∈ lw_all := lw_g (lw_at lw_m8 49 rfl) rfl
theorem q1785 : (Jvm.Cond.soleField "BloomclockModel$Trolley" "life") ∈ lw_all := lw_g (lw_at lw_m8 50 rfl) rfl
theorem q1786 : (Jvm.Cond.superclass "BloomclockModel$Trolley" "java/lang/Object") ∈ lw_all := lw_g (lw_at lw_m8 51 rfl) rfl
theorem q1884 : (Jvm.Cond.selects "BloomclockModel$Trolley" ({ cls := "java/lang/Object", name := "equals", desc := "(Ljava/lang/Object;)Z" } : Jvm.MethodName) ({ cls := "java/lang/Object", name := "equals", desc := "(Ljava/lang/Object;)Z" } : Jvm.MethodName)) ∈ lw_all := lw_g (lw_at lw_m8 149 rfl) rfl
theorem q2073 : (Jvm.Cond.castable "BloomclockModel$Trolley" "java/lang/Object") ∈ lw_tbl := lw_at lw_m9 98 rfl
theorem in_X18 : ∀ w ∈ wsX180, w ∈ lw_all := lw_in wsX180 [1778, 1780, 1782, 1784] (by decide +kernel) (by decide +kernel)
/-! BloomclockModel$Sale -/
set_option maxRecDepth 100000
def RX19 : String := "BloomclockModel$Sale"
def TX19 : u_T := fun k => match k with
  | 0 => ("BloomclockModel$Sale", "lot", "I", true)
  | 1 => ("BloomclockModel$Sale", "buyer", "I", true)
  | 2 => ("BloomclockModel$Sale", "stems", "I", true)
  | 3 => ("BloomclockModel$Sale", "price", "I", true)
  | 4 => ("BloomclockModel$Sale", "hour", "I", true)
  | 5 => ("BloomclockModel$Sale", "buckets", "I", true)
  | 6 => ("BloomclockModel$Sale", "order", "LBloomclockModel$Order;", true)
  | _ => ("BloomclockModel$Sale", "trolley", "LBloomclockModel$Trolley;", true)
def tyX19 : Nat → FieldType := fun k => match k with
  | 0 => .int
  | 1 => .int
  | 2 => .int
  | 3 => .int
  | 4 => .int
  | 5 => .int
  | 6 => .object "BloomclockModel$Order"
  | _ => .object "BloomclockModel$Trolley"
abbrev wsX190 : List Cond := u_ws RX19 TX19 8
theorem nmX19 : ∀ a, a < 8 → ∀ b, b < 8 → a ≠ b → (TX19 a).2.1 ≠ (TX19 b).2.1 := by decide +kernel
theorem tyX19_ok : ∀ k, k < 8 → parseFieldDescriptor (TX19 k).2.2.1 = some (tyX19 k) := by decide +kernel
abbrev cX19_init : ByteArray := prog_20_method_1_code
def yX19_init : MethodName := ⟨RX19, "<init>", "(IIIIIILBloomclockModel$Order;LBloomclockModel$Trolley;)V"⟩
def dkwX19_init_2 : List UInt8 := [181, 0, 34, 177]
abbrev dktX19_init_2 : List UInt8 := dkwX19_init_2 ++ []
def dkwX19_init_1 : List UInt8 := [181, 0, 21, 42, 21, 5, 181, 0, 24, 42, 21, 6, 181, 0, 27, 42, 25, 7, 181, 0, 30, 42, 25, 8]
abbrev dktX19_init_1 : List UInt8 := dkwX19_init_1 ++ dktX19_init_2
def dkwX19_init_0 : List UInt8 := [42, 183, 0, 3, 42, 27, 181, 0, 9, 42, 28, 181, 0, 15, 42, 29, 181, 0, 18, 42, 21, 4]
abbrev dktX19_init_0 : List UInt8 := dkwX19_init_0 ++ dktX19_init_1
theorem dksX19_init_0 : cX19_init.data.toList.drop 0 = dktX19_init_0 := by decide +kernel
theorem dksX19_init_1 : cX19_init.data.toList.drop 22 = dktX19_init_1 := dk_seg dksX19_init_0 22 rfl rfl
theorem dksX19_init_2 : cX19_init.data.toList.drop 46 = dktX19_init_2 := dk_seg dksX19_init_1 24 rfl rfl
theorem dX19_init_0 : decode cX19_init 0 = .ok (.aload_n 0, 1) := dk_42 (dk_at dksX19_init_0 0 rfl rfl)
theorem dX19_init_1 : decode cX19_init 1 = .ok (.invokespecial 3, 3) := dk_183 0 3 (dk_at dksX19_init_0 1 rfl rfl)
theorem dX19_init_4 : decode cX19_init 4 = .ok (.aload_n 0, 1) := dk_42 (dk_at dksX19_init_0 4 rfl rfl)
theorem dX19_init_5 : decode cX19_init 5 = .ok (.iload_n 1, 1) := dk_27 (dk_at dksX19_init_0 5 rfl rfl)
theorem dX19_init_6 : decode cX19_init 6 = .ok (.putfield 9, 3) := dk_181 0 9 (dk_at dksX19_init_0 6 rfl rfl)
theorem dX19_init_9 : decode cX19_init 9 = .ok (.aload_n 0, 1) := dk_42 (dk_at dksX19_init_0 9 rfl rfl)
theorem dX19_init_10 : decode cX19_init 10 = .ok (.iload_n 2, 1) := dk_28 (dk_at dksX19_init_0 10 rfl rfl)
theorem dX19_init_11 : decode cX19_init 11 = .ok (.putfield 15, 3) := dk_181 0 15 (dk_at dksX19_init_0 11 rfl rfl)
theorem dX19_init_14 : decode cX19_init 14 = .ok (.aload_n 0, 1) := dk_42 (dk_at dksX19_init_0 14 rfl rfl)
theorem dX19_init_15 : decode cX19_init 15 = .ok (.iload_n 3, 1) := dk_29 (dk_at dksX19_init_0 15 rfl rfl)
theorem dX19_init_16 : decode cX19_init 16 = .ok (.putfield 18, 3) := dk_181 0 18 (dk_at dksX19_init_0 16 rfl rfl)
theorem dX19_init_19 : decode cX19_init 19 = .ok (.aload_n 0, 1) := dk_42 (dk_at dksX19_init_0 19 rfl rfl)
theorem dX19_init_20 : decode cX19_init 20 = .ok (.iload 4, 2) := dk_21 4 (dk_at dksX19_init_0 20 rfl rfl)
theorem dX19_init_22 : decode cX19_init 22 = .ok (.putfield 21, 3) := dk_181 0 21 (dk_at dksX19_init_1 0 rfl rfl)
theorem dX19_init_25 : decode cX19_init 25 = .ok (.aload_n 0, 1) := dk_42 (dk_at dksX19_init_1 3 rfl rfl)
theorem dX19_init_26 : decode cX19_init 26 = .ok (.iload 5, 2) := dk_21 5 (dk_at dksX19_init_1 4 rfl rfl)
theorem dX19_init_28 : decode cX19_init 28 = .ok (.putfield 24, 3) := dk_181 0 24 (dk_at dksX19_init_1 6 rfl rfl)
theorem dX19_init_31 : decode cX19_init 31 = .ok (.aload_n 0, 1) := dk_42 (dk_at dksX19_init_1 9 rfl rfl)
theorem dX19_init_32 : decode cX19_init 32 = .ok (.iload 6, 2) := dk_21 6 (dk_at dksX19_init_1 10 rfl rfl)
theorem dX19_init_34 : decode cX19_init 34 = .ok (.putfield 27, 3) := dk_181 0 27 (dk_at dksX19_init_1 12 rfl rfl)
theorem dX19_init_37 : decode cX19_init 37 = .ok (.aload_n 0, 1) := dk_42 (dk_at dksX19_init_1 15 rfl rfl)
theorem dX19_init_38 : decode cX19_init 38 = .ok (.aload 7, 2) := dk_25 7 (dk_at dksX19_init_1 16 rfl rfl)
theorem dX19_init_40 : decode cX19_init 40 = .ok (.putfield 30, 3) := dk_181 0 30 (dk_at dksX19_init_1 18 rfl rfl)
theorem dX19_init_43 : decode cX19_init 43 = .ok (.aload_n 0, 1) := dk_42 (dk_at dksX19_init_1 21 rfl rfl)
theorem dX19_init_44 : decode cX19_init 44 = .ok (.aload 8, 2) := dk_25 8 (dk_at dksX19_init_1 22 rfl rfl)
theorem dX19_init_46 : decode cX19_init 46 = .ok (.putfield 34, 3) := dk_181 0 34 (dk_at dksX19_init_2 0 rfl rfl)
theorem dX19_init_49 : decode cX19_init 49 = .ok (.return_, 1) := dk_177 (dk_at dksX19_init_2 3 rfl rfl)
abbrev cX19_cost : ByteArray := prog_20_method_2_code
def yX19_cost : MethodName := ⟨RX19, "cost", "()I"⟩
def dkwX19_cost_0 : List UInt8 := [42, 180, 0, 21, 42, 180, 0, 18, 104, 172]
abbrev dktX19_cost_0 : List UInt8 := dkwX19_cost_0 ++ []
theorem dksX19_cost_0 : cX19_cost.data.toList.drop 0 = dktX19_cost_0 := by decide +kernel
theorem dX19_cost_0 : decode cX19_cost 0 = .ok (.aload_n 0, 1) := dk_42 (dk_at dksX19_cost_0 0 rfl rfl)
theorem dX19_cost_1 : decode cX19_cost 1 = .ok (.getfield 21, 3) := dk_180 0 21 (dk_at dksX19_cost_0 1 rfl rfl)
theorem dX19_cost_4 : decode cX19_cost 4 = .ok (.aload_n 0, 1) := dk_42 (dk_at dksX19_cost_0 4 rfl rfl)
theorem dX19_cost_5 : decode cX19_cost 5 = .ok (.getfield 18, 3) := dk_180 0 18 (dk_at dksX19_cost_0 5 rfl rfl)
theorem dX19_cost_8 : decode cX19_cost 8 = .ok (.imul, 1) := dk_104 (dk_at dksX19_cost_0 8 rfl rfl)
theorem dX19_cost_9 : decode cX19_cost 9 = .ok (.ireturn, 1) := dk_172 (dk_at dksX19_cost_0 9 rfl rfl)
abbrev cX19_fee : ByteArray := prog_20_method_3_code
def yX19_fee : MethodName := ⟨RX19, "fee", "()I"⟩
def dkwX19_fee_0 : List UInt8 := [42, 182, 0, 38, 16, 20, 108, 172]
abbrev dktX19_fee_0 : List UInt8 := dkwX19_fee_0 ++ []
theorem dksX19_fee_0 : cX19_fee.data.toList.drop 0 = dktX19_fee_0 := by decide +kernel
theorem dX19_fee_0 : decode cX19_fee 0 = .ok (.aload_n 0, 1) := dk_42 (dk_at dksX19_fee_0 0 rfl rfl)
theorem dX19_fee_1 : decode cX19_fee 1 = .ok (.invokevirtual 38, 3) := dk_182 0 38 (dk_at dksX19_fee_0 1 rfl rfl)
theorem dX19_fee_4 : decode cX19_fee 4 = .ok (.bipush 20, 2) := dk_16 20 (dk_at dksX19_fee_0 4 rfl rfl)
theorem dX19_fee_6 : decode cX19_fee 6 = .ok (.idiv, 1) := dk_108 (dk_at dksX19_fee_0 6 rfl rfl)
theorem dX19_fee_7 : decode cX19_fee 7 = .ok (.ireturn, 1) := dk_172 (dk_at dksX19_fee_0 7 rfl rfl)
theorem q97 : (Jvm.Cond.initialized "BloomclockModel$Sale") ∈ lw_all := lw_g (lw_at lw_m1 42 rfl) rfl
theorem q579 : (Jvm.Cond.selects "BloomclockModel$Sale" ({ cls := "java/lang/Object", name := "getClass", desc := "()Ljava/lang/Class;" } : Jvm.MethodName) ({ cls := "java/lang/Object", name := "getClass", desc := "()Ljava/lang/Class;" } : Jvm.MethodName)) ∈ lw_all := lw_g (lw_at lw_m3 44 rfl) rfl
theorem q1788 : (Jvm.Cond.instantiable "BloomclockModel$Sale" (8 : Nat)) ∈ lw_all := lw_g (lw_at lw_m8 53 rfl) rfl
theorem q1790 : (Jvm.Cond.instanceMethod ({ cls := "BloomclockModel$Sale", name := "<init>", desc := "(IIIIIILBloomclockModel$Order;LBloomclockModel$Trolley;)V" } : Jvm.MethodName)) ∈ lw_all := lw_g (lw_at lw_m8 55 rfl) rfl
theorem q1791 : (Jvm.Cond.code ({ cls := "BloomclockModel$Sale", name := "<init>", desc := "(IIIIIILBloomclockModel$Order;LBloomclockModel$Trolley;)V" } : Jvm.MethodName) prog_20_method_1_code (9 : Nat) (Option.none : Option Jvm.ClassFile.FieldType)) ∈ lw_all := lw_g (lw_at lw_m8 56 rfl) rfl
theorem q1792 : (Jvm.Cond.methodLink "BloomclockModel$Sale" (3 : Nat) ({ cls := "java/lang/Object", name := "<init>", desc := "()V" } : Jvm.MethodName)) ∈ lw_all := lw_g (lw_at lw_m8 57 rfl) rfl
theorem q1793 : (Jvm.Cond.fieldLink "BloomclockModel$Sale" (9 : Nat) "BloomclockModel$Sale" "lot" "I") ∈ lw_all := lw_g (lw_at lw_m8 58 rfl) rfl
theorem q1795 : (Jvm.Cond.fieldLink "BloomclockModel$Sale" (15 : Nat) "BloomclockModel$Sale" "buyer" "I") ∈ lw_all := lw_g (lw_at lw_m8 60 rfl) rfl
theorem q1797 : (Jvm.Cond.fieldLink "BloomclockModel$Sale" (18 : Nat) "BloomclockModel$Sale" "stems" "I") ∈ lw_all := lw_g (lw_at lw_m8 62 rfl) rfl
theorem q1799 : (Jvm.Cond.fieldLink "BloomclockModel$Sale" (21 : Nat) "BloomclockModel$Sale" "price" "I") ∈ lw_all := lw_g (lw_at lw_m8 64 rfl) rfl
theorem q1801 : (Jvm.Cond.fieldLink "BloomclockModel$Sale" (24 : Nat) "BloomclockModel$Sale" "hour" "I") ∈ lw_all := lw_g (lw_at lw_m8 66 rfl) rfl
theorem q1803 : (Jvm.Cond.fieldLink "BloomclockModel$Sale" (27 : Nat) "BloomclockModel$Sale" "buckets" "I") ∈ lw_all := lw_g (lw_at lw_m8 68 rfl) rfl
theorem q1805 : (Jvm.Cond.fieldLink "BloomclockModel$Sale" (30 : Nat) "BloomclockModel$Sale" "order" "LBloomclockModel$Order;") ∈ lw_all := lw_g (lw_at lw_m8 70 rfl) rfl
theorem q1807 : (Jvm.Cond.fieldLink "BloomclockModel$Sale" (34 : Nat) "BloomclockModel$Sale" "trolley" "LBloomclockModel$Trolley;") ∈ lw_all := lw_g (lw_at lw_m8 72 rfl) rfl
theorem q1809 : (Jvm.Cond.laysFinal "BloomclockModel$Sale" "BloomclockModel$Sale" "lot" "I") ∈ lw_all := lw_g (lw_at lw_m8 74 rfl) rfl
theorem q1810 : (Jvm.Cond.soleField "BloomclockModel$Sale" "lot") ∈ lw_all := lw_g (lw_at lw_m8 75 rfl) rfl
theorem q1811 : (Jvm.Cond.laysFinal "BloomclockModel$Sale" "BloomclockModel$Sale" "buyer" "I") ∈ lw_all := lw_g (lw_at lw_m8 76 rfl) rfl
theorem q1812 : (Jvm.Cond.soleField "BloomclockModel$Sale" "buyer") ∈ lw_all := lw_g (lw_at lw_m8 77 rfl) rfl
theorem q1813 : (Jvm.Cond.laysFinal "BloomclockModel$Sale" "BloomclockModel$Sale" "stems" "I") ∈ lw_all := lw_g (lw_at lw_m8 78 rfl) rfl
theorem q1814 : (Jvm.Cond.soleField "BloomclockModel$Sale" "stems") ∈ lw_all := lw_g (lw_at lw_m8 79 rfl) rfl
theorem q1815 : (Jvm.Cond.laysFinal "BloomclockModel$Sale" "BloomclockModel$Sale" "price" "I") ∈ lw_all := lw_g (lw_at lw_m8 80 rfl) rfl
theorem q1816 : (Jvm.Cond.soleField "BloomclockModel$Sale" "price") ∈ lw_all := lw_g (lw_at lw_m8 81 rfl) rfl
theorem q1817 : (Jvm.Cond.laysFinal "BloomclockModel$Sale" "BloomclockModel$Sale" "hour" "I") ∈ lw_all := lw_g (lw_at lw_m8 82 rfl) rfl
theorem q1818 : (Jvm.Cond.soleField "BloomclockModel$Sale" "hour") ∈ lw_all := lw_g (lw_at lw_m8 83 rfl) rfl
theorem q1819 : (Jvm.Cond.laysFinal "BloomclockModel$Sale" "BloomclockModel$Sale" "buckets" "I") ∈ lw_all := lw_g (lw_at lw_m8 84 rfl) rfl
theorem q1820 : (Jvm.Cond.soleField "BloomclockModel$Sale" "buckets") ∈ lw_all := lw_g (lw_at lw_m8 85 rfl) rfl
theorem q1821 : (Jvm.Cond.laysFinal "BloomclockModel$Sale" "BloomclockModel$Sale" "order" "LBloomclockModel$Order;") ∈ lw_all := lw_g (lw_at lw_m8 86 rfl) rfl
theorem q1822 : (Jvm.Cond.soleField "BloomclockModel$Sale" "order") ∈ lw_all := lw_g (lw_at lw_m8 87 rfl) rfl
theorem q1823 : (Jvm.Cond.laysFinal "BloomclockModel$Sale" "BloomclockModel$Sale" "trolley" "LBloomclockModel$Trolley;") ∈ lw_all := lw_g (lw_at lw_m8 88 rfl) rfl
theorem q1824 : (Jvm.Cond.soleField "BloomclockModel$Sale" "trolley") ∈ lw_all := lw_g (lw_at lw_m8 89 rfl) rfl
theorem q1825 : (Jvm.Cond.superclass "BloomclockModel$Sale" "java/lang/Object") ∈ lw_all := lw_g (lw_at lw_m8 90 rfl) rfl
theorem q1831 : (Jvm.Cond.instanceMethod ({ cls := "BloomclockModel$Sale", name := "cost", desc := "()I" } : Jvm.MethodName)) ∈ lw_all := lw_g (lw_at lw_m8 96 rfl) rfl
theorem q1832 : (Jvm.Cond.selects "BloomclockModel$Sale" ({ cls := "BloomclockModel$Sale", name := "cost", desc := "()I" } : Jvm.MethodName) ({ cls := "BloomclockModel$Sale", name := "cost", desc := "()I" } : Jvm.MethodName)) ∈ lw_all := lw_g (lw_at lw_m8 97 rfl) rfl
theorem q1833 : (Jvm.Cond.code ({ cls := "BloomclockModel$Sale", name := "cost", desc := "()I" } : Jvm.MethodName) prog_20_method_2_code (1 : Nat) (Option.some Jvm.ClassFile.FieldType.int)) ∈ lw_all := lw_g (lw_at lw_m8 98 rfl) rfl
theorem q1835 : (Jvm.Cond.instanceMethod ({ cls := "BloomclockModel$Sale", name := "fee", desc := "()I" } : Jvm.MethodName)) ∈ lw_all := lw_g (lw_at lw_m8 100 rfl) rfl
theorem q1836 : (Jvm.Cond.selects "BloomclockModel$Sale" ({ cls := "BloomclockModel$Sale", name := "fee", desc := "()I" } : Jvm.MethodName) ({ cls := "BloomclockModel$Sale", name := "fee", desc := "()I" } : Jvm.MethodName)) ∈ lw_all := lw_g (lw_at lw_m8 101 rfl) rfl
theorem q1837 : (Jvm.Cond.code ({ cls := "BloomclockModel$Sale", name := "fee", desc := "()I" } : Jvm.MethodName) prog_20_method_3_code (1 : Nat) (Option.some Jvm.ClassFile.FieldType.int)) ∈ lw_all := lw_g (lw_at lw_m8 102 rfl) rfl
theorem q1838 : (Jvm.Cond.methodLink "BloomclockModel$Sale" (38 : Nat) ({ cls := "BloomclockModel$Sale", name := "cost", desc := "()I" } : Jvm.MethodName)) ∈ lw_all := lw_g (lw_at lw_m8 103 rfl) rfl
theorem q1883 : (Jvm.Cond.selects "BloomclockModel$Sale" ({ cls := "java/lang/Object", name := "equals", desc := "(Ljava/lang/Object;)Z" } : Jvm.MethodName) ({ cls := "java/lang/Object", name := "equals", desc := "(Ljava/lang/Object;)Z" } : Jvm.MethodName)) ∈ lw_all := lw_g (lw_at lw_m8 148 rfl) rfl
theorem q2074 : (Jvm.Cond.castable "BloomclockModel$Sale" "java/lang/Object") ∈ lw_tbl := lw_at lw_m9 99 rfl
theorem in_X19 : ∀ w ∈ wsX190, w ∈ lw_all := lw_in wsX190 [1809, 1811, 1813, 1815, 1817, 1819, 1821, 1823] (by decide +kernel) (by decide +kernel)
/-! BloomclockModel -/
set_option maxRecDepth 100000
def RX2 : String := "BloomclockModel"
def TX2 : u_T := fun k => match k with
  | 0 => ("BloomclockModel", "thrown", "I", false)
  | 1 => ("BloomclockModel", "hour", "I", false)
  | 2 => ("BloomclockModel", "light", "I", false)
  | 3 => ("BloomclockModel", "pool", "I", false)
  | 4 => ("BloomclockModel", "coins", "I", false)
  | 5 => ("BloomclockModel", "waste", "I", false)
  | 6 => ("BloomclockModel", "stemsSold", "I", false)
  | 7 => ("BloomclockModel", "paid", "I", false)
  | 8 => ("BloomclockModel", "speed", "I", false)
  | 9 => ("BloomclockModel", "quotas", "[I", true)
  | 10 => ("BloomclockModel", "growers", "Ljava/util/ArrayList;", true)
  | 11 => ("BloomclockModel", "crops", "Ljava/util/ArrayList;", true)
  | 12 => ("BloomclockModel", "lots", "Ljava/util/ArrayList;", true)
  | 13 => ("BloomclockModel", "row", "Ljava/util/ArrayList;", true)
  | 14 => ("BloomclockModel", "buyers", "Ljava/util/ArrayList;", true)
  | 15 => ("BloomclockModel", "orders", "Ljava/util/ArrayList;", true)
  | 16 => ("BloomclockModel", "rail", "Ljava/util/ArrayList;", true)
  | _ => ("BloomclockModel", "sales", "Ljava/util/ArrayList;", true)
def tyX2 : Nat → FieldType := fun k => match k with
  | 0 => .int
  | 1 => .int
  | 2 => .int
  | 3 => .int
  | 4 => .int
  | 5 => .int
  | 6 => .int
  | 7 => .int
  | 8 => .int
  | 9 => .array .int
  | 10 => .object "java/util/ArrayList"
  | 11 => .object "java/util/ArrayList"
  | 12 => .object "java/util/ArrayList"
  | 13 => .object "java/util/ArrayList"
  | 14 => .object "java/util/ArrayList"
  | 15 => .object "java/util/ArrayList"
  | 16 => .object "java/util/ArrayList"
  | _ => .object "java/util/ArrayList"
abbrev wsX20 : List Cond := u_ws RX2 TX2 18
set_option maxRecDepth 100000 in
theorem nmX2 : ∀ a, a < 18 → ∀ b, b < 18 → a ≠ b → (TX2 a).2.1 ≠ (TX2 b).2.1 := by decide +kernel
set_option maxRecDepth 100000 in
theorem tyX2_ok : ∀ k, k < 18 → parseFieldDescriptor (TX2 k).2.2.1 = some (tyX2 k) := by decide +kernel
abbrev cX2_init : ByteArray := prog_13_method_3_code
def yX2_init : MethodName := ⟨RX2, "<init>", "()V"⟩
def dkwX2_init_5 : List UInt8 := [187, 0, 23, 89, 183, 0, 25, 181, 0, 45, 42, 187, 0, 23, 89, 183, 0, 25, 181, 0, 48, 177]
abbrev dktX2_init_5 : List UInt8 := dkwX2_init_5 ++ []
def dkwX2_init_4 : List UInt8 := [187, 0, 23, 89, 183, 0, 25, 181, 0, 39, 42, 187, 0, 23, 89, 183, 0, 25, 181, 0, 42, 42]
abbrev dktX2_init_4 : List UInt8 := dkwX2_init_4 ++ dktX2_init_5
def dkwX2_init_3 : List UInt8 := [187, 0, 23, 89, 183, 0, 25, 181, 0, 33, 42, 187, 0, 23, 89, 183, 0, 25, 181, 0, 36, 42]
abbrev dktX2_init_3 : List UInt8 := dkwX2_init_3 ++ dktX2_init_4
def dkwX2_init_2 : List UInt8 := [187, 0, 23, 89, 183, 0, 25, 181, 0, 26, 42, 187, 0, 23, 89, 183, 0, 25, 181, 0, 30, 42]
abbrev dktX2_init_2 : List UInt8 := dkwX2_init_2 ++ dktX2_init_3
def dkwX2_init_1 : List UInt8 := [89, 3, 17, 1, 244, 79, 89, 4, 17, 1, 244, 79, 89, 5, 17, 1, 244, 79, 181, 0, 19, 42]
abbrev dktX2_init_1 : List UInt8 := dkwX2_init_1 ++ dktX2_init_2
def dkwX2_init_0 : List UInt8 := [42, 183, 0, 1, 42, 8, 181, 0, 9, 42, 16, 60, 181, 0, 13, 42, 5, 181, 0, 16, 42, 6, 188, 10]
abbrev dktX2_init_0 : List UInt8 := dkwX2_init_0 ++ dktX2_init_1
theorem dksX2_init_0 : cX2_init.data.toList.drop 0 = dktX2_init_0 := by decide +kernel
theorem dksX2_init_1 : cX2_init.data.toList.drop 24 = dktX2_init_1 := dk_seg dksX2_init_0 24 rfl rfl
theorem dksX2_init_2 : cX2_init.data.toList.drop 46 = dktX2_init_2 := dk_seg dksX2_init_1 22 rfl rfl
theorem dksX2_init_3 : cX2_init.data.toList.drop 68 = dktX2_init_3 := dk_seg dksX2_init_2 22 rfl rfl
theorem dksX2_init_4 : cX2_init.data.toList.drop 90 = dktX2_init_4 := dk_seg dksX2_init_3 22 rfl rfl
theorem dksX2_init_5 : cX2_init.data.toList.drop 112 = dktX2_init_5 := dk_seg dksX2_init_4 22 rfl rfl
theorem dX2_init_0 : decode cX2_init 0 = .ok (.aload_n 0, 1) := dk_42 (dk_at dksX2_init_0 0 rfl rfl)
theorem dX2_init_1 : decode cX2_init 1 = .ok (.invokespecial 1, 3) := dk_183 0 1 (dk_at dksX2_init_0 1 rfl rfl)
theorem dX2_init_4 : decode cX2_init 4 = .ok (.aload_n 0, 1) := dk_42 (dk_at dksX2_init_0 4 rfl rfl)
theorem dX2_init_5 : decode cX2_init 5 = .ok (.iconst 5, 1) := dk_8 (dk_at dksX2_init_0 5 rfl rfl)
theorem dX2_init_6 : decode cX2_init 6 = .ok (.putfield 9, 3) := dk_181 0 9 (dk_at dksX2_init_0 6 rfl rfl)
theorem dX2_init_9 : decode cX2_init 9 = .ok (.aload_n 0, 1) := dk_42 (dk_at dksX2_init_0 9 rfl rfl)
theorem dX2_init_10 : decode cX2_init 10 = .ok (.bipush 60, 2) := dk_16 60 (dk_at dksX2_init_0 10 rfl rfl)
theorem dX2_init_12 : decode cX2_init 12 = .ok (.putfield 13, 3) := dk_181 0 13 (dk_at dksX2_init_0 12 rfl rfl)
theorem dX2_init_15 : decode cX2_init 15 = .ok (.aload_n 0, 1) := dk_42 (dk_at dksX2_init_0 15 rfl rfl)
theorem dX2_init_16 : decode cX2_init 16 = .ok (.iconst 2, 1) := dk_5 (dk_at dksX2_init_0 16 rfl rfl)
theorem dX2_init_17 : decode cX2_init 17 = .ok (.putfield 16, 3) := dk_181 0 16 (dk_at dksX2_init_0 17 rfl rfl)
theorem dX2_init_20 : decode cX2_init 20 = .ok (.aload_n 0, 1) := dk_42 (dk_at dksX2_init_0 20 rfl rfl)
theorem dX2_init_21 : decode cX2_init 21 = .ok (.iconst 3, 1) := dk_6 (dk_at dksX2_init_0 21 rfl rfl)
theorem dX2_init_22 : decode cX2_init 22 = .ok (.newarray .int, 2) := dk_188_10 (dk_at dksX2_init_0 22 rfl rfl)
theorem dX2_init_24 : decode cX2_init 24 = .ok (.dup, 1) := dk_89 (dk_at dksX2_init_1 0 rfl rfl)
theorem dX2_init_25 : decode cX2_init 25 = .ok (.iconst 0, 1) := dk_3 (dk_at dksX2_init_1 1 rfl rfl)
theorem dX2_init_26 : decode cX2_init 26 = .ok (.sipush 500, 3) := dk_17 1 244 (dk_at dksX2_init_1 2 rfl rfl)
theorem dX2_init_29 : decode cX2_init 29 = .ok (.iastore, 1) := dk_79 (dk_at dksX2_init_1 5 rfl rfl)
theorem dX2_init_30 : decode cX2_init 30 = .ok (.dup, 1) := dk_89 (dk_at dksX2_init_1 6 rfl rfl)
theorem dX2_init_31 : decode cX2_init 31 = .ok (.iconst 1, 1) := dk_4 (dk_at dksX2_init_1 7 rfl rfl)
theorem dX2_init_32 : decode cX2_init 32 = .ok (.sipush 500, 3) := dk_17 1 244 (dk_at dksX2_init_1 8 rfl rfl)
theorem dX2_init_35 : decode cX2_init 35 = .ok (.iastore, 1) := dk_79 (dk_at dksX2_init_1 11 rfl rfl)
theorem dX2_init_36 : decode cX2_init 36 = .ok (.dup, 1) := dk_89 (dk_at dksX2_init_1 12 rfl rfl)
theorem dX2_init_37 : decode cX2_init 37 = .ok (.iconst 2, 1) := dk_5 (dk_at dksX2_init_1 13 rfl rfl)
theorem dX2_init_38 : decode cX2_init 38 = .ok (.sipush 500, 3) := dk_17 1 244 (dk_at dksX2_init_1 14 rfl rfl)
theorem dX2_init_41 : decode cX2_init 41 = .ok (.iastore, 1) := dk_79 (dk_at dksX2_init_1 17 rfl rfl)
theorem dX2_init_42 : decode cX2_init 42 = .ok (.putfield 19, 3) := dk_181 0 19 (dk_at dksX2_init_1 18 rfl rfl)
theorem dX2_init_45 : decode cX2_init 45 = .ok (.aload_n 0, 1) := dk_42 (dk_at dksX2_init_1 21 rfl rfl)
theorem dX2_init_46 : decode cX2_init 46 = .ok (.new 23, 3) := dk_187 0 23 (dk_at dksX2_init_2 0 rfl rfl)
theorem dX2_init_49 : decode cX2_init 49 = .ok (.dup, 1) := dk_89 (dk_at dksX2_init_2 3 rfl rfl)
theorem dX2_init_50 : decode cX2_init 50 = .ok (.invokespecial 25, 3) := dk_183 0 25 (dk_at dksX2_init_2 4 rfl rfl)
theorem dX2_init_53 : decode cX2_init 53 = .ok (.putfield 26, 3) := dk_181 0 26 (dk_at dksX2_init_2 7 rfl rfl)
theorem dX2_init_56 : decode cX2_init 56 = .ok (.aload_n 0, 1) := dk_42 (dk_at dksX2_init_2 10 rfl rfl)
theorem dX2_init_57 : decode cX2_init 57 = .ok (.new 23, 3) := dk_187 0 23 (dk_at dksX2_init_2 11 rfl rfl)
theorem dX2_init_60 : decode cX2_init 60 = .ok (.dup, 1) := dk_89 (dk_at dksX2_init_2 14 rfl rfl)
theorem dX2_init_61 : decode cX2_init 61 = .ok (.invokespecial 25, 3) := dk_183 0 25 (dk_at dksX2_init_2 15 rfl rfl)
theorem dX2_init_64 : decode cX2_init 64 = .ok (.putfield 30, 3) := dk_181 0 30 (dk_at dksX2_init_2 18 rfl rfl)
theorem dX2_init_67 : decode cX2_init 67 = .ok (.aload_n 0, 1) := dk_42 (dk_at dksX2_init_2 21 rfl rfl)
theorem dX2_init_68 : decode cX2_init 68 = .ok (.new 23, 3) := dk_187 0 23 (dk_at dksX2_init_3 0 rfl rfl)
theorem dX2_init_71 : decode cX2_init 71 = .ok (.dup, 1) := dk_89 (dk_at dksX2_init_3 3 rfl rfl)
theorem dX2_init_72 : decode cX2_init 72 = .ok (.invokespecial 25, 3) := dk_183 0 25 (dk_at dksX2_init_3 4 rfl rfl)
theorem dX2_init_75 : decode cX2_init 75 = .ok (.putfield 33, 3) := dk_181 0 33 (dk_at dksX2_init_3 7 rfl rfl)
theorem dX2_init_78 : decode cX2_init 78 = .ok (.aload_n 0, 1) := dk_42 (dk_at dksX2_init_3 10 rfl rfl)
theorem dX2_init_79 : decode cX2_init 79 = .ok (.new 23, 3) := dk_187 0 23 (dk_at dksX2_init_3 11 rfl rfl)
theorem dX2_init_82 : decode cX2_init 82 = .ok (.dup, 1) := dk_89 (dk_at dksX2_init_3 14 rfl rfl)
theorem dX2_init_83 : decode cX2_init 83 = .ok (.invokespecial 25, 3) := dk_183 0 25 (dk_at dksX2_init_3 15 rfl rfl)
theorem dX2_init_86 : decode cX2_init 86 = .ok (.putfield 36, 3) := dk_181 0 36 (dk_at dksX2_init_3 18 rfl rfl)
theorem dX2_init_89 : decode cX2_init 89 = .ok (.aload_n 0, 1) := dk_42 (dk_at dksX2_init_3 21 rfl rfl)
theorem dX2_init_90 : decode cX2_init 90 = .ok (.new 23, 3) := dk_187 0 23 (dk_at dksX2_init_4 0 rfl rfl)
theorem dX2_init_93 : decode cX2_init 93 = .ok (.dup, 1) := dk_89 (dk_at dksX2_init_4 3 rfl rfl)
theorem dX2_init_94 : decode cX2_init 94 = .ok (.invokespecial 25, 3) := dk_183 0 25 (dk_at dksX2_init_4 4 rfl rfl)
theorem dX2_init_97 : decode cX2_init 97 = .ok (.putfield 39, 3) := dk_181 0 39 (dk_at dksX2_init_4 7 rfl rfl)
theorem dX2_init_100 : decode cX2_init 100 = .ok (.aload_n 0, 1) := dk_42 (dk_at dksX2_init_4 10 rfl rfl)
theorem dX2_init_101 : decode cX2_init 101 = .ok (.new 23, 3) := dk_187 0 23 (dk_at dksX2_init_4 11 rfl rfl)
theorem dX2_init_104 : decode cX2_init 104 = .ok (.dup, 1) := dk_89 (dk_at dksX2_init_4 14 rfl rfl)
theorem dX2_init_105 : decode cX2_init 105 = .ok (.invokespecial 25, 3) := dk_183 0 25 (dk_at dksX2_init_4 15 rfl rfl)
theorem dX2_init_108 : decode cX2_init 108 = .ok (.putfield 42, 3) := dk_181 0 42 (dk_at dksX2_init_4 18 rfl rfl)
theorem dX2_init_111 : decode cX2_init 111 = .ok (.aload_n 0, 1) := dk_42 (dk_at dksX2_init_4 21 rfl rfl)
theorem dX2_init_112 : decode cX2_init 112 = .ok (.new 23, 3) := dk_187 0 23 (dk_at dksX2_init_5 0 rfl rfl)
theorem dX2_init_115 : decode cX2_init 115 = .ok (.dup, 1) := dk_89 (dk_at dksX2_init_5 3 rfl rfl)
theorem dX2_init_116 : decode cX2_init 116 = .ok (.invokespecial 25, 3) := dk_183 0 25 (dk_at dksX2_init_5 4 rfl rfl)
theorem dX2_init_119 : decode cX2_init 119 = .ok (.putfield 45, 3) := dk_181 0 45 (dk_at dksX2_init_5 7 rfl rfl)
theorem dX2_init_122 : decode cX2_init 122 = .ok (.aload_n 0, 1) := dk_42 (dk_at dksX2_init_5 10 rfl rfl)
theorem dX2_init_123 : decode cX2_init 123 = .ok (.new 23, 3) := dk_187 0 23 (dk_at dksX2_init_5 11 rfl rfl)
theorem dX2_init_126 : decode cX2_init 126 = .ok (.dup, 1) := dk_89 (dk_at dksX2_init_5 14 rfl rfl)
theorem dX2_init_127 : decode cX2_init 127 = .ok (.invokespecial 25, 3) := dk_183 0 25 (dk_at dksX2_init_5 15 rfl rfl)
theorem dX2_init_130 : decode cX2_init 130 = .ok (.putfield 48, 3) := dk_181 0 48 (dk_at dksX2_init_5 18 rfl rfl)
theorem dX2_init_133 : decode cX2_init 133 = .ok (.return_, 1) := dk_177 (dk_at dksX2_init_5 21 rfl rfl)
abbrev cX2_thrown : ByteArray := prog_13_method_4_code
def yX2_thrown : MethodName := ⟨RX2, "thrown", "()I"⟩
theorem dX2_thrown_0 : decode cX2_thrown 0 = .ok (.aload_n 0, 1) := by decide +kernel
theorem dX2_thrown_1 : decode cX2_thrown 1 = .ok (.getfield 51, 3) := by decide +kernel
theorem dX2_thrown_4 : decode cX2_thrown 4 = .ok (.ireturn, 1) := by decide +kernel
abbrev cX2_grower : ByteArray := prog_13_method_13_code
def yX2_grower : MethodName := ⟨RX2, "grower", "()I"⟩
def dkwX2_grower_2 : List UInt8 := [4, 100, 172]
abbrev dktX2_grower_2 : List UInt8 := dkwX2_grower_2 ++ []
def dkwX2_grower_1 : List UInt8 := [3, 172, 42, 180, 0, 26, 187, 0, 72, 89, 183, 0, 74, 182, 0, 75, 87, 42, 180, 0, 26, 182, 0, 58]
abbrev dktX2_grower_1 : List UInt8 := dkwX2_grower_1 ++ dktX2_grower_2
def dkwX2_grower_0 : List UInt8 := [42, 42, 180, 0, 26, 182, 0, 58, 7, 160, 0, 7, 4, 167, 0, 4, 3, 4, 182, 0, 69, 153, 0, 5]
abbrev dktX2_grower_0 : List UInt8 := dkwX2_grower_0 ++ dktX2_grower_1
theorem dksX2_grower_0 : cX2_grower.data.toList.drop 0 = dktX2_grower_0 := by decide +kernel
theorem dksX2_grower_1 : cX2_grower.data.toList.drop 24 = dktX2_grower_1 := dk_seg dksX2_grower_0 24 rfl rfl
theorem dksX2_grower_2 : cX2_grower.data.toList.drop 48 = dktX2_grower_2 := dk_seg dksX2_grower_1 24 rfl rfl
theorem dX2_grower_0 : decode cX2_grower 0 = .ok (.aload_n 0, 1) := dk_42 (dk_at dksX2_grower_0 0 rfl rfl)
theorem dX2_grower_1 : decode cX2_grower 1 = .ok (.aload_n 0, 1) := dk_42 (dk_at dksX2_grower_0 1 rfl rfl)
theorem dX2_grower_2 : decode cX2_grower 2 = .ok (.getfield 26, 3) := dk_180 0 26 (dk_at dksX2_grower_0 2 rfl rfl)
theorem dX2_grower_5 : decode cX2_grower 5 = .ok (.invokevirtual 58, 3) := dk_182 0 58 (dk_at dksX2_grower_0 5 rfl rfl)
theorem dX2_grower_8 : decode cX2_grower 8 = .ok (.iconst 4, 1) := dk_7 (dk_at dksX2_grower_0 8 rfl rfl)
theorem dX2_grower_9 : decode cX2_grower 9 = .ok (.if_icmp .ne 7, 3) := dk_160 0 7 (dk_at dksX2_grower_0 9 rfl rfl)
theorem dX2_grower_12 : decode cX2_grower 12 = .ok (.iconst 1, 1) := dk_4 (dk_at dksX2_grower_0 12 rfl rfl)
theorem dX2_grower_13 : decode cX2_grower 13 = .ok (.goto 4, 3) := dk_167 0 4 (dk_at dksX2_grower_0 13 rfl rfl)
theorem dX2_grower_16 : decode cX2_grower 16 = .ok (.iconst 0, 1) := dk_3 (dk_at dksX2_grower_0 16 rfl rfl)
theorem dX2_grower_17 : decode cX2_grower 17 = .ok (.iconst 1, 1) := dk_4 (dk_at dksX2_grower_0 17 rfl rfl)
theorem dX2_grower_18 : decode cX2_grower 18 = .ok (.invokevirtual 69, 3) := dk_182 0 69 (dk_at dksX2_grower_0 18 rfl rfl)
theorem dX2_grower_21 : decode cX2_grower 21 = .ok (.ifCond .eq 5, 3) := dk_153 0 5 (dk_at dksX2_grower_0 21 rfl rfl)
theorem dX2_grower_24 : decode cX2_grower 24 = .ok (.iconst 0, 1) := dk_3 (dk_at dksX2_grower_1 0 rfl rfl)
theorem dX2_grower_25 : decode cX2_grower 25 = .ok (.ireturn, 1) := dk_172 (dk_at dksX2_grower_1 1 rfl rfl)
theorem dX2_grower_26 : decode cX2_grower 26 = .ok (.aload_n 0, 1) := dk_42 (dk_at dksX2_grower_1 2 rfl rfl)
theorem dX2_grower_27 : decode cX2_grower 27 = .ok (.getfield 26, 3) := dk_180 0 26 (dk_at dksX2_grower_1 3 rfl rfl)
theorem dX2_grower_30 : decode cX2_grower 30 = .ok (.new 72, 3) := dk_187 0 72 (dk_at dksX2_grower_1 6 rfl rfl)
theorem dX2_grower_33 : decode cX2_grower 33 = .ok (.dup, 1) := dk_89 (dk_at dksX2_grower_1 9 rfl rfl)
theorem dX2_grower_34 : decode cX2_grower 34 = .ok (.invokespecial 74, 3) := dk_183 0 74 (dk_at dksX2_grower_1 10 rfl rfl)
theorem dX2_grower_37 : decode cX2_grower 37 = .ok (.invokevirtual 75, 3) := dk_182 0 75 (dk_at dksX2_grower_1 13 rfl rfl)
theorem dX2_grower_40 : decode cX2_grower 40 = .ok (.pop, 1) := dk_87 (dk_at dksX2_grower_1 16 rfl rfl)
theorem dX2_grower_41 : decode cX2_grower 41 = .ok (.aload_n 0, 1) := dk_42 (dk_at dksX2_grower_1 17 rfl rfl)
theorem dX2_grower_42 : decode cX2_grower 42 = .ok (.getfield 26, 3) := dk_180 0 26 (dk_at dksX2_grower_1 18 rfl rfl)
theorem dX2_grower_45 : decode cX2_grower 45 = .ok (.invokevirtual 58, 3) := dk_182 0 58 (dk_at dksX2_grower_1 21 rfl rfl)
theorem dX2_grower_48 : decode cX2_grower 48 = .ok (.iconst 1, 1) := dk_4 (dk_at dksX2_grower_2 0 rfl rfl)
theorem dX2_grower_49 : decode cX2_grower 49 = .ok (.isub, 1) := dk_100 (dk_at dksX2_grower_2 1 rfl rfl)
theorem dX2_grower_50 : decode cX2_grower 50 = .ok (.ireturn, 1) := dk_172 (dk_at dksX2_grower_2 2 rfl rfl)
abbrev cX2_start : ByteArray := prog_13_method_6_code
def yX2_start : MethodName := ⟨RX2, "start", "(ZI)Z"⟩
def dkwX2_start_0 : List UInt8 := [42, 3, 181, 0, 51, 42, 27, 28, 182, 0, 54, 172]
abbrev dktX2_start_0 : List UInt8 := dkwX2_start_0 ++ []
theorem dksX2_start_0 : cX2_start.data.toList.drop 0 = dktX2_start_0 := by decide +kernel
theorem dX2_start_0 : decode cX2_start 0 = .ok (.aload_n 0, 1) := dk_42 (dk_at dksX2_start_0 0 rfl rfl)
theorem dX2_start_1 : decode cX2_start 1 = .ok (.iconst 0, 1) := dk_3 (dk_at dksX2_start_0 1 rfl rfl)
theorem dX2_start_2 : decode cX2_start 2 = .ok (.putfield 51, 3) := dk_181 0 51 (dk_at dksX2_start_0 2 rfl rfl)
theorem dX2_start_5 : decode cX2_start 5 = .ok (.aload_n 0, 1) := dk_42 (dk_at dksX2_start_0 5 rfl rfl)
theorem dX2_start_6 : decode cX2_start 6 = .ok (.iload_n 1, 1) := dk_27 (dk_at dksX2_start_0 6 rfl rfl)
theorem dX2_start_7 : decode cX2_start 7 = .ok (.iload_n 2, 1) := dk_28 (dk_at dksX2_start_0 7 rfl rfl)
theorem dX2_start_8 : decode cX2_start 8 = .ok (.invokevirtual 54, 3) := dk_182 0 54 (dk_at dksX2_start_0 8 rfl rfl)
theorem dX2_start_11 : decode cX2_start 11 = .ok (.ireturn, 1) := dk_172 (dk_at dksX2_start_0 11 rfl rfl)
abbrev cX2_refuse : ByteArray := prog_13_method_5_code
def yX2_refuse : MethodName := ⟨RX2, "refuse", "(ZI)Z"⟩
def dkwX2_refuse_1 : List UInt8 := [167, 0, 4, 3, 172]
abbrev dktX2_refuse_1 : List UInt8 := dkwX2_refuse_1 ++ []
def dkwX2_refuse_0 : List UInt8 := [27, 153, 0, 15, 42, 180, 0, 51, 154, 0, 8, 42, 28, 181, 0, 51, 42, 180, 0, 51, 158, 0, 7, 4]
abbrev dktX2_refuse_0 : List UInt8 := dkwX2_refuse_0 ++ dktX2_refuse_1
theorem dksX2_refuse_0 : cX2_refuse.data.toList.drop 0 = dktX2_refuse_0 := by decide +kernel
theorem dksX2_refuse_1 : cX2_refuse.data.toList.drop 24 = dktX2_refuse_1 := dk_seg dksX2_refuse_0 24 rfl rfl
theorem dX2_refuse_0 : decode cX2_refuse 0 = .ok (.iload_n 1, 1) := dk_27 (dk_at dksX2_refuse_0 0 rfl rfl)
theorem dX2_refuse_1 : decode cX2_refuse 1 = .ok (.ifCond .eq 15, 3) := dk_153 0 15 (dk_at dksX2_refuse_0 1 rfl rfl)
theorem dX2_refuse_4 : decode cX2_refuse 4 = .ok (.aload_n 0, 1) := dk_42 (dk_at dksX2_refuse_0 4 rfl rfl)
theorem dX2_refuse_5 : decode cX2_refuse 5 = .ok (.getfield 51, 3) := dk_180 0 51 (dk_at dksX2_refuse_0 5 rfl rfl)
theorem dX2_refuse_8 : decode cX2_refuse 8 = .ok (.ifCond .ne 8, 3) := dk_154 0 8 (dk_at dksX2_refuse_0 8 rfl rfl)
theorem dX2_refuse_11 : decode cX2_refuse 11 = .ok (.aload_n 0, 1) := dk_42 (dk_at dksX2_refuse_0 11 rfl rfl)
theorem dX2_refuse_12 : decode cX2_refuse 12 = .ok (.iload_n 2, 1) := dk_28 (dk_at dksX2_refuse_0 12 rfl rfl)
theorem dX2_refuse_13 : decode cX2_refuse 13 = .ok (.putfield 51, 3) := dk_181 0 51 (dk_at dksX2_refuse_0 13 rfl rfl)
theorem dX2_refuse_16 : decode cX2_refuse 16 = .ok (.aload_n 0, 1) := dk_42 (dk_at dksX2_refuse_0 16 rfl rfl)
theorem dX2_refuse_17 : decode cX2_refuse 17 = .ok (.getfield 51, 3) := dk_180 0 51 (dk_at dksX2_refuse_0 17 rfl rfl)
theorem dX2_refuse_20 : decode cX2_refuse 20 = .ok (.ifCond .le 7, 3) := dk_158 0 7 (dk_at dksX2_refuse_0 20 rfl rfl)
theorem dX2_refuse_23 : decode cX2_refuse 23 = .ok (.iconst 1, 1) := dk_4 (dk_at dksX2_refuse_0 23 rfl rfl)
theorem dX2_refuse_24 : decode cX2_refuse 24 = .ok (.goto 4, 3) := dk_167 0 4 (dk_at dksX2_refuse_1 0 rfl rfl)
theorem dX2_refuse_27 : decode cX2_refuse 27 = .ok (.iconst 0, 1) := dk_3 (dk_at dksX2_refuse_1 3 rfl rfl)
theorem dX2_refuse_28 : decode cX2_refuse 28 = .ok (.ireturn, 1) := dk_172 (dk_at dksX2_refuse_1 4 rfl rfl)
abbrev cX2_lamps : ByteArray := prog_13_method_14_code
def yX2_lamps : MethodName := ⟨RX2, "lamps", "(II)I"⟩
def dkwX2_lamps_2 : List UInt8 := [180, 0, 87, 62, 42, 180, 0, 26, 27, 182, 0, 83, 192, 0, 72, 28, 181, 0, 87, 29, 172]
abbrev dktX2_lamps_2 : List UInt8 := dkwX2_lamps_2 ++ []
def dkwX2_lamps_1 : List UInt8 := [167, 0, 4, 3, 5, 182, 0, 54, 153, 0, 5, 3, 172, 42, 180, 0, 26, 27, 182, 0, 83, 192, 0, 72]
abbrev dktX2_lamps_1 : List UInt8 := dkwX2_lamps_1 ++ dktX2_lamps_2
def dkwX2_lamps_0 : List UInt8 := [42, 42, 27, 182, 0, 79, 4, 182, 0, 69, 154, 0, 25, 42, 28, 3, 6, 184, 0, 62, 154, 0, 7, 4]
abbrev dktX2_lamps_0 : List UInt8 := dkwX2_lamps_0 ++ dktX2_lamps_1
theorem dksX2_lamps_0 : cX2_lamps.data.toList.drop 0 = dktX2_lamps_0 := by decide +kernel
theorem dksX2_lamps_1 : cX2_lamps.data.toList.drop 24 = dktX2_lamps_1 := dk_seg dksX2_lamps_0 24 rfl rfl
theorem dksX2_lamps_2 : cX2_lamps.data.toList.drop 48 = dktX2_lamps_2 := dk_seg dksX2_lamps_1 24 rfl rfl
theorem dX2_lamps_0 : decode cX2_lamps 0 = .ok (.aload_n 0, 1) := dk_42 (dk_at dksX2_lamps_0 0 rfl rfl)
theorem dX2_lamps_1 : decode cX2_lamps 1 = .ok (.aload_n 0, 1) := dk_42 (dk_at dksX2_lamps_0 1 rfl rfl)
theorem dX2_lamps_2 : decode cX2_lamps 2 = .ok (.iload_n 1, 1) := dk_27 (dk_at dksX2_lamps_0 2 rfl rfl)
theorem dX2_lamps_3 : decode cX2_lamps 3 = .ok (.invokevirtual 79, 3) := dk_182 0 79 (dk_at dksX2_lamps_0 3 rfl rfl)
theorem dX2_lamps_6 : decode cX2_lamps 6 = .ok (.iconst 1, 1) := dk_4 (dk_at dksX2_lamps_0 6 rfl rfl)
theorem dX2_lamps_7 : decode cX2_lamps 7 = .ok (.invokevirtual 69, 3) := dk_182 0 69 (dk_at dksX2_lamps_0 7 rfl rfl)
theorem dX2_lamps_10 : decode cX2_lamps 10 = .ok (.ifCond .ne 25, 3) := dk_154 0 25 (dk_at dksX2_lamps_0 10 rfl rfl)
theorem dX2_lamps_13 : decode cX2_lamps 13 = .ok (.aload_n 0, 1) := dk_42 (dk_at dksX2_lamps_0 13 rfl rfl)
theorem dX2_lamps_14 : decode cX2_lamps 14 = .ok (.iload_n 2, 1) := dk_28 (dk_at dksX2_lamps_0 14 rfl rfl)
theorem dX2_lamps_15 : decode cX2_lamps 15 = .ok (.iconst 0, 1) := dk_3 (dk_at dksX2_lamps_0 15 rfl rfl)
theorem dX2_lamps_16 : decode cX2_lamps 16 = .ok (.iconst 3, 1) := dk_6 (dk_at dksX2_lamps_0 16 rfl rfl)
theorem dX2_lamps_17 : decode cX2_lamps 17 = .ok (.invokestatic 62, 3) := dk_184 0 62 (dk_at dksX2_lamps_0 17 rfl rfl)
theorem dX2_lamps_20 : decode cX2_lamps 20 = .ok (.ifCond .ne 7, 3) := dk_154 0 7 (dk_at dksX2_lamps_0 20 rfl rfl)
theorem dX2_lamps_23 : decode cX2_lamps 23 = .ok (.iconst 1, 1) := dk_4 (dk_at dksX2_lamps_0 23 rfl rfl)
theorem dX2_lamps_24 : decode cX2_lamps 24 = .ok (.goto 4, 3) := dk_167 0 4 (dk_at dksX2_lamps_1 0 rfl rfl)
theorem dX2_lamps_27 : decode cX2_lamps 27 = .ok (.iconst 0, 1) := dk_3 (dk_at dksX2_lamps_1 3 rfl rfl)
theorem dX2_lamps_28 : decode cX2_lamps 28 = .ok (.iconst 2, 1) := dk_5 (dk_at dksX2_lamps_1 4 rfl rfl)
theorem dX2_lamps_29 : decode cX2_lamps 29 = .ok (.invokevirtual 54, 3) := dk_182 0 54 (dk_at dksX2_lamps_1 5 rfl rfl)
theorem dX2_lamps_32 : decode cX2_lamps 32 = .ok (.ifCond .eq 5, 3) := dk_153 0 5 (dk_at dksX2_lamps_1 8 rfl rfl)
theorem dX2_lamps_35 : decode cX2_lamps 35 = .ok (.iconst 0, 1) := dk_3 (dk_at dksX2_lamps_1 11 rfl rfl)
theorem dX2_lamps_36 : decode cX2_lamps 36 = .ok (.ireturn, 1) := dk_172 (dk_at dksX2_lamps_1 12 rfl rfl)
theorem dX2_lamps_37 : decode cX2_lamps 37 = .ok (.aload_n 0, 1) := dk_42 (dk_at dksX2_lamps_1 13 rfl rfl)
theorem dX2_lamps_38 : decode cX2_lamps 38 = .ok (.getfield 26, 3) := dk_180 0 26 (dk_at dksX2_lamps_1 14 rfl rfl)
theorem dX2_lamps_41 : decode cX2_lamps 41 = .ok (.iload_n 1, 1) := dk_27 (dk_at dksX2_lamps_1 17 rfl rfl)
theorem dX2_lamps_42 : decode cX2_lamps 42 = .ok (.invokevirtual 83, 3) := dk_182 0 83 (dk_at dksX2_lamps_1 18 rfl rfl)
theorem dX2_lamps_45 : decode cX2_lamps 45 = .ok (.checkcast 72, 3) := dk_192 0 72 (dk_at dksX2_lamps_1 21 rfl rfl)
theorem dX2_lamps_48 : decode cX2_lamps 48 = .ok (.getfield 87, 3) := dk_180 0 87 (dk_at dksX2_lamps_2 0 rfl rfl)
theorem dX2_lamps_51 : decode cX2_lamps 51 = .ok (.istore_n 3, 1) := dk_62 (dk_at dksX2_lamps_2 3 rfl rfl)
theorem dX2_lamps_52 : decode cX2_lamps 52 = .ok (.aload_n 0, 1) := dk_42 (dk_at dksX2_lamps_2 4 rfl rfl)
theorem dX2_lamps_53 : decode cX2_lamps 53 = .ok (.getfield 26, 3) := dk_180 0 26 (dk_at dksX2_lamps_2 5 rfl rfl)
theorem dX2_lamps_56 : decode cX2_lamps 56 = .ok (.iload_n 1, 1) := dk_27 (dk_at dksX2_lamps_2 8 rfl rfl)
theorem dX2_lamps_57 : decode cX2_lamps 57 = .ok (.invokevirtual 83, 3) := dk_182 0 83 (dk_at dksX2_lamps_2 9 rfl rfl)
theorem dX2_lamps_60 : decode cX2_lamps 60 = .ok (.checkcast 72, 3) := dk_192 0 72 (dk_at dksX2_lamps_2 12 rfl rfl)
theorem dX2_lamps_63 : decode cX2_lamps 63 = .ok (.iload_n 2, 1) := dk_28 (dk_at dksX2_lamps_2 15 rfl rfl)
theorem dX2_lamps_64 : decode cX2_lamps 64 = .ok (.putfield 87, 3) := dk_181 0 87 (dk_at dksX2_lamps_2 16 rfl rfl)
theorem dX2_lamps_67 : decode cX2_lamps 67 = .ok (.iload_n 3, 1) := dk_29 (dk_at dksX2_lamps_2 19 rfl rfl)
theorem dX2_lamps_68 : decode cX2_lamps 68 = .ok (.ireturn, 1) := dk_172 (dk_at dksX2_lamps_2 20 rfl rfl)
abbrev cX2_isNoGrower : ByteArray := prog_13_method_7_code
def yX2_isNoGrower : MethodName := ⟨RX2, "isNoGrower", "(I)Z"⟩
def dkwX2_isNoGrower_0 : List UInt8 := [27, 3, 42, 180, 0, 26, 182, 0, 58, 4, 100, 184, 0, 62, 154, 0, 7, 4, 167, 0, 4, 3, 172]
abbrev dktX2_isNoGrower_0 : List UInt8 := dkwX2_isNoGrower_0 ++ []
theorem dksX2_isNoGrower_0 : cX2_isNoGrower.data.toList.drop 0 = dktX2_isNoGrower_0 := by decide +kernel
theorem dX2_isNoGrower_0 : decode cX2_isNoGrower 0 = .ok (.iload_n 1, 1) := dk_27 (dk_at dksX2_isNoGrower_0 0 rfl rfl)
theorem dX2_isNoGrower_1 : decode cX2_isNoGrower 1 = .ok (.iconst 0, 1) := dk_3 (dk_at dksX2_isNoGrower_0 1 rfl rfl)
theorem dX2_isNoGrower_2 : decode cX2_isNoGrower 2 = .ok (.aload_n 0, 1) := dk_42 (dk_at dksX2_isNoGrower_0 2 rfl rfl)
theorem dX2_isNoGrower_3 : decode cX2_isNoGrower 3 = .ok (.getfield 26, 3) := dk_180 0 26 (dk_at dksX2_isNoGrower_0 3 rfl rfl)
theorem dX2_isNoGrower_6 : decode cX2_isNoGrower 6 = .ok (.invokevirtual 58, 3) := dk_182 0 58 (dk_at dksX2_isNoGrower_0 6 rfl rfl)
theorem dX2_isNoGrower_9 : decode cX2_isNoGrower 9 = .ok (.iconst 1, 1) := dk_4 (dk_at dksX2_isNoGrower_0 9 rfl rfl)
theorem dX2_isNoGrower_10 : decode cX2_isNoGrower 10 = .ok (.isub, 1) := dk_100 (dk_at dksX2_isNoGrower_0 10 rfl rfl)
theorem dX2_isNoGrower_11 : decode cX2_isNoGrower 11 = .ok (.invokestatic 62, 3) := dk_184 0 62 (dk_at dksX2_isNoGrower_0 11 rfl rfl)
theorem dX2_isNoGrower_14 : decode cX2_isNoGrower 14 = .ok (.ifCond .ne 7, 3) := dk_154 0 7 (dk_at dksX2_isNoGrower_0 14 rfl rfl)
theorem dX2_isNoGrower_17 : decode cX2_isNoGrower 17 = .ok (.iconst 1, 1) := dk_4 (dk_at dksX2_isNoGrower_0 17 rfl rfl)
theorem dX2_isNoGrower_18 : decode cX2_isNoGrower 18 = .ok (.goto 4, 3) := dk_167 0 4 (dk_at dksX2_isNoGrower_0 18 rfl rfl)
theorem dX2_isNoGrower_21 : decode cX2_isNoGrower 21 = .ok (.iconst 0, 1) := dk_3 (dk_at dksX2_isNoGrower_0 21 rfl rfl)
theorem dX2_isNoGrower_22 : decode cX2_isNoGrower 22 = .ok (.ireturn, 1) := dk_172 (dk_at dksX2_isNoGrower_0 22 rfl rfl)
abbrev cX2_isIn : ByteArray := prog_13_method_1_code
def yX2_isIn : MethodName := ⟨RX2, "isIn", "(III)Z"⟩
def dkwX2_isIn_0 : List UInt8 := [26, 27, 161, 0, 12, 26, 28, 163, 0, 7, 4, 167, 0, 4, 3, 172]
abbrev dktX2_isIn_0 : List UInt8 := dkwX2_isIn_0 ++ []
theorem dksX2_isIn_0 : cX2_isIn.data.toList.drop 0 = dktX2_isIn_0 := by decide +kernel
theorem dX2_isIn_0 : decode cX2_isIn 0 = .ok (.iload_n 0, 1) := dk_26 (dk_at dksX2_isIn_0 0 rfl rfl)
theorem dX2_isIn_1 : decode cX2_isIn 1 = .ok (.iload_n 1, 1) := dk_27 (dk_at dksX2_isIn_0 1 rfl rfl)
theorem dX2_isIn_2 : decode cX2_isIn 2 = .ok (.if_icmp .lt 12, 3) := dk_161 0 12 (dk_at dksX2_isIn_0 2 rfl rfl)
theorem dX2_isIn_5 : decode cX2_isIn 5 = .ok (.iload_n 0, 1) := dk_26 (dk_at dksX2_isIn_0 5 rfl rfl)
theorem dX2_isIn_6 : decode cX2_isIn 6 = .ok (.iload_n 2, 1) := dk_28 (dk_at dksX2_isIn_0 6 rfl rfl)
theorem dX2_isIn_7 : decode cX2_isIn 7 = .ok (.if_icmp .gt 7, 3) := dk_163 0 7 (dk_at dksX2_isIn_0 7 rfl rfl)
theorem dX2_isIn_10 : decode cX2_isIn 10 = .ok (.iconst 1, 1) := dk_4 (dk_at dksX2_isIn_0 10 rfl rfl)
theorem dX2_isIn_11 : decode cX2_isIn 11 = .ok (.goto 4, 3) := dk_167 0 4 (dk_at dksX2_isIn_0 11 rfl rfl)
theorem dX2_isIn_14 : decode cX2_isIn 14 = .ok (.iconst 0, 1) := dk_3 (dk_at dksX2_isIn_0 14 rfl rfl)
theorem dX2_isIn_15 : decode cX2_isIn 15 = .ok (.ireturn, 1) := dk_172 (dk_at dksX2_isIn_0 15 rfl rfl)
abbrev cX2_plant : ByteArray := prog_13_method_15_code
def yX2_plant : MethodName := ⟨RX2, "plant", "(III)I"⟩
def dkwX2_plant_4 : List UInt8 := [183, 0, 95, 182, 0, 75, 87, 42, 180, 0, 30, 182, 0, 58, 4, 100, 172]
abbrev dktX2_plant_4 : List UInt8 := dkwX2_plant_4 ++ []
def dkwX2_plant_3 : List UInt8 := [172, 42, 180, 0, 30, 187, 0, 93, 89, 42, 180, 0, 26, 27, 182, 0, 83, 192, 0, 72, 27, 28, 29]
abbrev dktX2_plant_3 : List UInt8 := dkwX2_plant_3 ++ dktX2_plant_4
def dkwX2_plant_2 : List UInt8 := [180, 0, 30, 182, 0, 58, 16, 8, 160, 0, 7, 4, 167, 0, 4, 3, 6, 182, 0, 54, 153, 0, 5, 3]
abbrev dktX2_plant_2 : List UInt8 := dkwX2_plant_2 ++ dktX2_plant_3
def dkwX2_plant_1 : List UInt8 := [17, 0, 200, 184, 0, 62, 154, 0, 7, 4, 167, 0, 4, 3, 5, 182, 0, 54, 154, 0, 28, 42, 42]
abbrev dktX2_plant_1 : List UInt8 := dkwX2_plant_1 ++ dktX2_plant_2
def dkwX2_plant_0 : List UInt8 := [42, 42, 27, 182, 0, 79, 4, 182, 0, 69, 154, 0, 59, 42, 28, 184, 0, 90, 154, 0, 14, 29, 4]
abbrev dktX2_plant_0 : List UInt8 := dkwX2_plant_0 ++ dktX2_plant_1
theorem dksX2_plant_0 : cX2_plant.data.toList.drop 0 = dktX2_plant_0 := by decide +kernel
theorem dksX2_plant_1 : cX2_plant.data.toList.drop 23 = dktX2_plant_1 := dk_seg dksX2_plant_0 23 rfl rfl
theorem dksX2_plant_2 : cX2_plant.data.toList.drop 46 = dktX2_plant_2 := dk_seg dksX2_plant_1 23 rfl rfl
theorem dksX2_plant_3 : cX2_plant.data.toList.drop 70 = dktX2_plant_3 := dk_seg dksX2_plant_2 24 rfl rfl
theorem dksX2_plant_4 : cX2_plant.data.toList.drop 93 = dktX2_plant_4 := dk_seg dksX2_plant_3 23 rfl rfl
theorem dX2_plant_0 : decode cX2_plant 0 = .ok (.aload_n 0, 1) := dk_42 (dk_at dksX2_plant_0 0 rfl rfl)
theorem dX2_plant_1 : decode cX2_plant 1 = .ok (.aload_n 0, 1) := dk_42 (dk_at dksX2_plant_0 1 rfl rfl)
theorem dX2_plant_2 : decode cX2_plant 2 = .ok (.iload_n 1, 1) := dk_27 (dk_at dksX2_plant_0 2 rfl rfl)
theorem dX2_plant_3 : decode cX2_plant 3 = .ok (.invokevirtual 79, 3) := dk_182 0 79 (dk_at dksX2_plant_0 3 rfl rfl)
theorem dX2_plant_6 : decode cX2_plant 6 = .ok (.iconst 1, 1) := dk_4 (dk_at dksX2_plant_0 6 rfl rfl)
theorem dX2_plant_7 : decode cX2_plant 7 = .ok (.invokevirtual 69, 3) := dk_182 0 69 (dk_at dksX2_plant_0 7 rfl rfl)
theorem dX2_plant_10 : decode cX2_plant 10 = .ok (.ifCond .ne 59, 3) := dk_154 0 59 (dk_at dksX2_plant_0 10 rfl rfl)
theorem dX2_plant_13 : decode cX2_plant 13 = .ok (.aload_n 0, 1) := dk_42 (dk_at dksX2_plant_0 13 rfl rfl)
theorem dX2_plant_14 : decode cX2_plant 14 = .ok (.iload_n 2, 1) := dk_28 (dk_at dksX2_plant_0 14 rfl rfl)
theorem dX2_plant_15 : decode cX2_plant 15 = .ok (.invokestatic 90, 3) := dk_184 0 90 (dk_at dksX2_plant_0 15 rfl rfl)
theorem dX2_plant_18 : decode cX2_plant 18 = .ok (.ifCond .ne 14, 3) := dk_154 0 14 (dk_at dksX2_plant_0 18 rfl rfl)
theorem dX2_plant_21 : decode cX2_plant 21 = .ok (.iload_n 3, 1) := dk_29 (dk_at dksX2_plant_0 21 rfl rfl)
theorem dX2_plant_22 : decode cX2_plant 22 = .ok (.iconst 1, 1) := dk_4 (dk_at dksX2_plant_0 22 rfl rfl)
theorem dX2_plant_23 : decode cX2_plant 23 = .ok (.sipush 200, 3) := dk_17 0 200 (dk_at dksX2_plant_1 0 rfl rfl)
theorem dX2_plant_26 : decode cX2_plant 26 = .ok (.invokestatic 62, 3) := dk_184 0 62 (dk_at dksX2_plant_1 3 rfl rfl)
theorem dX2_plant_29 : decode cX2_plant 29 = .ok (.ifCond .ne 7, 3) := dk_154 0 7 (dk_at dksX2_plant_1 6 rfl rfl)
theorem dX2_plant_32 : decode cX2_plant 32 = .ok (.iconst 1, 1) := dk_4 (dk_at dksX2_plant_1 9 rfl rfl)
theorem dX2_plant_33 : decode cX2_plant 33 = .ok (.goto 4, 3) := dk_167 0 4 (dk_at dksX2_plant_1 10 rfl rfl)
theorem dX2_plant_36 : decode cX2_plant 36 = .ok (.iconst 0, 1) := dk_3 (dk_at dksX2_plant_1 13 rfl rfl)
theorem dX2_plant_37 : decode cX2_plant 37 = .ok (.iconst 2, 1) := dk_5 (dk_at dksX2_plant_1 14 rfl rfl)
theorem dX2_plant_38 : decode cX2_plant 38 = .ok (.invokevirtual 54, 3) := dk_182 0 54 (dk_at dksX2_plant_1 15 rfl rfl)
theorem dX2_plant_41 : decode cX2_plant 41 = .ok (.ifCond .ne 28, 3) := dk_154 0 28 (dk_at dksX2_plant_1 18 rfl rfl)
theorem dX2_plant_44 : decode cX2_plant 44 = .ok (.aload_n 0, 1) := dk_42 (dk_at dksX2_plant_1 21 rfl rfl)
theorem dX2_plant_45 : decode cX2_plant 45 = .ok (.aload_n 0, 1) := dk_42 (dk_at dksX2_plant_1 22 rfl rfl)
theorem dX2_plant_46 : decode cX2_plant 46 = .ok (.getfield 30, 3) := dk_180 0 30 (dk_at dksX2_plant_2 0 rfl rfl)
theorem dX2_plant_49 : decode cX2_plant 49 = .ok (.invokevirtual 58, 3) := dk_182 0 58 (dk_at dksX2_plant_2 3 rfl rfl)
theorem dX2_plant_52 : decode cX2_plant 52 = .ok (.bipush 8, 2) := dk_16 8 (dk_at dksX2_plant_2 6 rfl rfl)
theorem dX2_plant_54 : decode cX2_plant 54 = .ok (.if_icmp .ne 7, 3) := dk_160 0 7 (dk_at dksX2_plant_2 8 rfl rfl)
theorem dX2_plant_57 : decode cX2_plant 57 = .ok (.iconst 1, 1) := dk_4 (dk_at dksX2_plant_2 11 rfl rfl)
theorem dX2_plant_58 : decode cX2_plant 58 = .ok (.goto 4, 3) := dk_167 0 4 (dk_at dksX2_plant_2 12 rfl rfl)
theorem dX2_plant_61 : decode cX2_plant 61 = .ok (.iconst 0, 1) := dk_3 (dk_at dksX2_plant_2 15 rfl rfl)
theorem dX2_plant_62 : decode cX2_plant 62 = .ok (.iconst 3, 1) := dk_6 (dk_at dksX2_plant_2 16 rfl rfl)
theorem dX2_plant_63 : decode cX2_plant 63 = .ok (.invokevirtual 54, 3) := dk_182 0 54 (dk_at dksX2_plant_2 17 rfl rfl)
theorem dX2_plant_66 : decode cX2_plant 66 = .ok (.ifCond .eq 5, 3) := dk_153 0 5 (dk_at dksX2_plant_2 20 rfl rfl)
theorem dX2_plant_69 : decode cX2_plant 69 = .ok (.iconst 0, 1) := dk_3 (dk_at dksX2_plant_2 23 rfl rfl)
theorem dX2_plant_70 : decode cX2_plant 70 = .ok (.ireturn, 1) := dk_172 (dk_at dksX2_plant_3 0 rfl rfl)
theorem dX2_plant_71 : decode cX2_plant 71 = .ok (.aload_n 0, 1) := dk_42 (dk_at dksX2_plant_3 1 rfl rfl)
theorem dX2_plant_72 : decode cX2_plant 72 = .ok (.getfield 30, 3) := dk_180 0 30 (dk_at dksX2_plant_3 2 rfl rfl)
theorem dX2_plant_75 : decode cX2_plant 75 = .ok (.new 93, 3) := dk_187 0 93 (dk_at dksX2_plant_3 5 rfl rfl)
theorem dX2_plant_78 : decode cX2_plant 78 = .ok (.dup, 1) := dk_89 (dk_at dksX2_plant_3 8 rfl rfl)
theorem dX2_plant_79 : decode cX2_plant 79 = .ok (.aload_n 0, 1) := dk_42 (dk_at dksX2_plant_3 9 rfl rfl)
theorem dX2_plant_80 : decode cX2_plant 80 = .ok (.getfield 26, 3) := dk_180 0 26 (dk_at dksX2_plant_3 10 rfl rfl)
theorem dX2_plant_83 : decode cX2_plant 83 = .ok (.iload_n 1, 1) := dk_27 (dk_at dksX2_plant_3 13 rfl rfl)
theorem dX2_plant_84 : decode cX2_plant 84 = .ok (.invokevirtual 83, 3) := dk_182 0 83 (dk_at dksX2_plant_3 14 rfl rfl)
theorem dX2_plant_87 : decode cX2_plant 87 = .ok (.checkcast 72, 3) := dk_192 0 72 (dk_at dksX2_plant_3 17 rfl rfl)
theorem dX2_plant_90 : decode cX2_plant 90 = .ok (.iload_n 1, 1) := dk_27 (dk_at dksX2_plant_3 20 rfl rfl)
theorem dX2_plant_91 : decode cX2_plant 91 = .ok (.iload_n 2, 1) := dk_28 (dk_at dksX2_plant_3 21 rfl rfl)
theorem dX2_plant_92 : decode cX2_plant 92 = .ok (.iload_n 3, 1) := dk_29 (dk_at dksX2_plant_3 22 rfl rfl)
theorem dX2_plant_93 : decode cX2_plant 93 = .ok (.invokespecial 95, 3) := dk_183 0 95 (dk_at dksX2_plant_4 0 rfl rfl)
theorem dX2_plant_96 : decode cX2_plant 96 = .ok (.invokevirtual 75, 3) := dk_182 0 75 (dk_at dksX2_plant_4 3 rfl rfl)
theorem dX2_plant_99 : decode cX2_plant 99 = .ok (.pop, 1) := dk_87 (dk_at dksX2_plant_4 6 rfl rfl)
theorem dX2_plant_100 : decode cX2_plant 100 = .ok (.aload_n 0, 1) := dk_42 (dk_at dksX2_plant_4 7 rfl rfl)
theorem dX2_plant_101 : decode cX2_plant 101 = .ok (.getfield 30, 3) := dk_180 0 30 (dk_at dksX2_plant_4 8 rfl rfl)
theorem dX2_plant_104 : decode cX2_plant 104 = .ok (.invokevirtual 58, 3) := dk_182 0 58 (dk_at dksX2_plant_4 11 rfl rfl)
theorem dX2_plant_107 : decode cX2_plant 107 = .ok (.iconst 1, 1) := dk_4 (dk_at dksX2_plant_4 14 rfl rfl)
theorem dX2_plant_108 : decode cX2_plant 108 = .ok (.isub, 1) := dk_100 (dk_at dksX2_plant_4 15 rfl rfl)
theorem dX2_plant_109 : decode cX2_plant 109 = .ok (.ireturn, 1) := dk_172 (dk_at dksX2_plant_4 16 rfl rfl)
abbrev cX2_isNoCultivar : ByteArray := prog_13_method_11_code
def yX2_isNoCultivar : MethodName := ⟨RX2, "isNoCultivar", "(I)Z"⟩
def dkwX2_isNoCultivar_0 : List UInt8 := [26, 3, 5, 184, 0, 62, 154, 0, 7, 4, 167, 0, 4, 3, 172]
abbrev dktX2_isNoCultivar_0 : List UInt8 := dkwX2_isNoCultivar_0 ++ []
theorem dksX2_isNoCultivar_0 : cX2_isNoCultivar.data.toList.drop 0 = dktX2_isNoCultivar_0 := by decide +kernel
theorem dX2_isNoCultivar_0 : decode cX2_isNoCultivar 0 = .ok (.iload_n 0, 1) := dk_26 (dk_at dksX2_isNoCultivar_0 0 rfl rfl)
theorem dX2_isNoCultivar_1 : decode cX2_isNoCultivar 1 = .ok (.iconst 0, 1) := dk_3 (dk_at dksX2_isNoCultivar_0 1 rfl rfl)
theorem dX2_isNoCultivar_2 : decode cX2_isNoCultivar 2 = .ok (.iconst 2, 1) := dk_5 (dk_at dksX2_isNoCultivar_0 2 rfl rfl)
theorem dX2_isNoCultivar_3 : decode cX2_isNoCultivar 3 = .ok (.invokestatic 62, 3) := dk_184 0 62 (dk_at dksX2_isNoCultivar_0 3 rfl rfl)
theorem dX2_isNoCultivar_6 : decode cX2_isNoCultivar 6 = .ok (.ifCond .ne 7, 3) := dk_154 0 7 (dk_at dksX2_isNoCultivar_0 6 rfl rfl)
theorem dX2_isNoCultivar_9 : decode cX2_isNoCultivar 9 = .ok (.iconst 1, 1) := dk_4 (dk_at dksX2_isNoCultivar_0 9 rfl rfl)
theorem dX2_isNoCultivar_10 : decode cX2_isNoCultivar 10 = .ok (.goto 4, 3) := dk_167 0 4 (dk_at dksX2_isNoCultivar_0 10 rfl rfl)
theorem dX2_isNoCultivar_13 : decode cX2_isNoCultivar 13 = .ok (.iconst 0, 1) := dk_3 (dk_at dksX2_isNoCultivar_0 13 rfl rfl)
theorem dX2_isNoCultivar_14 : decode cX2_isNoCultivar 14 = .ok (.ireturn, 1) := dk_172 (dk_at dksX2_isNoCultivar_0 14 rfl rfl)
abbrev cX2_cut : ByteArray := prog_13_method_16_code
def yX2_cut : MethodName := ⟨RX2, "cut", "(II)I"⟩
def dkwX2_cut_7 : List UInt8 := [4, 100, 172]
abbrev dktX2_cut_7 : List UInt8 := dkwX2_cut_7 ++ []
def dkwX2_cut_6 : List UInt8 := [180, 0, 126, 100, 181, 0, 13, 42, 180, 0, 33, 25, 4, 182, 0, 75, 87, 42, 180, 0, 33, 182, 0, 58]
abbrev dktX2_cut_6 : List UInt8 := dkwX2_cut_6 ++ dktX2_cut_7
def dkwX2_cut_5 : List UInt8 := [180, 0, 114, 45, 180, 0, 117, 28, 45, 180, 0, 120, 183, 0, 123, 58, 4, 42, 89, 180, 0, 13, 25, 4]
abbrev dktX2_cut_5 : List UInt8 := dkwX2_cut_5 ++ dktX2_cut_6
def dkwX2_cut_4 : List UInt8 := [182, 0, 54, 153, 0, 5, 3, 172, 45, 89, 180, 0, 105, 28, 100, 181, 0, 105, 187, 0, 112, 89, 45]
abbrev dktX2_cut_4 : List UInt8 := dkwX2_cut_4 ++ dktX2_cut_5
def dkwX2_cut_3 : List UInt8 := [159, 0, 16, 28, 16, 20, 184, 0, 108, 42, 180, 0, 13, 164, 0, 7, 4, 167, 0, 4, 3, 6]
abbrev dktX2_cut_3 : List UInt8 := dkwX2_cut_3 ++ dktX2_cut_4
def dkwX2_cut_2 : List UInt8 := [180, 0, 101, 153, 0, 36, 45, 180, 0, 105, 28, 161, 0, 28, 42, 180, 0, 33, 182, 0, 58, 16, 16]
abbrev dktX2_cut_2 : List UInt8 := dkwX2_cut_2 ++ dktX2_cut_3
def dkwX2_cut_1 : List UInt8 := [5, 182, 0, 54, 153, 0, 5, 3, 172, 42, 180, 0, 30, 27, 182, 0, 83, 192, 0, 93, 78, 42, 45]
abbrev dktX2_cut_1 : List UInt8 := dkwX2_cut_1 ++ dktX2_cut_2
def dkwX2_cut_0 : List UInt8 := [42, 42, 27, 182, 0, 98, 4, 182, 0, 69, 154, 0, 21, 42, 28, 4, 162, 0, 7, 4, 167, 0, 4, 3]
abbrev dktX2_cut_0 : List UInt8 := dkwX2_cut_0 ++ dktX2_cut_1
theorem dksX2_cut_0 : cX2_cut.data.toList.drop 0 = dktX2_cut_0 := by decide +kernel
theorem dksX2_cut_1 : cX2_cut.data.toList.drop 24 = dktX2_cut_1 := dk_seg dksX2_cut_0 24 rfl rfl
theorem dksX2_cut_2 : cX2_cut.data.toList.drop 47 = dktX2_cut_2 := dk_seg dksX2_cut_1 23 rfl rfl
theorem dksX2_cut_3 : cX2_cut.data.toList.drop 70 = dktX2_cut_3 := dk_seg dksX2_cut_2 23 rfl rfl
theorem dksX2_cut_4 : cX2_cut.data.toList.drop 92 = dktX2_cut_4 := dk_seg dksX2_cut_3 22 rfl rfl
theorem dksX2_cut_5 : cX2_cut.data.toList.drop 115 = dktX2_cut_5 := dk_seg dksX2_cut_4 23 rfl rfl
theorem dksX2_cut_6 : cX2_cut.data.toList.drop 139 = dktX2_cut_6 := dk_seg dksX2_cut_5 24 rfl rfl
theorem dksX2_cut_7 : cX2_cut.data.toList.drop 163 = dktX2_cut_7 := dk_seg dksX2_cut_6 24 rfl rfl
theorem dX2_cut_0 : decode cX2_cut 0 = .ok (.aload_n 0, 1) := dk_42 (dk_at dksX2_cut_0 0 rfl rfl)
theorem dX2_cut_1 : decode cX2_cut 1 = .ok (.aload_n 0, 1) := dk_42 (dk_at dksX2_cut_0 1 rfl rfl)
theorem dX2_cut_2 : decode cX2_cut 2 = .ok (.iload_n 1, 1) := dk_27 (dk_at dksX2_cut_0 2 rfl rfl)
theorem dX2_cut_3 : decode cX2_cut 3 = .ok (.invokevirtual 98, 3) := dk_182 0 98 (dk_at dksX2_cut_0 3 rfl rfl)
theorem dX2_cut_6 : decode cX2_cut 6 = .ok (.iconst 1, 1) := dk_4 (dk_at dksX2_cut_0 6 rfl rfl)
theorem dX2_cut_7 : decode cX2_cut 7 = .ok (.invokevirtual 69, 3) := dk_182 0 69 (dk_at dksX2_cut_0 7 rfl rfl)
theorem dX2_cut_10 : decode cX2_cut 10 = .ok (.ifCond .ne 21, 3) := dk_154 0 21 (dk_at dksX2_cut_0 10 rfl rfl)
theorem dX2_cut_13 : decode cX2_cut 13 = .ok (.aload_n 0, 1) := dk_42 (dk_at dksX2_cut_0 13 rfl rfl)
theorem dX2_cut_14 : decode cX2_cut 14 = .ok (.iload_n 2, 1) := dk_28 (dk_at dksX2_cut_0 14 rfl rfl)
theorem dX2_cut_15 : decode cX2_cut 15 = .ok (.iconst 1, 1) := dk_4 (dk_at dksX2_cut_0 15 rfl rfl)
theorem dX2_cut_16 : decode cX2_cut 16 = .ok (.if_icmp .ge 7, 3) := dk_162 0 7 (dk_at dksX2_cut_0 16 rfl rfl)
theorem dX2_cut_19 : decode cX2_cut 19 = .ok (.iconst 1, 1) := dk_4 (dk_at dksX2_cut_0 19 rfl rfl)
theorem dX2_cut_20 : decode cX2_cut 20 = .ok (.goto 4, 3) := dk_167 0 4 (dk_at dksX2_cut_0 20 rfl rfl)
theorem dX2_cut_23 : decode cX2_cut 23 = .ok (.iconst 0, 1) := dk_3 (dk_at dksX2_cut_0 23 rfl rfl)
theorem dX2_cut_24 : decode cX2_cut 24 = .ok (.iconst 2, 1) := dk_5 (dk_at dksX2_cut_1 0 rfl rfl)
theorem dX2_cut_25 : decode cX2_cut 25 = .ok (.invokevirtual 54, 3) := dk_182 0 54 (dk_at dksX2_cut_1 1 rfl rfl)
theorem dX2_cut_28 : decode cX2_cut 28 = .ok (.ifCond .eq 5, 3) := dk_153 0 5 (dk_at dksX2_cut_1 4 rfl rfl)
theorem dX2_cut_31 : decode cX2_cut 31 = .ok (.iconst 0, 1) := dk_3 (dk_at dksX2_cut_1 7 rfl rfl)
theorem dX2_cut_32 : decode cX2_cut 32 = .ok (.ireturn, 1) := dk_172 (dk_at dksX2_cut_1 8 rfl rfl)
theorem dX2_cut_33 : decode cX2_cut 33 = .ok (.aload_n 0, 1) := dk_42 (dk_at dksX2_cut_1 9 rfl rfl)
theorem dX2_cut_34 : decode cX2_cut 34 = .ok (.getfield 30, 3) := dk_180 0 30 (dk_at dksX2_cut_1 10 rfl rfl)
theorem dX2_cut_37 : decode cX2_cut 37 = .ok (.iload_n 1, 1) := dk_27 (dk_at dksX2_cut_1 13 rfl rfl)
theorem dX2_cut_38 : decode cX2_cut 38 = .ok (.invokevirtual 83, 3) := dk_182 0 83 (dk_at dksX2_cut_1 14 rfl rfl)
theorem dX2_cut_41 : decode cX2_cut 41 = .ok (.checkcast 93, 3) := dk_192 0 93 (dk_at dksX2_cut_1 17 rfl rfl)
theorem dX2_cut_44 : decode cX2_cut 44 = .ok (.astore_n 3, 1) := dk_78 (dk_at dksX2_cut_1 20 rfl rfl)
theorem dX2_cut_45 : decode cX2_cut 45 = .ok (.aload_n 0, 1) := dk_42 (dk_at dksX2_cut_1 21 rfl rfl)
theorem dX2_cut_46 : decode cX2_cut 46 = .ok (.aload_n 3, 1) := dk_45 (dk_at dksX2_cut_1 22 rfl rfl)
theorem dX2_cut_47 : decode cX2_cut 47 = .ok (.getfield 101, 3) := dk_180 0 101 (dk_at dksX2_cut_2 0 rfl rfl)
theorem dX2_cut_50 : decode cX2_cut 50 = .ok (.ifCond .eq 36, 3) := dk_153 0 36 (dk_at dksX2_cut_2 3 rfl rfl)
theorem dX2_cut_53 : decode cX2_cut 53 = .ok (.aload_n 3, 1) := dk_45 (dk_at dksX2_cut_2 6 rfl rfl)
theorem dX2_cut_54 : decode cX2_cut 54 = .ok (.getfield 105, 3) := dk_180 0 105 (dk_at dksX2_cut_2 7 rfl rfl)
theorem dX2_cut_57 : decode cX2_cut 57 = .ok (.iload_n 2, 1) := dk_28 (dk_at dksX2_cut_2 10 rfl rfl)
theorem dX2_cut_58 : decode cX2_cut 58 = .ok (.if_icmp .lt 28, 3) := dk_161 0 28 (dk_at dksX2_cut_2 11 rfl rfl)
theorem dX2_cut_61 : decode cX2_cut 61 = .ok (.aload_n 0, 1) := dk_42 (dk_at dksX2_cut_2 14 rfl rfl)
theorem dX2_cut_62 : decode cX2_cut 62 = .ok (.getfield 33, 3) := dk_180 0 33 (dk_at dksX2_cut_2 15 rfl rfl)
theorem dX2_cut_65 : decode cX2_cut 65 = .ok (.invokevirtual 58, 3) := dk_182 0 58 (dk_at dksX2_cut_2 18 rfl rfl)
theorem dX2_cut_68 : decode cX2_cut 68 = .ok (.bipush 16, 2) := dk_16 16 (dk_at dksX2_cut_2 21 rfl rfl)
theorem dX2_cut_70 : decode cX2_cut 70 = .ok (.if_icmp .eq 16, 3) := dk_159 0 16 (dk_at dksX2_cut_3 0 rfl rfl)
theorem dX2_cut_73 : decode cX2_cut 73 = .ok (.iload_n 2, 1) := dk_28 (dk_at dksX2_cut_3 3 rfl rfl)
theorem dX2_cut_74 : decode cX2_cut 74 = .ok (.bipush 20, 2) := dk_16 20 (dk_at dksX2_cut_3 4 rfl rfl)
theorem dX2_cut_76 : decode cX2_cut 76 = .ok (.invokestatic 108, 3) := dk_184 0 108 (dk_at dksX2_cut_3 6 rfl rfl)
theorem dX2_cut_79 : decode cX2_cut 79 = .ok (.aload_n 0, 1) := dk_42 (dk_at dksX2_cut_3 9 rfl rfl)
theorem dX2_cut_80 : decode cX2_cut 80 = .ok (.getfield 13, 3) := dk_180 0 13 (dk_at dksX2_cut_3 10 rfl rfl)
theorem dX2_cut_83 : decode cX2_cut 83 = .ok (.if_icmp .le 7, 3) := dk_164 0 7 (dk_at dksX2_cut_3 13 rfl rfl)
theorem dX2_cut_86 : decode cX2_cut 86 = .ok (.iconst 1, 1) := dk_4 (dk_at dksX2_cut_3 16 rfl rfl)
theorem dX2_cut_87 : decode cX2_cut 87 = .ok (.goto 4, 3) := dk_167 0 4 (dk_at dksX2_cut_3 17 rfl rfl)
theorem dX2_cut_90 : decode cX2_cut 90 = .ok (.iconst 0, 1) := dk_3 (dk_at dksX2_cut_3 20 rfl rfl)
theorem dX2_cut_91 : decode cX2_cut 91 = .ok (.iconst 3, 1) := dk_6 (dk_at dksX2_cut_3 21 rfl rfl)
theorem dX2_cut_92 : decode cX2_cut 92 = .ok (.invokevirtual 54, 3) := dk_182 0 54 (dk_at dksX2_cut_4 0 rfl rfl)
theorem dX2_cut_95 : decode cX2_cut 95 = .ok (.ifCond .eq 5, 3) := dk_153 0 5 (dk_at dksX2_cut_4 3 rfl rfl)
theorem dX2_cut_98 : decode cX2_cut 98 = .ok (.iconst 0, 1) := dk_3 (dk_at dksX2_cut_4 6 rfl rfl)
theorem dX2_cut_99 : decode cX2_cut 99 = .ok (.ireturn, 1) := dk_172 (dk_at dksX2_cut_4 7 rfl rfl)
theorem dX2_cut_100 : decode cX2_cut 100 = .ok (.aload_n 3, 1) := dk_45 (dk_at dksX2_cut_4 8 rfl rfl)
theorem dX2_cut_101 : decode cX2_cut 101 = .ok (.dup, 1) := dk_89 (dk_at dksX2_cut_4 9 rfl rfl)
theorem dX2_cut_102 : decode cX2_cut 102 = .ok (.getfield 105, 3) := dk_180 0 105 (dk_at dksX2_cut_4 10 rfl rfl)
theorem dX2_cut_105 : decode cX2_cut 105 = .ok (.iload_n 2, 1) := dk_28 (dk_at dksX2_cut_4 13 rfl rfl)
theorem dX2_cut_106 : decode cX2_cut 106 = .ok (.isub, 1) := dk_100 (dk_at dksX2_cut_4 14 rfl rfl)
theorem dX2_cut_107 : decode cX2_cut 107 = .ok (.putfield 105, 3) := dk_181 0 105 (dk_at dksX2_cut_4 15 rfl rfl)
theorem dX2_cut_110 : decode cX2_cut 110 = .ok (.new 112, 3) := dk_187 0 112 (dk_at dksX2_cut_4 18 rfl rfl)
theorem dX2_cut_113 : decode cX2_cut 113 = .ok (.dup, 1) := dk_89 (dk_at dksX2_cut_4 21 rfl rfl)
theorem dX2_cut_114 : decode cX2_cut 114 = .ok (.aload_n 3, 1) := dk_45 (dk_at dksX2_cut_4 22 rfl rfl)
theorem dX2_cut_115 : decode cX2_cut 115 = .ok (.getfield 114, 3) := dk_180 0 114 (dk_at dksX2_cut_5 0 rfl rfl)
theorem dX2_cut_118 : decode cX2_cut 118 = .ok (.aload_n 3, 1) := dk_45 (dk_at dksX2_cut_5 3 rfl rfl)
theorem dX2_cut_119 : decode cX2_cut 119 = .ok (.getfield 117, 3) := dk_180 0 117 (dk_at dksX2_cut_5 4 rfl rfl)
theorem dX2_cut_122 : decode cX2_cut 122 = .ok (.iload_n 2, 1) := dk_28 (dk_at dksX2_cut_5 7 rfl rfl)
theorem dX2_cut_123 : decode cX2_cut 123 = .ok (.aload_n 3, 1) := dk_45 (dk_at dksX2_cut_5 8 rfl rfl)
theorem dX2_cut_124 : decode cX2_cut 124 = .ok (.getfield 120, 3) := dk_180 0 120 (dk_at dksX2_cut_5 9 rfl rfl)
theorem dX2_cut_127 : decode cX2_cut 127 = .ok (.invokespecial 123, 3) := dk_183 0 123 (dk_at dksX2_cut_5 12 rfl rfl)
theorem dX2_cut_130 : decode cX2_cut 130 = .ok (.astore 4, 2) := dk_58 4 (dk_at dksX2_cut_5 15 rfl rfl)
theorem dX2_cut_132 : decode cX2_cut 132 = .ok (.aload_n 0, 1) := dk_42 (dk_at dksX2_cut_5 17 rfl rfl)
theorem dX2_cut_133 : decode cX2_cut 133 = .ok (.dup, 1) := dk_89 (dk_at dksX2_cut_5 18 rfl rfl)
theorem dX2_cut_134 : decode cX2_cut 134 = .ok (.getfield 13, 3) := dk_180 0 13 (dk_at dksX2_cut_5 19 rfl rfl)
theorem dX2_cut_137 : decode cX2_cut 137 = .ok (.aload 4, 2) := dk_25 4 (dk_at dksX2_cut_5 22 rfl rfl)
theorem dX2_cut_139 : decode cX2_cut 139 = .ok (.getfield 126, 3) := dk_180 0 126 (dk_at dksX2_cut_6 0 rfl rfl)
theorem dX2_cut_142 : decode cX2_cut 142 = .ok (.isub, 1) := dk_100 (dk_at dksX2_cut_6 3 rfl rfl)
theorem dX2_cut_143 : decode cX2_cut 143 = .ok (.putfield 13, 3) := dk_181 0 13 (dk_at dksX2_cut_6 4 rfl rfl)
theorem dX2_cut_146 : decode cX2_cut 146 = .ok (.aload_n 0, 1) := dk_42 (dk_at dksX2_cut_6 7 rfl rfl)
theorem dX2_cut_147 : decode cX2_cut 147 = .ok (.getfield 33, 3) := dk_180 0 33 (dk_at dksX2_cut_6 8 rfl rfl)
theorem dX2_cut_150 : decode cX2_cut 150 = .ok (.aload 4, 2) := dk_25 4 (dk_at dksX2_cut_6 11 rfl rfl)
theorem dX2_cut_152 : decode cX2_cut 152 = .ok (.invokevirtual 75, 3) := dk_182 0 75 (dk_at dksX2_cut_6 13 rfl rfl)
theorem dX2_cut_155 : decode cX2_cut 155 = .ok (.pop, 1) := dk_87 (dk_at dksX2_cut_6 16 rfl rfl)
theorem dX2_cut_156 : decode cX2_cut 156 = .ok (.aload_n 0, 1) := dk_42 (dk_at dksX2_cut_6 17 rfl rfl)
theorem dX2_cut_157 : decode cX2_cut 157 = .ok (.getfield 33, 3) := dk_180 0 33 (dk_at dksX2_cut_6 18 rfl rfl)
theorem dX2_cut_160 : decode cX2_cut 160 = .ok (.invokevirtual 58, 3) := dk_182 0 58 (dk_at dksX2_cut_6 21 rfl rfl)
theorem dX2_cut_163 : decode cX2_cut 163 = .ok (.iconst 1, 1) := dk_4 (dk_at dksX2_cut_7 0 rfl rfl)
theorem dX2_cut_164 : decode cX2_cut 164 = .ok (.isub, 1) := dk_100 (dk_at dksX2_cut_7 1 rfl rfl)
theorem dX2_cut_165 : decode cX2_cut 165 = .ok (.ireturn, 1) := dk_172 (dk_at dksX2_cut_7 2 rfl rfl)
abbrev cX2_isNoCrop : ByteArray := prog_13_method_8_code
def yX2_isNoCrop : MethodName := ⟨RX2, "isNoCrop", "(I)Z"⟩
def dkwX2_isNoCrop_0 : List UInt8 := [27, 3, 42, 180, 0, 30, 182, 0, 58, 4, 100, 184, 0, 62, 154, 0, 7, 4, 167, 0, 4, 3, 172]
abbrev dktX2_isNoCrop_0 : List UInt8 := dkwX2_isNoCrop_0 ++ []
theorem dksX2_isNoCrop_0 : cX2_isNoCrop.data.toList.drop 0 = dktX2_isNoCrop_0 := by decide +kernel
theorem dX2_isNoCrop_0 : decode cX2_isNoCrop 0 = .ok (.iload_n 1, 1) := dk_27 (dk_at dksX2_isNoCrop_0 0 rfl rfl)
theorem dX2_isNoCrop_1 : decode cX2_isNoCrop 1 = .ok (.iconst 0, 1) := dk_3 (dk_at dksX2_isNoCrop_0 1 rfl rfl)
theorem dX2_isNoCrop_2 : decode cX2_isNoCrop 2 = .ok (.aload_n 0, 1) := dk_42 (dk_at dksX2_isNoCrop_0 2 rfl rfl)
theorem dX2_isNoCrop_3 : decode cX2_isNoCrop 3 = .ok (.getfield 30, 3) := dk_180 0 30 (dk_at dksX2_isNoCrop_0 3 rfl rfl)
theorem dX2_isNoCrop_6 : decode cX2_isNoCrop 6 = .ok (.invokevirtual 58, 3) := dk_182 0 58 (dk_at dksX2_isNoCrop_0 6 rfl rfl)
theorem dX2_isNoCrop_9 : decode cX2_isNoCrop 9 = .ok (.iconst 1, 1) := dk_4 (dk_at dksX2_isNoCrop_0 9 rfl rfl)
theorem dX2_isNoCrop_10 : decode cX2_isNoCrop 10 = .ok (.isub, 1) := dk_100 (dk_at dksX2_isNoCrop_0 10 rfl rfl)
theorem dX2_isNoCrop_11 : decode cX2_isNoCrop 11 = .ok (.invokestatic 62, 3) := dk_184 0 62 (dk_at dksX2_isNoCrop_0 11 rfl rfl)
theorem dX2_isNoCrop_14 : decode cX2_isNoCrop 14 = .ok (.ifCond .ne 7, 3) := dk_154 0 7 (dk_at dksX2_isNoCrop_0 14 rfl rfl)
theorem dX2_isNoCrop_17 : decode cX2_isNoCrop 17 = .ok (.iconst 1, 1) := dk_4 (dk_at dksX2_isNoCrop_0 17 rfl rfl)
theorem dX2_isNoCrop_18 : decode cX2_isNoCrop 18 = .ok (.goto 4, 3) := dk_167 0 4 (dk_at dksX2_isNoCrop_0 18 rfl rfl)
theorem dX2_isNoCrop_21 : decode cX2_isNoCrop 21 = .ok (.iconst 0, 1) := dk_3 (dk_at dksX2_isNoCrop_0 21 rfl rfl)
theorem dX2_isNoCrop_22 : decode cX2_isNoCrop 22 = .ok (.ireturn, 1) := dk_172 (dk_at dksX2_isNoCrop_0 22 rfl rfl)
abbrev cX2_up : ByteArray := prog_13_method_2_code
def yX2_up : MethodName := ⟨RX2, "up", "(II)I"⟩
def dkwX2_up_0 : List UInt8 := [26, 27, 96, 4, 100, 27, 108, 172]
abbrev dktX2_up_0 : List UInt8 := dkwX2_up_0 ++ []
theorem dksX2_up_0 : cX2_up.data.toList.drop 0 = dktX2_up_0 := by decide +kernel
theorem dX2_up_0 : decode cX2_up 0 = .ok (.iload_n 0, 1) := dk_26 (dk_at dksX2_up_0 0 rfl rfl)
theorem dX2_up_1 : decode cX2_up 1 = .ok (.iload_n 1, 1) := dk_27 (dk_at dksX2_up_0 1 rfl rfl)
theorem dX2_up_2 : decode cX2_up 2 = .ok (.iadd, 1) := dk_96 (dk_at dksX2_up_0 2 rfl rfl)
theorem dX2_up_3 : decode cX2_up 3 = .ok (.iconst 1, 1) := dk_4 (dk_at dksX2_up_0 3 rfl rfl)
theorem dX2_up_4 : decode cX2_up 4 = .ok (.isub, 1) := dk_100 (dk_at dksX2_up_0 4 rfl rfl)
theorem dX2_up_5 : decode cX2_up 5 = .ok (.iload_n 1, 1) := dk_27 (dk_at dksX2_up_0 5 rfl rfl)
theorem dX2_up_6 : decode cX2_up 6 = .ok (.idiv, 1) := dk_108 (dk_at dksX2_up_0 6 rfl rfl)
theorem dX2_up_7 : decode cX2_up 7 = .ok (.ireturn, 1) := dk_172 (dk_at dksX2_up_0 7 rfl rfl)
abbrev cX2_move : ByteArray := prog_13_method_17_code
def yX2_move : MethodName := ⟨RX2, "move", "(II)I"⟩
def dkwX2_move_4 : List UInt8 := [192, 0, 112, 28, 181, 0, 135, 29, 172]
abbrev dktX2_move_4 : List UInt8 := dkwX2_move_4 ++ []
def dkwX2_move_3 : List UInt8 := [180, 0, 33, 27, 182, 0, 83, 192, 0, 112, 180, 0, 135, 62, 42, 180, 0, 33, 27, 182, 0, 83]
abbrev dktX2_move_3 : List UInt8 := dkwX2_move_3 ++ dktX2_move_4
def dkwX2_move_2 : List UInt8 := [180, 0, 132, 5, 161, 0, 7, 4, 167, 0, 4, 3, 6, 182, 0, 54, 153, 0, 5, 3, 172, 42]
abbrev dktX2_move_2 : List UInt8 := dkwX2_move_2 ++ dktX2_move_3
def dkwX2_move_1 : List UInt8 := [167, 0, 4, 3, 5, 182, 0, 54, 154, 0, 34, 42, 42, 180, 0, 33, 27, 182, 0, 83, 192, 0, 112]
abbrev dktX2_move_1 : List UInt8 := dkwX2_move_1 ++ dktX2_move_2
def dkwX2_move_0 : List UInt8 := [42, 42, 27, 182, 0, 129, 4, 182, 0, 69, 154, 0, 56, 42, 28, 3, 5, 184, 0, 62, 154, 0, 7, 4]
abbrev dktX2_move_0 : List UInt8 := dkwX2_move_0 ++ dktX2_move_1
theorem dksX2_move_0 : cX2_move.data.toList.drop 0 = dktX2_move_0 := by decide +kernel
theorem dksX2_move_1 : cX2_move.data.toList.drop 24 = dktX2_move_1 := dk_seg dksX2_move_0 24 rfl rfl
theorem dksX2_move_2 : cX2_move.data.toList.drop 47 = dktX2_move_2 := dk_seg dksX2_move_1 23 rfl rfl
theorem dksX2_move_3 : cX2_move.data.toList.drop 69 = dktX2_move_3 := dk_seg dksX2_move_2 22 rfl rfl
theorem dksX2_move_4 : cX2_move.data.toList.drop 91 = dktX2_move_4 := dk_seg dksX2_move_3 22 rfl rfl
theorem dX2_move_0 : decode cX2_move 0 = .ok (.aload_n 0, 1) := dk_42 (dk_at dksX2_move_0 0 rfl rfl)
theorem dX2_move_1 : decode cX2_move 1 = .ok (.aload_n 0, 1) := dk_42 (dk_at dksX2_move_0 1 rfl rfl)
theorem dX2_move_2 : decode cX2_move 2 = .ok (.iload_n 1, 1) := dk_27 (dk_at dksX2_move_0 2 rfl rfl)
theorem dX2_move_3 : decode cX2_move 3 = .ok (.invokevirtual 129, 3) := dk_182 0 129 (dk_at dksX2_move_0 3 rfl rfl)
theorem dX2_move_6 : decode cX2_move 6 = .ok (.iconst 1, 1) := dk_4 (dk_at dksX2_move_0 6 rfl rfl)
theorem dX2_move_7 : decode cX2_move 7 = .ok (.invokevirtual 69, 3) := dk_182 0 69 (dk_at dksX2_move_0 7 rfl rfl)
theorem dX2_move_10 : decode cX2_move 10 = .ok (.ifCond .ne 56, 3) := dk_154 0 56 (dk_at dksX2_move_0 10 rfl rfl)
theorem dX2_move_13 : decode cX2_move 13 = .ok (.aload_n 0, 1) := dk_42 (dk_at dksX2_move_0 13 rfl rfl)
theorem dX2_move_14 : decode cX2_move 14 = .ok (.iload_n 2, 1) := dk_28 (dk_at dksX2_move_0 14 rfl rfl)
theorem dX2_move_15 : decode cX2_move 15 = .ok (.iconst 0, 1) := dk_3 (dk_at dksX2_move_0 15 rfl rfl)
theorem dX2_move_16 : decode cX2_move 16 = .ok (.iconst 2, 1) := dk_5 (dk_at dksX2_move_0 16 rfl rfl)
theorem dX2_move_17 : decode cX2_move 17 = .ok (.invokestatic 62, 3) := dk_184 0 62 (dk_at dksX2_move_0 17 rfl rfl)
theorem dX2_move_20 : decode cX2_move 20 = .ok (.ifCond .ne 7, 3) := dk_154 0 7 (dk_at dksX2_move_0 20 rfl rfl)
theorem dX2_move_23 : decode cX2_move 23 = .ok (.iconst 1, 1) := dk_4 (dk_at dksX2_move_0 23 rfl rfl)
theorem dX2_move_24 : decode cX2_move 24 = .ok (.goto 4, 3) := dk_167 0 4 (dk_at dksX2_move_1 0 rfl rfl)
theorem dX2_move_27 : decode cX2_move 27 = .ok (.iconst 0, 1) := dk_3 (dk_at dksX2_move_1 3 rfl rfl)
theorem dX2_move_28 : decode cX2_move 28 = .ok (.iconst 2, 1) := dk_5 (dk_at dksX2_move_1 4 rfl rfl)
theorem dX2_move_29 : decode cX2_move 29 = .ok (.invokevirtual 54, 3) := dk_182 0 54 (dk_at dksX2_move_1 5 rfl rfl)
theorem dX2_move_32 : decode cX2_move 32 = .ok (.ifCond .ne 34, 3) := dk_154 0 34 (dk_at dksX2_move_1 8 rfl rfl)
theorem dX2_move_35 : decode cX2_move 35 = .ok (.aload_n 0, 1) := dk_42 (dk_at dksX2_move_1 11 rfl rfl)
theorem dX2_move_36 : decode cX2_move 36 = .ok (.aload_n 0, 1) := dk_42 (dk_at dksX2_move_1 12 rfl rfl)
theorem dX2_move_37 : decode cX2_move 37 = .ok (.getfield 33, 3) := dk_180 0 33 (dk_at dksX2_move_1 13 rfl rfl)
theorem dX2_move_40 : decode cX2_move 40 = .ok (.iload_n 1, 1) := dk_27 (dk_at dksX2_move_1 16 rfl rfl)
theorem dX2_move_41 : decode cX2_move 41 = .ok (.invokevirtual 83, 3) := dk_182 0 83 (dk_at dksX2_move_1 17 rfl rfl)
theorem dX2_move_44 : decode cX2_move 44 = .ok (.checkcast 112, 3) := dk_192 0 112 (dk_at dksX2_move_1 20 rfl rfl)
theorem dX2_move_47 : decode cX2_move 47 = .ok (.getfield 132, 3) := dk_180 0 132 (dk_at dksX2_move_2 0 rfl rfl)
theorem dX2_move_50 : decode cX2_move 50 = .ok (.iconst 2, 1) := dk_5 (dk_at dksX2_move_2 3 rfl rfl)
theorem dX2_move_51 : decode cX2_move 51 = .ok (.if_icmp .lt 7, 3) := dk_161 0 7 (dk_at dksX2_move_2 4 rfl rfl)
theorem dX2_move_54 : decode cX2_move 54 = .ok (.iconst 1, 1) := dk_4 (dk_at dksX2_move_2 7 rfl rfl)
theorem dX2_move_55 : decode cX2_move 55 = .ok (.goto 4, 3) := dk_167 0 4 (dk_at dksX2_move_2 8 rfl rfl)
theorem dX2_move_58 : decode cX2_move 58 = .ok (.iconst 0, 1) := dk_3 (dk_at dksX2_move_2 11 rfl rfl)
theorem dX2_move_59 : decode cX2_move 59 = .ok (.iconst 3, 1) := dk_6 (dk_at dksX2_move_2 12 rfl rfl)
theorem dX2_move_60 : decode cX2_move 60 = .ok (.invokevirtual 54, 3) := dk_182 0 54 (dk_at dksX2_move_2 13 rfl rfl)
theorem dX2_move_63 : decode cX2_move 63 = .ok (.ifCond .eq 5, 3) := dk_153 0 5 (dk_at dksX2_move_2 16 rfl rfl)
theorem dX2_move_66 : decode cX2_move 66 = .ok (.iconst 0, 1) := dk_3 (dk_at dksX2_move_2 19 rfl rfl)
theorem dX2_move_67 : decode cX2_move 67 = .ok (.ireturn, 1) := dk_172 (dk_at dksX2_move_2 20 rfl rfl)
theorem dX2_move_68 : decode cX2_move 68 = .ok (.aload_n 0, 1) := dk_42 (dk_at dksX2_move_2 21 rfl rfl)
theorem dX2_move_69 : decode cX2_move 69 = .ok (.getfield 33, 3) := dk_180 0 33 (dk_at dksX2_move_3 0 rfl rfl)
theorem dX2_move_72 : decode cX2_move 72 = .ok (.iload_n 1, 1) := dk_27 (dk_at dksX2_move_3 3 rfl rfl)
theorem dX2_move_73 : decode cX2_move 73 = .ok (.invokevirtual 83, 3) := dk_182 0 83 (dk_at dksX2_move_3 4 rfl rfl)
theorem dX2_move_76 : decode cX2_move 76 = .ok (.checkcast 112, 3) := dk_192 0 112 (dk_at dksX2_move_3 7 rfl rfl)
theorem dX2_move_79 : decode cX2_move 79 = .ok (.getfield 135, 3) := dk_180 0 135 (dk_at dksX2_move_3 10 rfl rfl)
theorem dX2_move_82 : decode cX2_move 82 = .ok (.istore_n 3, 1) := dk_62 (dk_at dksX2_move_3 13 rfl rfl)
theorem dX2_move_83 : decode cX2_move 83 = .ok (.aload_n 0, 1) := dk_42 (dk_at dksX2_move_3 14 rfl rfl)
theorem dX2_move_84 : decode cX2_move 84 = .ok (.getfield 33, 3) := dk_180 0 33 (dk_at dksX2_move_3 15 rfl rfl)
theorem dX2_move_87 : decode cX2_move 87 = .ok (.iload_n 1, 1) := dk_27 (dk_at dksX2_move_3 18 rfl rfl)
theorem dX2_move_88 : decode cX2_move 88 = .ok (.invokevirtual 83, 3) := dk_182 0 83 (dk_at dksX2_move_3 19 rfl rfl)
theorem dX2_move_91 : decode cX2_move 91 = .ok (.checkcast 112, 3) := dk_192 0 112 (dk_at dksX2_move_4 0 rfl rfl)
theorem dX2_move_94 : decode cX2_move 94 = .ok (.iload_n 2, 1) := dk_28 (dk_at dksX2_move_4 3 rfl rfl)
theorem dX2_move_95 : decode cX2_move 95 = .ok (.putfield 135, 3) := dk_181 0 135 (dk_at dksX2_move_4 4 rfl rfl)
theorem dX2_move_98 : decode cX2_move 98 = .ok (.iload_n 3, 1) := dk_29 (dk_at dksX2_move_4 7 rfl rfl)
theorem dX2_move_99 : decode cX2_move 99 = .ok (.ireturn, 1) := dk_172 (dk_at dksX2_move_4 8 rfl rfl)
abbrev cX2_isNoLot : ByteArray := prog_13_method_9_code
def yX2_isNoLot : MethodName := ⟨RX2, "isNoLot", "(I)Z"⟩
def dkwX2_isNoLot_0 : List UInt8 := [27, 3, 42, 180, 0, 33, 182, 0, 58, 4, 100, 184, 0, 62, 154, 0, 7, 4, 167, 0, 4, 3, 172]
abbrev dktX2_isNoLot_0 : List UInt8 := dkwX2_isNoLot_0 ++ []
theorem dksX2_isNoLot_0 : cX2_isNoLot.data.toList.drop 0 = dktX2_isNoLot_0 := by decide +kernel
theorem dX2_isNoLot_0 : decode cX2_isNoLot 0 = .ok (.iload_n 1, 1) := dk_27 (dk_at dksX2_isNoLot_0 0 rfl rfl)
theorem dX2_isNoLot_1 : decode cX2_isNoLot 1 = .ok (.iconst 0, 1) := dk_3 (dk_at dksX2_isNoLot_0 1 rfl rfl)
theorem dX2_isNoLot_2 : decode cX2_isNoLot 2 = .ok (.aload_n 0, 1) := dk_42 (dk_at dksX2_isNoLot_0 2 rfl rfl)
theorem dX2_isNoLot_3 : decode cX2_isNoLot 3 = .ok (.getfield 33, 3) := dk_180 0 33 (dk_at dksX2_isNoLot_0 3 rfl rfl)
theorem dX2_isNoLot_6 : decode cX2_isNoLot 6 = .ok (.invokevirtual 58, 3) := dk_182 0 58 (dk_at dksX2_isNoLot_0 6 rfl rfl)
theorem dX2_isNoLot_9 : decode cX2_isNoLot 9 = .ok (.iconst 1, 1) := dk_4 (dk_at dksX2_isNoLot_0 9 rfl rfl)
theorem dX2_isNoLot_10 : decode cX2_isNoLot 10 = .ok (.isub, 1) := dk_100 (dk_at dksX2_isNoLot_0 10 rfl rfl)
theorem dX2_isNoLot_11 : decode cX2_isNoLot 11 = .ok (.invokestatic 62, 3) := dk_184 0 62 (dk_at dksX2_isNoLot_0 11 rfl rfl)
theorem dX2_isNoLot_14 : decode cX2_isNoLot 14 = .ok (.ifCond .ne 7, 3) := dk_154 0 7 (dk_at dksX2_isNoLot_0 14 rfl rfl)
theorem dX2_isNoLot_17 : decode cX2_isNoLot 17 = .ok (.iconst 1, 1) := dk_4 (dk_at dksX2_isNoLot_0 17 rfl rfl)
theorem dX2_isNoLot_18 : decode cX2_isNoLot 18 = .ok (.goto 4, 3) := dk_167 0 4 (dk_at dksX2_isNoLot_0 18 rfl rfl)
theorem dX2_isNoLot_21 : decode cX2_isNoLot 21 = .ok (.iconst 0, 1) := dk_3 (dk_at dksX2_isNoLot_0 21 rfl rfl)
theorem dX2_isNoLot_22 : decode cX2_isNoLot 22 = .ok (.ireturn, 1) := dk_172 (dk_at dksX2_isNoLot_0 22 rfl rfl)
abbrev cX2_pass : ByteArray := prog_13_method_18_code
def yX2_pass : MethodName := ⟨RX2, "pass", "(II)I"⟩
def dkwX2_pass_2 : List UInt8 := [21, 4, 27, 162, 0, 16, 29, 42, 182, 0, 138, 96, 62, 132, 4, 1, 167, 255, 240, 29, 172]
abbrev dktX2_pass_2 : List UInt8 := dkwX2_pass_2 ++ []
def dkwX2_pass_1 : List UInt8 := [167, 0, 4, 3, 4, 182, 0, 69, 153, 0, 5, 3, 172, 42, 28, 181, 0, 9, 3, 62, 3, 54, 4]
abbrev dktX2_pass_1 : List UInt8 := dkwX2_pass_1 ++ dktX2_pass_2
def dkwX2_pass_0 : List UInt8 := [42, 27, 4, 16, 48, 184, 0, 62, 153, 0, 13, 28, 3, 16, 9, 184, 0, 62, 154, 0, 7, 4]
abbrev dktX2_pass_0 : List UInt8 := dkwX2_pass_0 ++ dktX2_pass_1
theorem dksX2_pass_0 : cX2_pass.data.toList.drop 0 = dktX2_pass_0 := by decide +kernel
theorem dksX2_pass_1 : cX2_pass.data.toList.drop 22 = dktX2_pass_1 := dk_seg dksX2_pass_0 22 rfl rfl
theorem dksX2_pass_2 : cX2_pass.data.toList.drop 45 = dktX2_pass_2 := dk_seg dksX2_pass_1 23 rfl rfl
theorem dX2_pass_0 : decode cX2_pass 0 = .ok (.aload_n 0, 1) := dk_42 (dk_at dksX2_pass_0 0 rfl rfl)
theorem dX2_pass_1 : decode cX2_pass 1 = .ok (.iload_n 1, 1) := dk_27 (dk_at dksX2_pass_0 1 rfl rfl)
theorem dX2_pass_2 : decode cX2_pass 2 = .ok (.iconst 1, 1) := dk_4 (dk_at dksX2_pass_0 2 rfl rfl)
theorem dX2_pass_3 : decode cX2_pass 3 = .ok (.bipush 48, 2) := dk_16 48 (dk_at dksX2_pass_0 3 rfl rfl)
theorem dX2_pass_5 : decode cX2_pass 5 = .ok (.invokestatic 62, 3) := dk_184 0 62 (dk_at dksX2_pass_0 5 rfl rfl)
theorem dX2_pass_8 : decode cX2_pass 8 = .ok (.ifCond .eq 13, 3) := dk_153 0 13 (dk_at dksX2_pass_0 8 rfl rfl)
theorem dX2_pass_11 : decode cX2_pass 11 = .ok (.iload_n 2, 1) := dk_28 (dk_at dksX2_pass_0 11 rfl rfl)
theorem dX2_pass_12 : decode cX2_pass 12 = .ok (.iconst 0, 1) := dk_3 (dk_at dksX2_pass_0 12 rfl rfl)
theorem dX2_pass_13 : decode cX2_pass 13 = .ok (.bipush 9, 2) := dk_16 9 (dk_at dksX2_pass_0 13 rfl rfl)
theorem dX2_pass_15 : decode cX2_pass 15 = .ok (.invokestatic 62, 3) := dk_184 0 62 (dk_at dksX2_pass_0 15 rfl rfl)
theorem dX2_pass_18 : decode cX2_pass 18 = .ok (.ifCond .ne 7, 3) := dk_154 0 7 (dk_at dksX2_pass_0 18 rfl rfl)
theorem dX2_pass_21 : decode cX2_pass 21 = .ok (.iconst 1, 1) := dk_4 (dk_at dksX2_pass_0 21 rfl rfl)
theorem dX2_pass_22 : decode cX2_pass 22 = .ok (.goto 4, 3) := dk_167 0 4 (dk_at dksX2_pass_1 0 rfl rfl)
theorem dX2_pass_25 : decode cX2_pass 25 = .ok (.iconst 0, 1) := dk_3 (dk_at dksX2_pass_1 3 rfl rfl)
theorem dX2_pass_26 : decode cX2_pass 26 = .ok (.iconst 1, 1) := dk_4 (dk_at dksX2_pass_1 4 rfl rfl)
theorem dX2_pass_27 : decode cX2_pass 27 = .ok (.invokevirtual 69, 3) := dk_182 0 69 (dk_at dksX2_pass_1 5 rfl rfl)
theorem dX2_pass_30 : decode cX2_pass 30 = .ok (.ifCond .eq 5, 3) := dk_153 0 5 (dk_at dksX2_pass_1 8 rfl rfl)
theorem dX2_pass_33 : decode cX2_pass 33 = .ok (.iconst 0, 1) := dk_3 (dk_at dksX2_pass_1 11 rfl rfl)
theorem dX2_pass_34 : decode cX2_pass 34 = .ok (.ireturn, 1) := dk_172 (dk_at dksX2_pass_1 12 rfl rfl)
theorem dX2_pass_35 : decode cX2_pass 35 = .ok (.aload_n 0, 1) := dk_42 (dk_at dksX2_pass_1 13 rfl rfl)
theorem dX2_pass_36 : decode cX2_pass 36 = .ok (.iload_n 2, 1) := dk_28 (dk_at dksX2_pass_1 14 rfl rfl)
theorem dX2_pass_37 : decode cX2_pass 37 = .ok (.putfield 9, 3) := dk_181 0 9 (dk_at dksX2_pass_1 15 rfl rfl)
theorem dX2_pass_40 : decode cX2_pass 40 = .ok (.iconst 0, 1) := dk_3 (dk_at dksX2_pass_1 18 rfl rfl)
theorem dX2_pass_41 : decode cX2_pass 41 = .ok (.istore_n 3, 1) := dk_62 (dk_at dksX2_pass_1 19 rfl rfl)
theorem dX2_pass_42 : decode cX2_pass 42 = .ok (.iconst 0, 1) := dk_3 (dk_at dksX2_pass_1 20 rfl rfl)
theorem dX2_pass_43 : decode cX2_pass 43 = .ok (.istore 4, 2) := dk_54 4 (dk_at dksX2_pass_1 21 rfl rfl)
theorem dX2_pass_45 : decode cX2_pass 45 = .ok (.iload 4, 2) := dk_21 4 (dk_at dksX2_pass_2 0 rfl rfl)
theorem dX2_pass_47 : decode cX2_pass 47 = .ok (.iload_n 1, 1) := dk_27 (dk_at dksX2_pass_2 2 rfl rfl)
theorem dX2_pass_48 : decode cX2_pass 48 = .ok (.if_icmp .ge 16, 3) := dk_162 0 16 (dk_at dksX2_pass_2 3 rfl rfl)
theorem dX2_pass_51 : decode cX2_pass 51 = .ok (.iload_n 3, 1) := dk_29 (dk_at dksX2_pass_2 6 rfl rfl)
theorem dX2_pass_52 : decode cX2_pass 52 = .ok (.aload_n 0, 1) := dk_42 (dk_at dksX2_pass_2 7 rfl rfl)
theorem dX2_pass_53 : decode cX2_pass 53 = .ok (.invokevirtual 138, 3) := dk_182 0 138 (dk_at dksX2_pass_2 8 rfl rfl)
theorem dX2_pass_56 : decode cX2_pass 56 = .ok (.iadd, 1) := dk_96 (dk_at dksX2_pass_2 11 rfl rfl)
theorem dX2_pass_57 : decode cX2_pass 57 = .ok (.istore_n 3, 1) := dk_62 (dk_at dksX2_pass_2 12 rfl rfl)
theorem dX2_pass_58 : decode cX2_pass 58 = .ok (.iinc 4 1, 3) := dk_132 4 1 (dk_at dksX2_pass_2 13 rfl rfl)
theorem dX2_pass_61 : decode cX2_pass 61 = .ok (.goto (-16), 3) := dk_167 255 240 (dk_at dksX2_pass_2 16 rfl rfl)
theorem dX2_pass_64 : decode cX2_pass 64 = .ok (.iload_n 3, 1) := dk_29 (dk_at dksX2_pass_2 19 rfl rfl)
theorem dX2_pass_65 : decode cX2_pass 65 = .ok (.ireturn, 1) := dk_172 (dk_at dksX2_pass_2 20 rfl rfl)
abbrev cX2_pass_2 : ByteArray := prog_13_method_19_code
def yX2_pass_2 : MethodName := ⟨RX2, "pass", "()I"⟩
def dkwX2_pass_2_10 : List UInt8 := [172]
abbrev dktX2_pass_2_10 : List UInt8 := dkwX2_pass_2_10 ++ []
def dkwX2_pass_2_9 : List UInt8 := [42, 180, 0, 45, 42, 182, 0, 182, 182, 0, 184, 192, 0, 176, 182, 0, 187, 132, 1, 1, 167, 255, 217, 27]
abbrev dktX2_pass_2_9 : List UInt8 := dkwX2_pass_2_9 ++ dktX2_pass_2_10
def dkwX2_pass_2_8 : List UInt8 := [167, 255, 223, 3, 60, 27, 42, 180, 0, 16, 162, 0, 37, 42, 180, 0, 45, 182, 0, 179, 154, 0, 27, 42]
abbrev dktX2_pass_2_8 : List UInt8 := dkwX2_pass_2_8 ++ dktX2_pass_2_9
def dkwX2_pass_2_7 : List UInt8 := [185, 0, 151, 1, 0, 192, 0, 176, 77, 44, 3, 44, 180, 0, 178, 6, 100, 184, 0, 171, 181, 0, 178]
abbrev dktX2_pass_2_7 : List UInt8 := dkwX2_pass_2_7 ++ dktX2_pass_2_8
def dkwX2_pass_2_6 : List UInt8 := [181, 0, 165, 167, 255, 209, 42, 180, 0, 45, 182, 0, 141, 76, 43, 185, 0, 145, 1, 0, 153, 0, 30, 43]
abbrev dktX2_pass_2_6 : List UInt8 := dkwX2_pass_2_6 ++ dktX2_pass_2_7
def dkwX2_pass_2_5 : List UInt8 := [180, 0, 162, 158, 0, 24, 44, 3, 44, 180, 0, 165, 178, 0, 168, 44, 180, 0, 135, 46, 100, 184, 0, 171]
abbrev dktX2_pass_2_5 : List UInt8 := dkwX2_pass_2_5 ++ dktX2_pass_2_6
def dkwX2_pass_2_4 : List UInt8 := [182, 0, 141, 76, 43, 185, 0, 145, 1, 0, 153, 0, 44, 43, 185, 0, 151, 1, 0, 192, 0, 112, 77, 44]
abbrev dktX2_pass_2_4 : List UInt8 := dkwX2_pass_2_4 ++ dktX2_pass_2_5
def dkwX2_pass_2_3 : List UInt8 := [192, 0, 72, 77, 44, 89, 180, 0, 159, 44, 180, 0, 87, 100, 181, 0, 159, 167, 255, 224, 42, 180, 0, 33]
abbrev dktX2_pass_2_3 : List UInt8 := dkwX2_pass_2_3 ++ dktX2_pass_2_4
def dkwX2_pass_2_2 : List UInt8 := [42, 180, 0, 26, 182, 0, 141, 76, 43, 185, 0, 145, 1, 0, 153, 0, 29, 43, 185, 0, 151, 1, 0]
abbrev dktX2_pass_2_2 : List UInt8 := dkwX2_pass_2_2 ++ dktX2_pass_2_3
def dkwX2_pass_2_1 : List UInt8 := [153, 0, 24, 43, 185, 0, 151, 1, 0, 192, 0, 93, 77, 44, 42, 180, 0, 9, 182, 0, 155, 167, 255, 229]
abbrev dktX2_pass_2_1 : List UInt8 := dkwX2_pass_2_1 ++ dktX2_pass_2_2
def dkwX2_pass_2_0 : List UInt8 := [42, 89, 180, 0, 66, 4, 96, 181, 0, 66, 42, 180, 0, 30, 182, 0, 141, 76, 43, 185, 0, 145, 1, 0]
abbrev dktX2_pass_2_0 : List UInt8 := dkwX2_pass_2_0 ++ dktX2_pass_2_1
theorem dksX2_pass_2_0 : cX2_pass_2.data.toList.drop 0 = dktX2_pass_2_0 := by decide +kernel
theorem dksX2_pass_2_1 : cX2_pass_2.data.toList.drop 24 = dktX2_pass_2_1 := dk_seg dksX2_pass_2_0 24 rfl rfl
theorem dksX2_pass_2_2 : cX2_pass_2.data.toList.drop 48 = dktX2_pass_2_2 := dk_seg dksX2_pass_2_1 24 rfl rfl
theorem dksX2_pass_2_3 : cX2_pass_2.data.toList.drop 71 = dktX2_pass_2_3 := dk_seg dksX2_pass_2_2 23 rfl rfl
theorem dksX2_pass_2_4 : cX2_pass_2.data.toList.drop 95 = dktX2_pass_2_4 := dk_seg dksX2_pass_2_3 24 rfl rfl
theorem dksX2_pass_2_5 : cX2_pass_2.data.toList.drop 119 = dktX2_pass_2_5 := dk_seg dksX2_pass_2_4 24 rfl rfl
theorem dksX2_pass_2_6 : cX2_pass_2.data.toList.drop 143 = dktX2_pass_2_6 := dk_seg dksX2_pass_2_5 24 rfl rfl
theorem dksX2_pass_2_7 : cX2_pass_2.data.toList.drop 167 = dktX2_pass_2_7 := dk_seg dksX2_pass_2_6 24 rfl rfl
theorem dksX2_pass_2_8 : cX2_pass_2.data.toList.drop 190 = dktX2_pass_2_8 := dk_seg dksX2_pass_2_7 23 rfl rfl
theorem dksX2_pass_2_9 : cX2_pass_2.data.toList.drop 214 = dktX2_pass_2_9 := dk_seg dksX2_pass_2_8 24 rfl rfl
theorem dksX2_pass_2_10 : cX2_pass_2.data.toList.drop 238 = dktX2_pass_2_10 := dk_seg dksX2_pass_2_9 24 rfl rfl
theorem dX2_pass_2_0 : decode cX2_pass_2 0 = .ok (.aload_n 0, 1) := dk_42 (dk_at dksX2_pass_2_0 0 rfl rfl)
theorem dX2_pass_2_1 : decode cX2_pass_2 1 = .ok (.dup, 1) := dk_89 (dk_at dksX2_pass_2_0 1 rfl rfl)
theorem dX2_pass_2_2 : decode cX2_pass_2 2 = .ok (.getfield 66, 3) := dk_180 0 66 (dk_at dksX2_pass_2_0 2 rfl rfl)
theorem dX2_pass_2_5 : decode cX2_pass_2 5 = .ok (.iconst 1, 1) := dk_4 (dk_at dksX2_pass_2_0 5 rfl rfl)
theorem dX2_pass_2_6 : decode cX2_pass_2 6 = .ok (.iadd, 1) := dk_96 (dk_at dksX2_pass_2_0 6 rfl rfl)
theorem dX2_pass_2_7 : decode cX2_pass_2 7 = .ok (.putfield 66, 3) := dk_181 0 66 (dk_at dksX2_pass_2_0 7 rfl rfl)
theorem dX2_pass_2_10 : decode cX2_pass_2 10 = .ok (.aload_n 0, 1) := dk_42 (dk_at dksX2_pass_2_0 10 rfl rfl)
theorem dX2_pass_2_11 : decode cX2_pass_2 11 = .ok (.getfield 30, 3) := dk_180 0 30 (dk_at dksX2_pass_2_0 11 rfl rfl)
theorem dX2_pass_2_14 : decode cX2_pass_2 14 = .ok (.invokevirtual 141, 3) := dk_182 0 141 (dk_at dksX2_pass_2_0 14 rfl rfl)
theorem dX2_pass_2_17 : decode cX2_pass_2 17 = .ok (.astore_n 1, 1) := dk_76 (dk_at dksX2_pass_2_0 17 rfl rfl)
theorem dX2_pass_2_18 : decode cX2_pass_2 18 = .ok (.aload_n 1, 1) := dk_43 (dk_at dksX2_pass_2_0 18 rfl rfl)
theorem dX2_pass_2_19 : decode cX2_pass_2 19 = .ok (.invokeinterface 145 1, 5) := by decide +kernel
theorem dX2_pass_2_24 : decode cX2_pass_2 24 = .ok (.ifCond .eq 24, 3) := dk_153 0 24 (dk_at dksX2_pass_2_1 0 rfl rfl)
theorem dX2_pass_2_27 : decode cX2_pass_2 27 = .ok (.aload_n 1, 1) := dk_43 (dk_at dksX2_pass_2_1 3 rfl rfl)
theorem dX2_pass_2_28 : decode cX2_pass_2 28 = .ok (.invokeinterface 151 1, 5) := by decide +kernel
theorem dX2_pass_2_33 : decode cX2_pass_2 33 = .ok (.checkcast 93, 3) := dk_192 0 93 (dk_at dksX2_pass_2_1 9 rfl rfl)
theorem dX2_pass_2_36 : decode cX2_pass_2 36 = .ok (.astore_n 2, 1) := dk_77 (dk_at dksX2_pass_2_1 12 rfl rfl)
theorem dX2_pass_2_37 : decode cX2_pass_2 37 = .ok (.aload_n 2, 1) := dk_44 (dk_at dksX2_pass_2_1 13 rfl rfl)
theorem dX2_pass_2_38 : decode cX2_pass_2 38 = .ok (.aload_n 0, 1) := dk_42 (dk_at dksX2_pass_2_1 14 rfl rfl)
theorem dX2_pass_2_39 : decode cX2_pass_2 39 = .ok (.getfield 9, 3) := dk_180 0 9 (dk_at dksX2_pass_2_1 15 rfl rfl)
theorem dX2_pass_2_42 : decode cX2_pass_2 42 = .ok (.invokevirtual 155, 3) := dk_182 0 155 (dk_at dksX2_pass_2_1 18 rfl rfl)
theorem dX2_pass_2_45 : decode cX2_pass_2 45 = .ok (.goto (-27), 3) := dk_167 255 229 (dk_at dksX2_pass_2_1 21 rfl rfl)
theorem dX2_pass_2_48 : decode cX2_pass_2 48 = .ok (.aload_n 0, 1) := dk_42 (dk_at dksX2_pass_2_2 0 rfl rfl)
theorem dX2_pass_2_49 : decode cX2_pass_2 49 = .ok (.getfield 26, 3) := dk_180 0 26 (dk_at dksX2_pass_2_2 1 rfl rfl)
theorem dX2_pass_2_52 : decode cX2_pass_2 52 = .ok (.invokevirtual 141, 3) := dk_182 0 141 (dk_at dksX2_pass_2_2 4 rfl rfl)
theorem dX2_pass_2_55 : decode cX2_pass_2 55 = .ok (.astore_n 1, 1) := dk_76 (dk_at dksX2_pass_2_2 7 rfl rfl)
theorem dX2_pass_2_56 : decode cX2_pass_2 56 = .ok (.aload_n 1, 1) := dk_43 (dk_at dksX2_pass_2_2 8 rfl rfl)
theorem dX2_pass_2_57 : decode cX2_pass_2 57 = .ok (.invokeinterface 145 1, 5) := by decide +kernel
theorem dX2_pass_2_62 : decode cX2_pass_2 62 = .ok (.ifCond .eq 29, 3) := dk_153 0 29 (dk_at dksX2_pass_2_2 14 rfl rfl)
theorem dX2_pass_2_65 : decode cX2_pass_2 65 = .ok (.aload_n 1, 1) := dk_43 (dk_at dksX2_pass_2_2 17 rfl rfl)
theorem dX2_pass_2_66 : decode cX2_pass_2 66 = .ok (.invokeinterface 151 1, 5) := by decide +kernel
theorem dX2_pass_2_71 : decode cX2_pass_2 71 = .ok (.checkcast 72, 3) := dk_192 0 72 (dk_at dksX2_pass_2_3 0 rfl rfl)
theorem dX2_pass_2_74 : decode cX2_pass_2 74 = .ok (.astore_n 2, 1) := dk_77 (dk_at dksX2_pass_2_3 3 rfl rfl)
theorem dX2_pass_2_75 : decode cX2_pass_2 75 = .ok (.aload_n 2, 1) := dk_44 (dk_at dksX2_pass_2_3 4 rfl rfl)
theorem dX2_pass_2_76 : decode cX2_pass_2 76 = .ok (.dup, 1) := dk_89 (dk_at dksX2_pass_2_3 5 rfl rfl)
theorem dX2_pass_2_77 : decode cX2_pass_2 77 = .ok (.getfield 159, 3) := dk_180 0 159 (dk_at dksX2_pass_2_3 6 rfl rfl)
theorem dX2_pass_2_80 : decode cX2_pass_2 80 = .ok (.aload_n 2, 1) := dk_44 (dk_at dksX2_pass_2_3 9 rfl rfl)
theorem dX2_pass_2_81 : decode cX2_pass_2 81 = .ok (.getfield 87, 3) := dk_180 0 87 (dk_at dksX2_pass_2_3 10 rfl rfl)
theorem dX2_pass_2_84 : decode cX2_pass_2 84 = .ok (.isub, 1) := dk_100 (dk_at dksX2_pass_2_3 13 rfl rfl)
theorem dX2_pass_2_85 : decode cX2_pass_2 85 = .ok (.putfield 159, 3) := dk_181 0 159 (dk_at dksX2_pass_2_3 14 rfl rfl)
theorem dX2_pass_2_88 : decode cX2_pass_2 88 = .ok (.goto (-32), 3) := dk_167 255 224 (dk_at dksX2_pass_2_3 17 rfl rfl)
theorem dX2_pass_2_91 : decode cX2_pass_2 91 = .ok (.aload_n 0, 1) := dk_42 (dk_at dksX2_pass_2_3 20 rfl rfl)
theorem dX2_pass_2_92 : decode cX2_pass_2 92 = .ok (.getfield 33, 3) := dk_180 0 33 (dk_at dksX2_pass_2_3 21 rfl rfl)
theorem dX2_pass_2_95 : decode cX2_pass_2 95 = .ok (.invokevirtual 141, 3) := dk_182 0 141 (dk_at dksX2_pass_2_4 0 rfl rfl)
theorem dX2_pass_2_98 : decode cX2_pass_2 98 = .ok (.astore_n 1, 1) := dk_76 (dk_at dksX2_pass_2_4 3 rfl rfl)
theorem dX2_pass_2_99 : decode cX2_pass_2 99 = .ok (.aload_n 1, 1) := dk_43 (dk_at dksX2_pass_2_4 4 rfl rfl)
theorem dX2_pass_2_100 : decode cX2_pass_2 100 = .ok (.invokeinterface 145 1, 5) := by decide +kernel
theorem dX2_pass_2_105 : decode cX2_pass_2 105 = .ok (.ifCond .eq 44, 3) := dk_153 0 44 (dk_at dksX2_pass_2_4 10 rfl rfl)
theorem dX2_pass_2_108 : decode cX2_pass_2 108 = .ok (.aload_n 1, 1) := dk_43 (dk_at dksX2_pass_2_4 13 rfl rfl)
theorem dX2_pass_2_109 : decode cX2_pass_2 109 = .ok (.invokeinterface 151 1, 5) := by decide +kernel
theorem dX2_pass_2_114 : decode cX2_pass_2 114 = .ok (.checkcast 112, 3) := dk_192 0 112 (dk_at dksX2_pass_2_4 19 rfl rfl)
theorem dX2_pass_2_117 : decode cX2_pass_2 117 = .ok (.astore_n 2, 1) := dk_77 (dk_at dksX2_pass_2_4 22 rfl rfl)
theorem dX2_pass_2_118 : decode cX2_pass_2 118 = .ok (.aload_n 2, 1) := dk_44 (dk_at dksX2_pass_2_4 23 rfl rfl)
theorem dX2_pass_2_119 : decode cX2_pass_2 119 = .ok (.getfield 162, 3) := dk_180 0 162 (dk_at dksX2_pass_2_5 0 rfl rfl)
theorem dX2_pass_2_122 : decode cX2_pass_2 122 = .ok (.ifCond .le 24, 3) := dk_158 0 24 (dk_at dksX2_pass_2_5 3 rfl rfl)
theorem dX2_pass_2_125 : decode cX2_pass_2 125 = .ok (.aload_n 2, 1) := dk_44 (dk_at dksX2_pass_2_5 6 rfl rfl)
theorem dX2_pass_2_126 : decode cX2_pass_2 126 = .ok (.iconst 0, 1) := dk_3 (dk_at dksX2_pass_2_5 7 rfl rfl)
theorem dX2_pass_2_127 : decode cX2_pass_2 127 = .ok (.aload_n 2, 1) := dk_44 (dk_at dksX2_pass_2_5 8 rfl rfl)
theorem dX2_pass_2_128 : decode cX2_pass_2 128 = .ok (.getfield 165, 3) := dk_180 0 165 (dk_at dksX2_pass_2_5 9 rfl rfl)
theorem dX2_pass_2_131 : decode cX2_pass_2 131 = .ok (.getstatic 168, 3) := dk_178 0 168 (dk_at dksX2_pass_2_5 12 rfl rfl)
theorem dX2_pass_2_134 : decode cX2_pass_2 134 = .ok (.aload_n 2, 1) := dk_44 (dk_at dksX2_pass_2_5 15 rfl rfl)
theorem dX2_pass_2_135 : decode cX2_pass_2 135 = .ok (.getfield 135, 3) := dk_180 0 135 (dk_at dksX2_pass_2_5 16 rfl rfl)
theorem dX2_pass_2_138 : decode cX2_pass_2 138 = .ok (.iaload, 1) := dk_46 (dk_at dksX2_pass_2_5 19 rfl rfl)
theorem dX2_pass_2_139 : decode cX2_pass_2 139 = .ok (.isub, 1) := dk_100 (dk_at dksX2_pass_2_5 20 rfl rfl)
theorem dX2_pass_2_140 : decode cX2_pass_2 140 = .ok (.invokestatic 171, 3) := dk_184 0 171 (dk_at dksX2_pass_2_5 21 rfl rfl)
theorem dX2_pass_2_143 : decode cX2_pass_2 143 = .ok (.putfield 165, 3) := dk_181 0 165 (dk_at dksX2_pass_2_6 0 rfl rfl)
theorem dX2_pass_2_146 : decode cX2_pass_2 146 = .ok (.goto (-47), 3) := dk_167 255 209 (dk_at dksX2_pass_2_6 3 rfl rfl)
theorem dX2_pass_2_149 : decode cX2_pass_2 149 = .ok (.aload_n 0, 1) := dk_42 (dk_at dksX2_pass_2_6 6 rfl rfl)
theorem dX2_pass_2_150 : decode cX2_pass_2 150 = .ok (.getfield 45, 3) := dk_180 0 45 (dk_at dksX2_pass_2_6 7 rfl rfl)
theorem dX2_pass_2_153 : decode cX2_pass_2 153 = .ok (.invokevirtual 141, 3) := dk_182 0 141 (dk_at dksX2_pass_2_6 10 rfl rfl)
theorem dX2_pass_2_156 : decode cX2_pass_2 156 = .ok (.astore_n 1, 1) := dk_76 (dk_at dksX2_pass_2_6 13 rfl rfl)
theorem dX2_pass_2_157 : decode cX2_pass_2 157 = .ok (.aload_n 1, 1) := dk_43 (dk_at dksX2_pass_2_6 14 rfl rfl)
theorem dX2_pass_2_158 : decode cX2_pass_2 158 = .ok (.invokeinterface 145 1, 5) := by decide +kernel
theorem dX2_pass_2_163 : decode cX2_pass_2 163 = .ok (.ifCond .eq 30, 3) := dk_153 0 30 (dk_at dksX2_pass_2_6 20 rfl rfl)
theorem dX2_pass_2_166 : decode cX2_pass_2 166 = .ok (.aload_n 1, 1) := dk_43 (dk_at dksX2_pass_2_6 23 rfl rfl)
theorem dX2_pass_2_167 : decode cX2_pass_2 167 = .ok (.invokeinterface 151 1, 5) := by decide +kernel
theorem dX2_pass_2_172 : decode cX2_pass_2 172 = .ok (.checkcast 176, 3) := dk_192 0 176 (dk_at dksX2_pass_2_7 5 rfl rfl)
theorem dX2_pass_2_175 : decode cX2_pass_2 175 = .ok (.astore_n 2, 1) := dk_77 (dk_at dksX2_pass_2_7 8 rfl rfl)
theorem dX2_pass_2_176 : decode cX2_pass_2 176 = .ok (.aload_n 2, 1) := dk_44 (dk_at dksX2_pass_2_7 9 rfl rfl)
theorem dX2_pass_2_177 : decode cX2_pass_2 177 = .ok (.iconst 0, 1) := dk_3 (dk_at dksX2_pass_2_7 10 rfl rfl)
theorem dX2_pass_2_178 : decode cX2_pass_2 178 = .ok (.aload_n 2, 1) := dk_44 (dk_at dksX2_pass_2_7 11 rfl rfl)
theorem dX2_pass_2_179 : decode cX2_pass_2 179 = .ok (.getfield 178, 3) := dk_180 0 178 (dk_at dksX2_pass_2_7 12 rfl rfl)
theorem dX2_pass_2_182 : decode cX2_pass_2 182 = .ok (.iconst 3, 1) := dk_6 (dk_at dksX2_pass_2_7 15 rfl rfl)
theorem dX2_pass_2_183 : decode cX2_pass_2 183 = .ok (.isub, 1) := dk_100 (dk_at dksX2_pass_2_7 16 rfl rfl)
theorem dX2_pass_2_184 : decode cX2_pass_2 184 = .ok (.invokestatic 171, 3) := dk_184 0 171 (dk_at dksX2_pass_2_7 17 rfl rfl)
theorem dX2_pass_2_187 : decode cX2_pass_2 187 = .ok (.putfield 178, 3) := dk_181 0 178 (dk_at dksX2_pass_2_7 20 rfl rfl)
theorem dX2_pass_2_190 : decode cX2_pass_2 190 = .ok (.goto (-33), 3) := dk_167 255 223 (dk_at dksX2_pass_2_8 0 rfl rfl)
theorem dX2_pass_2_193 : decode cX2_pass_2 193 = .ok (.iconst 0, 1) := dk_3 (dk_at dksX2_pass_2_8 3 rfl rfl)
theorem dX2_pass_2_194 : decode cX2_pass_2 194 = .ok (.istore_n 1, 1) := dk_60 (dk_at dksX2_pass_2_8 4 rfl rfl)
theorem dX2_pass_2_195 : decode cX2_pass_2 195 = .ok (.iload_n 1, 1) := dk_27 (dk_at dksX2_pass_2_8 5 rfl rfl)
theorem dX2_pass_2_196 : decode cX2_pass_2 196 = .ok (.aload_n 0, 1) := dk_42 (dk_at dksX2_pass_2_8 6 rfl rfl)
theorem dX2_pass_2_197 : decode cX2_pass_2 197 = .ok (.getfield 16, 3) := dk_180 0 16 (dk_at dksX2_pass_2_8 7 rfl rfl)
theorem dX2_pass_2_200 : decode cX2_pass_2 200 = .ok (.if_icmp .ge 37, 3) := dk_162 0 37 (dk_at dksX2_pass_2_8 10 rfl rfl)
theorem dX2_pass_2_203 : decode cX2_pass_2 203 = .ok (.aload_n 0, 1) := dk_42 (dk_at dksX2_pass_2_8 13 rfl rfl)
theorem dX2_pass_2_204 : decode cX2_pass_2 204 = .ok (.getfield 45, 3) := dk_180 0 45 (dk_at dksX2_pass_2_8 14 rfl rfl)
theorem dX2_pass_2_207 : decode cX2_pass_2 207 = .ok (.invokevirtual 179, 3) := dk_182 0 179 (dk_at dksX2_pass_2_8 17 rfl rfl)
theorem dX2_pass_2_210 : decode cX2_pass_2 210 = .ok (.ifCond .ne 27, 3) := dk_154 0 27 (dk_at dksX2_pass_2_8 20 rfl rfl)
theorem dX2_pass_2_213 : decode cX2_pass_2 213 = .ok (.aload_n 0, 1) := dk_42 (dk_at dksX2_pass_2_8 23 rfl rfl)
theorem dX2_pass_2_214 : decode cX2_pass_2 214 = .ok (.aload_n 0, 1) := dk_42 (dk_at dksX2_pass_2_9 0 rfl rfl)
theorem dX2_pass_2_215 : decode cX2_pass_2 215 = .ok (.getfield 45, 3) := dk_180 0 45 (dk_at dksX2_pass_2_9 1 rfl rfl)
theorem dX2_pass_2_218 : decode cX2_pass_2 218 = .ok (.aload_n 0, 1) := dk_42 (dk_at dksX2_pass_2_9 4 rfl rfl)
theorem dX2_pass_2_219 : decode cX2_pass_2 219 = .ok (.invokevirtual 182, 3) := dk_182 0 182 (dk_at dksX2_pass_2_9 5 rfl rfl)
theorem dX2_pass_2_222 : decode cX2_pass_2 222 = .ok (.invokevirtual 184, 3) := dk_182 0 184 (dk_at dksX2_pass_2_9 8 rfl rfl)
theorem dX2_pass_2_225 : decode cX2_pass_2 225 = .ok (.checkcast 176, 3) := dk_192 0 176 (dk_at dksX2_pass_2_9 11 rfl rfl)
theorem dX2_pass_2_228 : decode cX2_pass_2 228 = .ok (.invokevirtual 187, 3) := dk_182 0 187 (dk_at dksX2_pass_2_9 14 rfl rfl)
theorem dX2_pass_2_231 : decode cX2_pass_2 231 = .ok (.iinc 1 1, 3) := dk_132 1 1 (dk_at dksX2_pass_2_9 17 rfl rfl)
theorem dX2_pass_2_234 : decode cX2_pass_2 234 = .ok (.goto (-39), 3) := dk_167 255 217 (dk_at dksX2_pass_2_9 20 rfl rfl)
theorem dX2_pass_2_237 : decode cX2_pass_2 237 = .ok (.iload_n 1, 1) := dk_27 (dk_at dksX2_pass_2_9 23 rfl rfl)
theorem dX2_pass_2_238 : decode cX2_pass_2 238 = .ok (.ireturn, 1) := dk_172 (dk_at dksX2_pass_2_10 0 rfl rfl)
abbrev cX2_next : ByteArray := prog_13_method_21_code
def yX2_next : MethodName := ⟨RX2, "next", "()I"⟩
def dkwX2_next_3 : List UInt8 := [180, 0, 199, 184, 0, 202, 162, 0, 5, 28, 60, 132, 2, 1, 167, 255, 177, 27, 172]
abbrev dktX2_next_3 : List UInt8 := dkwX2_next_3 ++ []
def dkwX2_next_2 : List UInt8 := [180, 0, 39, 42, 180, 0, 45, 27, 182, 0, 83, 192, 0, 176, 180, 0, 194, 182, 0, 83, 192, 0, 197]
abbrev dktX2_next_2 : List UInt8 := dkwX2_next_2 ++ dktX2_next_3
def dkwX2_next_1 : List UInt8 := [182, 0, 83, 192, 0, 176, 180, 0, 194, 182, 0, 83, 192, 0, 197, 180, 0, 199, 184, 0, 202, 42]
abbrev dktX2_next_1 : List UInt8 := dkwX2_next_1 ++ dktX2_next_2
def dkwX2_next_0 : List UInt8 := [3, 60, 4, 61, 28, 42, 180, 0, 45, 182, 0, 58, 162, 0, 74, 42, 180, 0, 39, 42, 180, 0, 45, 28]
abbrev dktX2_next_0 : List UInt8 := dkwX2_next_0 ++ dktX2_next_1
theorem dksX2_next_0 : cX2_next.data.toList.drop 0 = dktX2_next_0 := by decide +kernel
theorem dksX2_next_1 : cX2_next.data.toList.drop 24 = dktX2_next_1 := dk_seg dksX2_next_0 24 rfl rfl
theorem dksX2_next_2 : cX2_next.data.toList.drop 46 = dktX2_next_2 := dk_seg dksX2_next_1 22 rfl rfl
theorem dksX2_next_3 : cX2_next.data.toList.drop 69 = dktX2_next_3 := dk_seg dksX2_next_2 23 rfl rfl
theorem dX2_next_0 : decode cX2_next 0 = .ok (.iconst 0, 1) := dk_3 (dk_at dksX2_next_0 0 rfl rfl)
theorem dX2_next_1 : decode cX2_next 1 = .ok (.istore_n 1, 1) := dk_60 (dk_at dksX2_next_0 1 rfl rfl)
theorem dX2_next_2 : decode cX2_next 2 = .ok (.iconst 1, 1) := dk_4 (dk_at dksX2_next_0 2 rfl rfl)
theorem dX2_next_3 : decode cX2_next 3 = .ok (.istore_n 2, 1) := dk_61 (dk_at dksX2_next_0 3 rfl rfl)
theorem dX2_next_4 : decode cX2_next 4 = .ok (.iload_n 2, 1) := dk_28 (dk_at dksX2_next_0 4 rfl rfl)
theorem dX2_next_5 : decode cX2_next 5 = .ok (.aload_n 0, 1) := dk_42 (dk_at dksX2_next_0 5 rfl rfl)
theorem dX2_next_6 : decode cX2_next 6 = .ok (.getfield 45, 3) := dk_180 0 45 (dk_at dksX2_next_0 6 rfl rfl)
theorem dX2_next_9 : decode cX2_next 9 = .ok (.invokevirtual 58, 3) := dk_182 0 58 (dk_at dksX2_next_0 9 rfl rfl)
theorem dX2_next_12 : decode cX2_next 12 = .ok (.if_icmp .ge 74, 3) := dk_162 0 74 (dk_at dksX2_next_0 12 rfl rfl)
theorem dX2_next_15 : decode cX2_next 15 = .ok (.aload_n 0, 1) := dk_42 (dk_at dksX2_next_0 15 rfl rfl)
theorem dX2_next_16 : decode cX2_next 16 = .ok (.getfield 39, 3) := dk_180 0 39 (dk_at dksX2_next_0 16 rfl rfl)
theorem dX2_next_19 : decode cX2_next 19 = .ok (.aload_n 0, 1) := dk_42 (dk_at dksX2_next_0 19 rfl rfl)
theorem dX2_next_20 : decode cX2_next 20 = .ok (.getfield 45, 3) := dk_180 0 45 (dk_at dksX2_next_0 20 rfl rfl)
theorem dX2_next_23 : decode cX2_next 23 = .ok (.iload_n 2, 1) := dk_28 (dk_at dksX2_next_0 23 rfl rfl)
theorem dX2_next_24 : decode cX2_next 24 = .ok (.invokevirtual 83, 3) := dk_182 0 83 (dk_at dksX2_next_1 0 rfl rfl)
theorem dX2_next_27 : decode cX2_next 27 = .ok (.checkcast 176, 3) := dk_192 0 176 (dk_at dksX2_next_1 3 rfl rfl)
theorem dX2_next_30 : decode cX2_next 30 = .ok (.getfield 194, 3) := dk_180 0 194 (dk_at dksX2_next_1 6 rfl rfl)
theorem dX2_next_33 : decode cX2_next 33 = .ok (.invokevirtual 83, 3) := dk_182 0 83 (dk_at dksX2_next_1 9 rfl rfl)
theorem dX2_next_36 : decode cX2_next 36 = .ok (.checkcast 197, 3) := dk_192 0 197 (dk_at dksX2_next_1 12 rfl rfl)
theorem dX2_next_39 : decode cX2_next 39 = .ok (.getfield 199, 3) := dk_180 0 199 (dk_at dksX2_next_1 15 rfl rfl)
theorem dX2_next_42 : decode cX2_next 42 = .ok (.invokestatic 202, 3) := dk_184 0 202 (dk_at dksX2_next_1 18 rfl rfl)
theorem dX2_next_45 : decode cX2_next 45 = .ok (.aload_n 0, 1) := dk_42 (dk_at dksX2_next_1 21 rfl rfl)
theorem dX2_next_46 : decode cX2_next 46 = .ok (.getfield 39, 3) := dk_180 0 39 (dk_at dksX2_next_2 0 rfl rfl)
theorem dX2_next_49 : decode cX2_next 49 = .ok (.aload_n 0, 1) := dk_42 (dk_at dksX2_next_2 3 rfl rfl)
theorem dX2_next_50 : decode cX2_next 50 = .ok (.getfield 45, 3) := dk_180 0 45 (dk_at dksX2_next_2 4 rfl rfl)
theorem dX2_next_53 : decode cX2_next 53 = .ok (.iload_n 1, 1) := dk_27 (dk_at dksX2_next_2 7 rfl rfl)
theorem dX2_next_54 : decode cX2_next 54 = .ok (.invokevirtual 83, 3) := dk_182 0 83 (dk_at dksX2_next_2 8 rfl rfl)
theorem dX2_next_57 : decode cX2_next 57 = .ok (.checkcast 176, 3) := dk_192 0 176 (dk_at dksX2_next_2 11 rfl rfl)
theorem dX2_next_60 : decode cX2_next 60 = .ok (.getfield 194, 3) := dk_180 0 194 (dk_at dksX2_next_2 14 rfl rfl)
theorem dX2_next_63 : decode cX2_next 63 = .ok (.invokevirtual 83, 3) := dk_182 0 83 (dk_at dksX2_next_2 17 rfl rfl)
theorem dX2_next_66 : decode cX2_next 66 = .ok (.checkcast 197, 3) := dk_192 0 197 (dk_at dksX2_next_2 20 rfl rfl)
theorem dX2_next_69 : decode cX2_next 69 = .ok (.getfield 199, 3) := dk_180 0 199 (dk_at dksX2_next_3 0 rfl rfl)
theorem dX2_next_72 : decode cX2_next 72 = .ok (.invokestatic 202, 3) := dk_184 0 202 (dk_at dksX2_next_3 3 rfl rfl)
theorem dX2_next_75 : decode cX2_next 75 = .ok (.if_icmp .ge 5, 3) := dk_162 0 5 (dk_at dksX2_next_3 6 rfl rfl)
theorem dX2_next_78 : decode cX2_next 78 = .ok (.iload_n 2, 1) := dk_28 (dk_at dksX2_next_3 9 rfl rfl)
theorem dX2_next_79 : decode cX2_next 79 = .ok (.istore_n 1, 1) := dk_60 (dk_at dksX2_next_3 10 rfl rfl)
theorem dX2_next_80 : decode cX2_next 80 = .ok (.iinc 2 1, 3) := dk_132 2 1 (dk_at dksX2_next_3 11 rfl rfl)
theorem dX2_next_83 : decode cX2_next 83 = .ok (.goto (-79), 3) := dk_167 255 177 (dk_at dksX2_next_3 14 rfl rfl)
theorem dX2_next_86 : decode cX2_next 86 = .ok (.iload_n 1, 1) := dk_27 (dk_at dksX2_next_3 17 rfl rfl)
theorem dX2_next_87 : decode cX2_next 87 = .ok (.ireturn, 1) := dk_172 (dk_at dksX2_next_3 18 rfl rfl)
abbrev cX2_when : ByteArray := prog_13_method_20_code
def yX2_when : MethodName := ⟨RX2, "when", "(I)I"⟩
def dkwX2_when_0 : List UInt8 := [26, 2, 160, 0, 8, 18, 193, 167, 0, 4, 26, 172]
abbrev dktX2_when_0 : List UInt8 := dkwX2_when_0 ++ []
theorem dksX2_when_0 : cX2_when.data.toList.drop 0 = dktX2_when_0 := by decide +kernel
theorem dX2_when_0 : decode cX2_when 0 = .ok (.iload_n 0, 1) := dk_26 (dk_at dksX2_when_0 0 rfl rfl)
theorem dX2_when_1 : decode cX2_when 1 = .ok (.iconst (-1), 1) := dk_2 (dk_at dksX2_when_0 1 rfl rfl)
theorem dX2_when_2 : decode cX2_when 2 = .ok (.if_icmp .ne 8, 3) := dk_160 0 8 (dk_at dksX2_when_0 2 rfl rfl)
theorem dX2_when_5 : decode cX2_when 5 = .ok (.ldc 193, 2) := dk_18 193 (dk_at dksX2_when_0 5 rfl rfl)
theorem dX2_when_7 : decode cX2_when 7 = .ok (.goto 4, 3) := dk_167 0 4 (dk_at dksX2_when_0 7 rfl rfl)
theorem dX2_when_10 : decode cX2_when 10 = .ok (.iload_n 0, 1) := dk_26 (dk_at dksX2_when_0 10 rfl rfl)
theorem dX2_when_11 : decode cX2_when 11 = .ok (.ireturn, 1) := dk_172 (dk_at dksX2_when_0 11 rfl rfl)
abbrev cX2_bring : ByteArray := prog_13_method_22_code
def yX2_bring : MethodName := ⟨RX2, "bring", "(LBloomclockModel$Trolley;)V"⟩
def dkwX2_bring_2 : List UInt8 := [167, 0, 19, 44, 180, 0, 210, 43, 180, 0, 213, 92, 46, 43, 180, 0, 209, 96, 79, 177]
abbrev dktX2_bring_2 : List UInt8 := dkwX2_bring_2 ++ []
def dkwX2_bring_1 : List UInt8 := [180, 0, 199, 42, 180, 0, 66, 162, 0, 19, 42, 89, 180, 0, 206, 43, 180, 0, 209, 96, 181, 0, 206]
abbrev dktX2_bring_1 : List UInt8 := dkwX2_bring_1 ++ dktX2_bring_2
def dkwX2_bring_0 : List UInt8 := [42, 180, 0, 39, 43, 180, 0, 194, 182, 0, 83, 192, 0, 197, 77, 44, 180, 0, 199, 2, 159, 0, 30, 44]
abbrev dktX2_bring_0 : List UInt8 := dkwX2_bring_0 ++ dktX2_bring_1
theorem dksX2_bring_0 : cX2_bring.data.toList.drop 0 = dktX2_bring_0 := by decide +kernel
theorem dksX2_bring_1 : cX2_bring.data.toList.drop 24 = dktX2_bring_1 := dk_seg dksX2_bring_0 24 rfl rfl
theorem dksX2_bring_2 : cX2_bring.data.toList.drop 47 = dktX2_bring_2 := dk_seg dksX2_bring_1 23 rfl rfl
theorem dX2_bring_0 : decode cX2_bring 0 = .ok (.aload_n 0, 1) := dk_42 (dk_at dksX2_bring_0 0 rfl rfl)
theorem dX2_bring_1 : decode cX2_bring 1 = .ok (.getfield 39, 3) := dk_180 0 39 (dk_at dksX2_bring_0 1 rfl rfl)
theorem dX2_bring_4 : decode cX2_bring 4 = .ok (.aload_n 1, 1) := dk_43 (dk_at dksX2_bring_0 4 rfl rfl)
theorem dX2_bring_5 : decode cX2_bring 5 = .ok (.getfield 194, 3) := dk_180 0 194 (dk_at dksX2_bring_0 5 rfl rfl)
theorem dX2_bring_8 : decode cX2_bring 8 = .ok (.invokevirtual 83, 3) := dk_182 0 83 (dk_at dksX2_bring_0 8 rfl rfl)
theorem dX2_bring_11 : decode cX2_bring 11 = .ok (.checkcast 197, 3) := dk_192 0 197 (dk_at dksX2_bring_0 11 rfl rfl)
theorem dX2_bring_14 : decode cX2_bring 14 = .ok (.astore_n 2, 1) := dk_77 (dk_at dksX2_bring_0 14 rfl rfl)
theorem dX2_bring_15 : decode cX2_bring 15 = .ok (.aload_n 2, 1) := dk_44 (dk_at dksX2_bring_0 15 rfl rfl)
theorem dX2_bring_16 : decode cX2_bring 16 = .ok (.getfield 199, 3) := dk_180 0 199 (dk_at dksX2_bring_0 16 rfl rfl)
theorem dX2_bring_19 : decode cX2_bring 19 = .ok (.iconst (-1), 1) := dk_2 (dk_at dksX2_bring_0 19 rfl rfl)
theorem dX2_bring_20 : decode cX2_bring 20 = .ok (.if_icmp .eq 30, 3) := dk_159 0 30 (dk_at dksX2_bring_0 20 rfl rfl)
theorem dX2_bring_23 : decode cX2_bring 23 = .ok (.aload_n 2, 1) := dk_44 (dk_at dksX2_bring_0 23 rfl rfl)
theorem dX2_bring_24 : decode cX2_bring 24 = .ok (.getfield 199, 3) := dk_180 0 199 (dk_at dksX2_bring_1 0 rfl rfl)
theorem dX2_bring_27 : decode cX2_bring 27 = .ok (.aload_n 0, 1) := dk_42 (dk_at dksX2_bring_1 3 rfl rfl)
theorem dX2_bring_28 : decode cX2_bring 28 = .ok (.getfield 66, 3) := dk_180 0 66 (dk_at dksX2_bring_1 4 rfl rfl)
theorem dX2_bring_31 : decode cX2_bring 31 = .ok (.if_icmp .ge 19, 3) := dk_162 0 19 (dk_at dksX2_bring_1 7 rfl rfl)
theorem dX2_bring_34 : decode cX2_bring 34 = .ok (.aload_n 0, 1) := dk_42 (dk_at dksX2_bring_1 10 rfl rfl)
theorem dX2_bring_35 : decode cX2_bring 35 = .ok (.dup, 1) := dk_89 (dk_at dksX2_bring_1 11 rfl rfl)
theorem dX2_bring_36 : decode cX2_bring 36 = .ok (.getfield 206, 3) := dk_180 0 206 (dk_at dksX2_bring_1 12 rfl rfl)
theorem dX2_bring_39 : decode cX2_bring 39 = .ok (.aload_n 1, 1) := dk_43 (dk_at dksX2_bring_1 15 rfl rfl)
theorem dX2_bring_40 : decode cX2_bring 40 = .ok (.getfield 209, 3) := dk_180 0 209 (dk_at dksX2_bring_1 16 rfl rfl)
theorem dX2_bring_43 : decode cX2_bring 43 = .ok (.iadd, 1) := dk_96 (dk_at dksX2_bring_1 19 rfl rfl)
theorem dX2_bring_44 : decode cX2_bring 44 = .ok (.putfield 206, 3) := dk_181 0 206 (dk_at dksX2_bring_1 20 rfl rfl)
theorem dX2_bring_47 : decode cX2_bring 47 = .ok (.goto 19, 3) := dk_167 0 19 (dk_at dksX2_bring_2 0 rfl rfl)
theorem dX2_bring_50 : decode cX2_bring 50 = .ok (.aload_n 2, 1) := dk_44 (dk_at dksX2_bring_2 3 rfl rfl)
theorem dX2_bring_51 : decode cX2_bring 51 = .ok (.getfield 210, 3) := dk_180 0 210 (dk_at dksX2_bring_2 4 rfl rfl)
theorem dX2_bring_54 : decode cX2_bring 54 = .ok (.aload_n 1, 1) := dk_43 (dk_at dksX2_bring_2 7 rfl rfl)
theorem dX2_bring_55 : decode cX2_bring 55 = .ok (.getfield 213, 3) := dk_180 0 213 (dk_at dksX2_bring_2 8 rfl rfl)
theorem dX2_bring_58 : decode cX2_bring 58 = .ok (.dup2, 1) := dk_92 (dk_at dksX2_bring_2 11 rfl rfl)
theorem dX2_bring_59 : decode cX2_bring 59 = .ok (.iaload, 1) := dk_46 (dk_at dksX2_bring_2 12 rfl rfl)
theorem dX2_bring_60 : decode cX2_bring 60 = .ok (.aload_n 1, 1) := dk_43 (dk_at dksX2_bring_2 13 rfl rfl)
theorem dX2_bring_61 : decode cX2_bring 61 = .ok (.getfield 209, 3) := dk_180 0 209 (dk_at dksX2_bring_2 14 rfl rfl)
theorem dX2_bring_64 : decode cX2_bring 64 = .ok (.iadd, 1) := dk_96 (dk_at dksX2_bring_2 17 rfl rfl)
theorem dX2_bring_65 : decode cX2_bring 65 = .ok (.iastore, 1) := dk_79 (dk_at dksX2_bring_2 18 rfl rfl)
theorem dX2_bring_66 : decode cX2_bring 66 = .ok (.return_, 1) := dk_177 (dk_at dksX2_bring_2 19 rfl rfl)
abbrev cX2_bring_2 : ByteArray := prog_13_method_23_code
def yX2_bring_2 : MethodName := ⟨RX2, "bring", "(III)I"⟩
def dkwX2_bring_2_8 : List UInt8 := [180, 0, 36, 182, 0, 58, 172]
abbrev dktX2_bring_2_8 : List UInt8 := dkwX2_bring_2_8 ++ []
def dkwX2_bring_2_7 : List UInt8 := [181, 0, 230, 25, 4, 4, 181, 0, 132, 42, 180, 0, 36, 27, 184, 0, 233, 182, 0, 75, 87, 42]
abbrev dktX2_bring_2_7 : List UInt8 := dkwX2_bring_2_7 ++ dktX2_bring_2_8
def dkwX2_bring_2_6 : List UInt8 := [25, 4, 180, 0, 220, 25, 4, 180, 0, 162, 182, 0, 224, 25, 4, 28, 181, 0, 227, 25, 4, 29]
abbrev dktX2_bring_2_6 : List UInt8 := dkwX2_bring_2_6 ++ dktX2_bring_2_7
def dkwX2_bring_2_5 : List UInt8 := [164, 0, 7, 4, 167, 0, 4, 3, 6, 182, 0, 54, 153, 0, 5, 3, 172, 25, 5, 42, 182, 0, 217]
abbrev dktX2_bring_2_5 : List UInt8 := dkwX2_bring_2_5 ++ dktX2_bring_2_6
def dkwX2_bring_2_4 : List UInt8 := [25, 4, 180, 0, 220, 182, 0, 221, 25, 4, 180, 0, 162, 96, 42, 180, 0, 19, 25, 4, 180, 0, 220, 46]
abbrev dktX2_bring_2_4 : List UInt8 := dkwX2_bring_2_4 ++ dktX2_bring_2_5
def dkwX2_bring_2_3 : List UInt8 := [182, 0, 83, 192, 0, 72, 58, 5, 42, 25, 4, 180, 0, 132, 154, 0, 36, 25, 5, 42, 182, 0, 217]
abbrev dktX2_bring_2_3 : List UInt8 := dkwX2_bring_2_3 ++ dktX2_bring_2_4
def dkwX2_bring_2_2 : List UInt8 := [42, 180, 0, 33, 27, 182, 0, 83, 192, 0, 112, 58, 4, 42, 180, 0, 26, 25, 4, 180, 0, 214]
abbrev dktX2_bring_2_2 : List UInt8 := dkwX2_bring_2_2 ++ dktX2_bring_2_3
def dkwX2_bring_2_1 : List UInt8 := [29, 4, 16, 99, 184, 0, 62, 154, 0, 7, 4, 167, 0, 4, 3, 5, 182, 0, 54, 153, 0, 5, 3, 172]
abbrev dktX2_bring_2_1 : List UInt8 := dkwX2_bring_2_1 ++ dktX2_bring_2_2
def dkwX2_bring_2_0 : List UInt8 := [42, 42, 27, 182, 0, 129, 4, 182, 0, 69, 154, 0, 36, 42, 28, 3, 16, 110, 184, 0, 62, 153, 0, 13]
abbrev dktX2_bring_2_0 : List UInt8 := dkwX2_bring_2_0 ++ dktX2_bring_2_1
theorem dksX2_bring_2_0 : cX2_bring_2.data.toList.drop 0 = dktX2_bring_2_0 := by decide +kernel
theorem dksX2_bring_2_1 : cX2_bring_2.data.toList.drop 24 = dktX2_bring_2_1 := dk_seg dksX2_bring_2_0 24 rfl rfl
theorem dksX2_bring_2_2 : cX2_bring_2.data.toList.drop 48 = dktX2_bring_2_2 := dk_seg dksX2_bring_2_1 24 rfl rfl
theorem dksX2_bring_2_3 : cX2_bring_2.data.toList.drop 70 = dktX2_bring_2_3 := dk_seg dksX2_bring_2_2 22 rfl rfl
theorem dksX2_bring_2_4 : cX2_bring_2.data.toList.drop 93 = dktX2_bring_2_4 := dk_seg dksX2_bring_2_3 23 rfl rfl
theorem dksX2_bring_2_5 : cX2_bring_2.data.toList.drop 117 = dktX2_bring_2_5 := dk_seg dksX2_bring_2_4 24 rfl rfl
theorem dksX2_bring_2_6 : cX2_bring_2.data.toList.drop 140 = dktX2_bring_2_6 := dk_seg dksX2_bring_2_5 23 rfl rfl
theorem dksX2_bring_2_7 : cX2_bring_2.data.toList.drop 162 = dktX2_bring_2_7 := dk_seg dksX2_bring_2_6 22 rfl rfl
theorem dksX2_bring_2_8 : cX2_bring_2.data.toList.drop 184 = dktX2_bring_2_8 := dk_seg dksX2_bring_2_7 22 rfl rfl
theorem dX2_bring_2_0 : decode cX2_bring_2 0 = .ok (.aload_n 0, 1) := dk_42 (dk_at dksX2_bring_2_0 0 rfl rfl)
theorem dX2_bring_2_1 : decode cX2_bring_2 1 = .ok (.aload_n 0, 1) := dk_42 (dk_at dksX2_bring_2_0 1 rfl rfl)
theorem dX2_bring_2_2 : decode cX2_bring_2 2 = .ok (.iload_n 1, 1) := dk_27 (dk_at dksX2_bring_2_0 2 rfl rfl)
theorem dX2_bring_2_3 : decode cX2_bring_2 3 = .ok (.invokevirtual 129, 3) := dk_182 0 129 (dk_at dksX2_bring_2_0 3 rfl rfl)
theorem dX2_bring_2_6 : decode cX2_bring_2 6 = .ok (.iconst 1, 1) := dk_4 (dk_at dksX2_bring_2_0 6 rfl rfl)
theorem dX2_bring_2_7 : decode cX2_bring_2 7 = .ok (.invokevirtual 69, 3) := dk_182 0 69 (dk_at dksX2_bring_2_0 7 rfl rfl)
theorem dX2_bring_2_10 : decode cX2_bring_2 10 = .ok (.ifCond .ne 36, 3) := dk_154 0 36 (dk_at dksX2_bring_2_0 10 rfl rfl)
theorem dX2_bring_2_13 : decode cX2_bring_2 13 = .ok (.aload_n 0, 1) := dk_42 (dk_at dksX2_bring_2_0 13 rfl rfl)
theorem dX2_bring_2_14 : decode cX2_bring_2 14 = .ok (.iload_n 2, 1) := dk_28 (dk_at dksX2_bring_2_0 14 rfl rfl)
theorem dX2_bring_2_15 : decode cX2_bring_2 15 = .ok (.iconst 0, 1) := dk_3 (dk_at dksX2_bring_2_0 15 rfl rfl)
theorem dX2_bring_2_16 : decode cX2_bring_2 16 = .ok (.bipush 110, 2) := dk_16 110 (dk_at dksX2_bring_2_0 16 rfl rfl)
theorem dX2_bring_2_18 : decode cX2_bring_2 18 = .ok (.invokestatic 62, 3) := dk_184 0 62 (dk_at dksX2_bring_2_0 18 rfl rfl)
theorem dX2_bring_2_21 : decode cX2_bring_2 21 = .ok (.ifCond .eq 13, 3) := dk_153 0 13 (dk_at dksX2_bring_2_0 21 rfl rfl)
theorem dX2_bring_2_24 : decode cX2_bring_2 24 = .ok (.iload_n 3, 1) := dk_29 (dk_at dksX2_bring_2_1 0 rfl rfl)
theorem dX2_bring_2_25 : decode cX2_bring_2 25 = .ok (.iconst 1, 1) := dk_4 (dk_at dksX2_bring_2_1 1 rfl rfl)
theorem dX2_bring_2_26 : decode cX2_bring_2 26 = .ok (.bipush 99, 2) := dk_16 99 (dk_at dksX2_bring_2_1 2 rfl rfl)
theorem dX2_bring_2_28 : decode cX2_bring_2 28 = .ok (.invokestatic 62, 3) := dk_184 0 62 (dk_at dksX2_bring_2_1 4 rfl rfl)
theorem dX2_bring_2_31 : decode cX2_bring_2 31 = .ok (.ifCond .ne 7, 3) := dk_154 0 7 (dk_at dksX2_bring_2_1 7 rfl rfl)
theorem dX2_bring_2_34 : decode cX2_bring_2 34 = .ok (.iconst 1, 1) := dk_4 (dk_at dksX2_bring_2_1 10 rfl rfl)
theorem dX2_bring_2_35 : decode cX2_bring_2 35 = .ok (.goto 4, 3) := dk_167 0 4 (dk_at dksX2_bring_2_1 11 rfl rfl)
theorem dX2_bring_2_38 : decode cX2_bring_2 38 = .ok (.iconst 0, 1) := dk_3 (dk_at dksX2_bring_2_1 14 rfl rfl)
theorem dX2_bring_2_39 : decode cX2_bring_2 39 = .ok (.iconst 2, 1) := dk_5 (dk_at dksX2_bring_2_1 15 rfl rfl)
theorem dX2_bring_2_40 : decode cX2_bring_2 40 = .ok (.invokevirtual 54, 3) := dk_182 0 54 (dk_at dksX2_bring_2_1 16 rfl rfl)
theorem dX2_bring_2_43 : decode cX2_bring_2 43 = .ok (.ifCond .eq 5, 3) := dk_153 0 5 (dk_at dksX2_bring_2_1 19 rfl rfl)
theorem dX2_bring_2_46 : decode cX2_bring_2 46 = .ok (.iconst 0, 1) := dk_3 (dk_at dksX2_bring_2_1 22 rfl rfl)
theorem dX2_bring_2_47 : decode cX2_bring_2 47 = .ok (.ireturn, 1) := dk_172 (dk_at dksX2_bring_2_1 23 rfl rfl)
theorem dX2_bring_2_48 : decode cX2_bring_2 48 = .ok (.aload_n 0, 1) := dk_42 (dk_at dksX2_bring_2_2 0 rfl rfl)
theorem dX2_bring_2_49 : decode cX2_bring_2 49 = .ok (.getfield 33, 3) := dk_180 0 33 (dk_at dksX2_bring_2_2 1 rfl rfl)
theorem dX2_bring_2_52 : decode cX2_bring_2 52 = .ok (.iload_n 1, 1) := dk_27 (dk_at dksX2_bring_2_2 4 rfl rfl)
theorem dX2_bring_2_53 : decode cX2_bring_2 53 = .ok (.invokevirtual 83, 3) := dk_182 0 83 (dk_at dksX2_bring_2_2 5 rfl rfl)
theorem dX2_bring_2_56 : decode cX2_bring_2 56 = .ok (.checkcast 112, 3) := dk_192 0 112 (dk_at dksX2_bring_2_2 8 rfl rfl)
theorem dX2_bring_2_59 : decode cX2_bring_2 59 = .ok (.astore 4, 2) := dk_58 4 (dk_at dksX2_bring_2_2 11 rfl rfl)
theorem dX2_bring_2_61 : decode cX2_bring_2 61 = .ok (.aload_n 0, 1) := dk_42 (dk_at dksX2_bring_2_2 13 rfl rfl)
theorem dX2_bring_2_62 : decode cX2_bring_2 62 = .ok (.getfield 26, 3) := dk_180 0 26 (dk_at dksX2_bring_2_2 14 rfl rfl)
theorem dX2_bring_2_65 : decode cX2_bring_2 65 = .ok (.aload 4, 2) := dk_25 4 (dk_at dksX2_bring_2_2 17 rfl rfl)
theorem dX2_bring_2_67 : decode cX2_bring_2 67 = .ok (.getfield 214, 3) := dk_180 0 214 (dk_at dksX2_bring_2_2 19 rfl rfl)
theorem dX2_bring_2_70 : decode cX2_bring_2 70 = .ok (.invokevirtual 83, 3) := dk_182 0 83 (dk_at dksX2_bring_2_3 0 rfl rfl)
theorem dX2_bring_2_73 : decode cX2_bring_2 73 = .ok (.checkcast 72, 3) := dk_192 0 72 (dk_at dksX2_bring_2_3 3 rfl rfl)
theorem dX2_bring_2_76 : decode cX2_bring_2 76 = .ok (.astore 5, 2) := dk_58 5 (dk_at dksX2_bring_2_3 6 rfl rfl)
theorem dX2_bring_2_78 : decode cX2_bring_2 78 = .ok (.aload_n 0, 1) := dk_42 (dk_at dksX2_bring_2_3 8 rfl rfl)
theorem dX2_bring_2_79 : decode cX2_bring_2 79 = .ok (.aload 4, 2) := dk_25 4 (dk_at dksX2_bring_2_3 9 rfl rfl)
theorem dX2_bring_2_81 : decode cX2_bring_2 81 = .ok (.getfield 132, 3) := dk_180 0 132 (dk_at dksX2_bring_2_3 11 rfl rfl)
theorem dX2_bring_2_84 : decode cX2_bring_2 84 = .ok (.ifCond .ne 36, 3) := dk_154 0 36 (dk_at dksX2_bring_2_3 14 rfl rfl)
theorem dX2_bring_2_87 : decode cX2_bring_2 87 = .ok (.aload 5, 2) := dk_25 5 (dk_at dksX2_bring_2_3 17 rfl rfl)
theorem dX2_bring_2_89 : decode cX2_bring_2 89 = .ok (.aload_n 0, 1) := dk_42 (dk_at dksX2_bring_2_3 19 rfl rfl)
theorem dX2_bring_2_90 : decode cX2_bring_2 90 = .ok (.invokevirtual 217, 3) := dk_182 0 217 (dk_at dksX2_bring_2_3 20 rfl rfl)
theorem dX2_bring_2_93 : decode cX2_bring_2 93 = .ok (.aload 4, 2) := dk_25 4 (dk_at dksX2_bring_2_4 0 rfl rfl)
theorem dX2_bring_2_95 : decode cX2_bring_2 95 = .ok (.getfield 220, 3) := dk_180 0 220 (dk_at dksX2_bring_2_4 2 rfl rfl)
theorem dX2_bring_2_98 : decode cX2_bring_2 98 = .ok (.invokevirtual 221, 3) := dk_182 0 221 (dk_at dksX2_bring_2_4 5 rfl rfl)
theorem dX2_bring_2_101 : decode cX2_bring_2 101 = .ok (.aload 4, 2) := dk_25 4 (dk_at dksX2_bring_2_4 8 rfl rfl)
theorem dX2_bring_2_103 : decode cX2_bring_2 103 = .ok (.getfield 162, 3) := dk_180 0 162 (dk_at dksX2_bring_2_4 10 rfl rfl)
theorem dX2_bring_2_106 : decode cX2_bring_2 106 = .ok (.iadd, 1) := dk_96 (dk_at dksX2_bring_2_4 13 rfl rfl)
theorem dX2_bring_2_107 : decode cX2_bring_2 107 = .ok (.aload_n 0, 1) := dk_42 (dk_at dksX2_bring_2_4 14 rfl rfl)
theorem dX2_bring_2_108 : decode cX2_bring_2 108 = .ok (.getfield 19, 3) := dk_180 0 19 (dk_at dksX2_bring_2_4 15 rfl rfl)
theorem dX2_bring_2_111 : decode cX2_bring_2 111 = .ok (.aload 4, 2) := dk_25 4 (dk_at dksX2_bring_2_4 18 rfl rfl)
theorem dX2_bring_2_113 : decode cX2_bring_2 113 = .ok (.getfield 220, 3) := dk_180 0 220 (dk_at dksX2_bring_2_4 20 rfl rfl)
theorem dX2_bring_2_116 : decode cX2_bring_2 116 = .ok (.iaload, 1) := dk_46 (dk_at dksX2_bring_2_4 23 rfl rfl)
theorem dX2_bring_2_117 : decode cX2_bring_2 117 = .ok (.if_icmp .le 7, 3) := dk_164 0 7 (dk_at dksX2_bring_2_5 0 rfl rfl)
theorem dX2_bring_2_120 : decode cX2_bring_2 120 = .ok (.iconst 1, 1) := dk_4 (dk_at dksX2_bring_2_5 3 rfl rfl)
theorem dX2_bring_2_121 : decode cX2_bring_2 121 = .ok (.goto 4, 3) := dk_167 0 4 (dk_at dksX2_bring_2_5 4 rfl rfl)
theorem dX2_bring_2_124 : decode cX2_bring_2 124 = .ok (.iconst 0, 1) := dk_3 (dk_at dksX2_bring_2_5 7 rfl rfl)
theorem dX2_bring_2_125 : decode cX2_bring_2 125 = .ok (.iconst 3, 1) := dk_6 (dk_at dksX2_bring_2_5 8 rfl rfl)
theorem dX2_bring_2_126 : decode cX2_bring_2 126 = .ok (.invokevirtual 54, 3) := dk_182 0 54 (dk_at dksX2_bring_2_5 9 rfl rfl)
theorem dX2_bring_2_129 : decode cX2_bring_2 129 = .ok (.ifCond .eq 5, 3) := dk_153 0 5 (dk_at dksX2_bring_2_5 12 rfl rfl)
theorem dX2_bring_2_132 : decode cX2_bring_2 132 = .ok (.iconst 0, 1) := dk_3 (dk_at dksX2_bring_2_5 15 rfl rfl)
theorem dX2_bring_2_133 : decode cX2_bring_2 133 = .ok (.ireturn, 1) := dk_172 (dk_at dksX2_bring_2_5 16 rfl rfl)
theorem dX2_bring_2_134 : decode cX2_bring_2 134 = .ok (.aload 5, 2) := dk_25 5 (dk_at dksX2_bring_2_5 17 rfl rfl)
theorem dX2_bring_2_136 : decode cX2_bring_2 136 = .ok (.aload_n 0, 1) := dk_42 (dk_at dksX2_bring_2_5 19 rfl rfl)
theorem dX2_bring_2_137 : decode cX2_bring_2 137 = .ok (.invokevirtual 217, 3) := dk_182 0 217 (dk_at dksX2_bring_2_5 20 rfl rfl)
theorem dX2_bring_2_140 : decode cX2_bring_2 140 = .ok (.aload 4, 2) := dk_25 4 (dk_at dksX2_bring_2_6 0 rfl rfl)
theorem dX2_bring_2_142 : decode cX2_bring_2 142 = .ok (.getfield 220, 3) := dk_180 0 220 (dk_at dksX2_bring_2_6 2 rfl rfl)
theorem dX2_bring_2_145 : decode cX2_bring_2 145 = .ok (.aload 4, 2) := dk_25 4 (dk_at dksX2_bring_2_6 5 rfl rfl)
theorem dX2_bring_2_147 : decode cX2_bring_2 147 = .ok (.getfield 162, 3) := dk_180 0 162 (dk_at dksX2_bring_2_6 7 rfl rfl)
theorem dX2_bring_2_150 : decode cX2_bring_2 150 = .ok (.invokevirtual 224, 3) := dk_182 0 224 (dk_at dksX2_bring_2_6 10 rfl rfl)
theorem dX2_bring_2_153 : decode cX2_bring_2 153 = .ok (.aload 4, 2) := dk_25 4 (dk_at dksX2_bring_2_6 13 rfl rfl)
theorem dX2_bring_2_155 : decode cX2_bring_2 155 = .ok (.iload_n 2, 1) := dk_28 (dk_at dksX2_bring_2_6 15 rfl rfl)
theorem dX2_bring_2_156 : decode cX2_bring_2 156 = .ok (.putfield 227, 3) := dk_181 0 227 (dk_at dksX2_bring_2_6 16 rfl rfl)
theorem dX2_bring_2_159 : decode cX2_bring_2 159 = .ok (.aload 4, 2) := dk_25 4 (dk_at dksX2_bring_2_6 19 rfl rfl)
theorem dX2_bring_2_161 : decode cX2_bring_2 161 = .ok (.iload_n 3, 1) := dk_29 (dk_at dksX2_bring_2_6 21 rfl rfl)
theorem dX2_bring_2_162 : decode cX2_bring_2 162 = .ok (.putfield 230, 3) := dk_181 0 230 (dk_at dksX2_bring_2_7 0 rfl rfl)
theorem dX2_bring_2_165 : decode cX2_bring_2 165 = .ok (.aload 4, 2) := dk_25 4 (dk_at dksX2_bring_2_7 3 rfl rfl)
theorem dX2_bring_2_167 : decode cX2_bring_2 167 = .ok (.iconst 1, 1) := dk_4 (dk_at dksX2_bring_2_7 5 rfl rfl)
theorem dX2_bring_2_168 : decode cX2_bring_2 168 = .ok (.putfield 132, 3) := dk_181 0 132 (dk_at dksX2_bring_2_7 6 rfl rfl)
theorem dX2_bring_2_171 : decode cX2_bring_2 171 = .ok (.aload_n 0, 1) := dk_42 (dk_at dksX2_bring_2_7 9 rfl rfl)
theorem dX2_bring_2_172 : decode cX2_bring_2 172 = .ok (.getfield 36, 3) := dk_180 0 36 (dk_at dksX2_bring_2_7 10 rfl rfl)
theorem dX2_bring_2_175 : decode cX2_bring_2 175 = .ok (.iload_n 1, 1) := dk_27 (dk_at dksX2_bring_2_7 13 rfl rfl)
theorem dX2_bring_2_176 : decode cX2_bring_2 176 = .ok (.invokestatic 233, 3) := dk_184 0 233 (dk_at dksX2_bring_2_7 14 rfl rfl)
theorem dX2_bring_2_179 : decode cX2_bring_2 179 = .ok (.invokevirtual 75, 3) := dk_182 0 75 (dk_at dksX2_bring_2_7 17 rfl rfl)
theorem dX2_bring_2_182 : decode cX2_bring_2 182 = .ok (.pop, 1) := dk_87 (dk_at dksX2_bring_2_7 20 rfl rfl)
theorem dX2_bring_2_183 : decode cX2_bring_2 183 = .ok (.aload_n 0, 1) := dk_42 (dk_at dksX2_bring_2_7 21 rfl rfl)
theorem dX2_bring_2_184 : decode cX2_bring_2 184 = .ok (.getfield 36, 3) := dk_180 0 36 (dk_at dksX2_bring_2_8 0 rfl rfl)
theorem dX2_bring_2_187 : decode cX2_bring_2 187 = .ok (.invokevirtual 58, 3) := dk_182 0 58 (dk_at dksX2_bring_2_8 3 rfl rfl)
theorem dX2_bring_2_190 : decode cX2_bring_2 190 = .ok (.ireturn, 1) := dk_172 (dk_at dksX2_bring_2_8 6 rfl rfl)
abbrev cX2_day : ByteArray := prog_13_method_12_code
def yX2_day : MethodName := ⟨RX2, "day", "()I"⟩
def dkwX2_day_0 : List UInt8 := [42, 180, 0, 66, 16, 24, 108, 172]
abbrev dktX2_day_0 : List UInt8 := dkwX2_day_0 ++ []
theorem dksX2_day_0 : cX2_day.data.toList.drop 0 = dktX2_day_0 := by decide +kernel
theorem dX2_day_0 : decode cX2_day 0 = .ok (.aload_n 0, 1) := dk_42 (dk_at dksX2_day_0 0 rfl rfl)
theorem dX2_day_1 : decode cX2_day 1 = .ok (.getfield 66, 3) := dk_180 0 66 (dk_at dksX2_day_0 1 rfl rfl)
theorem dX2_day_4 : decode cX2_day 4 = .ok (.bipush 24, 2) := dk_16 24 (dk_at dksX2_day_0 4 rfl rfl)
theorem dX2_day_6 : decode cX2_day 6 = .ok (.idiv, 1) := dk_108 (dk_at dksX2_day_0 6 rfl rfl)
theorem dX2_day_7 : decode cX2_day 7 = .ok (.ireturn, 1) := dk_172 (dk_at dksX2_day_0 7 rfl rfl)
abbrev cX2_inspect : ByteArray := prog_13_method_24_code
def yX2_inspect : MethodName := ⟨RX2, "inspect", "(I)I"⟩
def dkwX2_inspect_5 : List UInt8 := [5, 96, 184, 0, 240, 181, 0, 237, 45, 180, 0, 237, 172]
abbrev dktX2_inspect_5 : List UInt8 := dkwX2_inspect_5 ++ []
def dkwX2_inspect_4 : List UInt8 := [184, 0, 171, 181, 0, 237, 44, 44, 180, 0, 165, 181, 0, 227, 167, 0, 18, 45, 16, 100, 45, 180, 0, 237]
abbrev dktX2_inspect_4 : List UInt8 := dkwX2_inspect_4 ++ dktX2_inspect_5
def dkwX2_inspect_3 : List UInt8 := [192, 0, 72, 78, 44, 180, 0, 227, 44, 180, 0, 165, 164, 0, 29, 45, 3, 45, 180, 0, 237, 16, 10, 100]
abbrev dktX2_inspect_3 : List UInt8 := dkwX2_inspect_3 ++ dktX2_inspect_4
def dkwX2_inspect_2 : List UInt8 := [42, 180, 0, 33, 27, 182, 0, 83, 192, 0, 112, 77, 42, 180, 0, 26, 44, 180, 0, 214, 182, 0, 83]
abbrev dktX2_inspect_2 : List UInt8 := dkwX2_inspect_2 ++ dktX2_inspect_3
def dkwX2_inspect_1 : List UInt8 := [192, 0, 112, 180, 0, 132, 4, 159, 0, 7, 4, 167, 0, 4, 3, 5, 182, 0, 54, 153, 0, 5, 3, 172]
abbrev dktX2_inspect_1 : List UInt8 := dkwX2_inspect_1 ++ dktX2_inspect_2
def dkwX2_inspect_0 : List UInt8 := [42, 42, 27, 182, 0, 129, 4, 182, 0, 69, 154, 0, 34, 42, 42, 180, 0, 33, 27, 182, 0, 83]
abbrev dktX2_inspect_0 : List UInt8 := dkwX2_inspect_0 ++ dktX2_inspect_1
theorem dksX2_inspect_0 : cX2_inspect.data.toList.drop 0 = dktX2_inspect_0 := by decide +kernel
theorem dksX2_inspect_1 : cX2_inspect.data.toList.drop 22 = dktX2_inspect_1 := dk_seg dksX2_inspect_0 22 rfl rfl
theorem dksX2_inspect_2 : cX2_inspect.data.toList.drop 46 = dktX2_inspect_2 := dk_seg dksX2_inspect_1 24 rfl rfl
theorem dksX2_inspect_3 : cX2_inspect.data.toList.drop 69 = dktX2_inspect_3 := dk_seg dksX2_inspect_2 23 rfl rfl
theorem dksX2_inspect_4 : cX2_inspect.data.toList.drop 93 = dktX2_inspect_4 := dk_seg dksX2_inspect_3 24 rfl rfl
theorem dksX2_inspect_5 : cX2_inspect.data.toList.drop 117 = dktX2_inspect_5 := dk_seg dksX2_inspect_4 24 rfl rfl
theorem dX2_inspect_0 : decode cX2_inspect 0 = .ok (.aload_n 0, 1) := dk_42 (dk_at dksX2_inspect_0 0 rfl rfl)
theorem dX2_inspect_1 : decode cX2_inspect 1 = .ok (.aload_n 0, 1) := dk_42 (dk_at dksX2_inspect_0 1 rfl rfl)
theorem dX2_inspect_2 : decode cX2_inspect 2 = .ok (.iload_n 1, 1) := dk_27 (dk_at dksX2_inspect_0 2 rfl rfl)
theorem dX2_inspect_3 : decode cX2_inspect 3 = .ok (.invokevirtual 129, 3) := dk_182 0 129 (dk_at dksX2_inspect_0 3 rfl rfl)
theorem dX2_inspect_6 : decode cX2_inspect 6 = .ok (.iconst 1, 1) := dk_4 (dk_at dksX2_inspect_0 6 rfl rfl)
theorem dX2_inspect_7 : decode cX2_inspect 7 = .ok (.invokevirtual 69, 3) := dk_182 0 69 (dk_at dksX2_inspect_0 7 rfl rfl)
theorem dX2_inspect_10 : decode cX2_inspect 10 = .ok (.ifCond .ne 34, 3) := dk_154 0 34 (dk_at dksX2_inspect_0 10 rfl rfl)
theorem dX2_inspect_13 : decode cX2_inspect 13 = .ok (.aload_n 0, 1) := dk_42 (dk_at dksX2_inspect_0 13 rfl rfl)
theorem dX2_inspect_14 : decode cX2_inspect 14 = .ok (.aload_n 0, 1) := dk_42 (dk_at dksX2_inspect_0 14 rfl rfl)
theorem dX2_inspect_15 : decode cX2_inspect 15 = .ok (.getfield 33, 3) := dk_180 0 33 (dk_at dksX2_inspect_0 15 rfl rfl)
theorem dX2_inspect_18 : decode cX2_inspect 18 = .ok (.iload_n 1, 1) := dk_27 (dk_at dksX2_inspect_0 18 rfl rfl)
theorem dX2_inspect_19 : decode cX2_inspect 19 = .ok (.invokevirtual 83, 3) := dk_182 0 83 (dk_at dksX2_inspect_0 19 rfl rfl)
theorem dX2_inspect_22 : decode cX2_inspect 22 = .ok (.checkcast 112, 3) := dk_192 0 112 (dk_at dksX2_inspect_1 0 rfl rfl)
theorem dX2_inspect_25 : decode cX2_inspect 25 = .ok (.getfield 132, 3) := dk_180 0 132 (dk_at dksX2_inspect_1 3 rfl rfl)
theorem dX2_inspect_28 : decode cX2_inspect 28 = .ok (.iconst 1, 1) := dk_4 (dk_at dksX2_inspect_1 6 rfl rfl)
theorem dX2_inspect_29 : decode cX2_inspect 29 = .ok (.if_icmp .eq 7, 3) := dk_159 0 7 (dk_at dksX2_inspect_1 7 rfl rfl)
theorem dX2_inspect_32 : decode cX2_inspect 32 = .ok (.iconst 1, 1) := dk_4 (dk_at dksX2_inspect_1 10 rfl rfl)
theorem dX2_inspect_33 : decode cX2_inspect 33 = .ok (.goto 4, 3) := dk_167 0 4 (dk_at dksX2_inspect_1 11 rfl rfl)
theorem dX2_inspect_36 : decode cX2_inspect 36 = .ok (.iconst 0, 1) := dk_3 (dk_at dksX2_inspect_1 14 rfl rfl)
theorem dX2_inspect_37 : decode cX2_inspect 37 = .ok (.iconst 2, 1) := dk_5 (dk_at dksX2_inspect_1 15 rfl rfl)
theorem dX2_inspect_38 : decode cX2_inspect 38 = .ok (.invokevirtual 54, 3) := dk_182 0 54 (dk_at dksX2_inspect_1 16 rfl rfl)
theorem dX2_inspect_41 : decode cX2_inspect 41 = .ok (.ifCond .eq 5, 3) := dk_153 0 5 (dk_at dksX2_inspect_1 19 rfl rfl)
theorem dX2_inspect_44 : decode cX2_inspect 44 = .ok (.iconst 0, 1) := dk_3 (dk_at dksX2_inspect_1 22 rfl rfl)
theorem dX2_inspect_45 : decode cX2_inspect 45 = .ok (.ireturn, 1) := dk_172 (dk_at dksX2_inspect_1 23 rfl rfl)
theorem dX2_inspect_46 : decode cX2_inspect 46 = .ok (.aload_n 0, 1) := dk_42 (dk_at dksX2_inspect_2 0 rfl rfl)
theorem dX2_inspect_47 : decode cX2_inspect 47 = .ok (.getfield 33, 3) := dk_180 0 33 (dk_at dksX2_inspect_2 1 rfl rfl)
theorem dX2_inspect_50 : decode cX2_inspect 50 = .ok (.iload_n 1, 1) := dk_27 (dk_at dksX2_inspect_2 4 rfl rfl)
theorem dX2_inspect_51 : decode cX2_inspect 51 = .ok (.invokevirtual 83, 3) := dk_182 0 83 (dk_at dksX2_inspect_2 5 rfl rfl)
theorem dX2_inspect_54 : decode cX2_inspect 54 = .ok (.checkcast 112, 3) := dk_192 0 112 (dk_at dksX2_inspect_2 8 rfl rfl)
theorem dX2_inspect_57 : decode cX2_inspect 57 = .ok (.astore_n 2, 1) := dk_77 (dk_at dksX2_inspect_2 11 rfl rfl)
theorem dX2_inspect_58 : decode cX2_inspect 58 = .ok (.aload_n 0, 1) := dk_42 (dk_at dksX2_inspect_2 12 rfl rfl)
theorem dX2_inspect_59 : decode cX2_inspect 59 = .ok (.getfield 26, 3) := dk_180 0 26 (dk_at dksX2_inspect_2 13 rfl rfl)
theorem dX2_inspect_62 : decode cX2_inspect 62 = .ok (.aload_n 2, 1) := dk_44 (dk_at dksX2_inspect_2 16 rfl rfl)
theorem dX2_inspect_63 : decode cX2_inspect 63 = .ok (.getfield 214, 3) := dk_180 0 214 (dk_at dksX2_inspect_2 17 rfl rfl)
theorem dX2_inspect_66 : decode cX2_inspect 66 = .ok (.invokevirtual 83, 3) := dk_182 0 83 (dk_at dksX2_inspect_2 20 rfl rfl)
theorem dX2_inspect_69 : decode cX2_inspect 69 = .ok (.checkcast 72, 3) := dk_192 0 72 (dk_at dksX2_inspect_3 0 rfl rfl)
theorem dX2_inspect_72 : decode cX2_inspect 72 = .ok (.astore_n 3, 1) := dk_78 (dk_at dksX2_inspect_3 3 rfl rfl)
theorem dX2_inspect_73 : decode cX2_inspect 73 = .ok (.aload_n 2, 1) := dk_44 (dk_at dksX2_inspect_3 4 rfl rfl)
theorem dX2_inspect_74 : decode cX2_inspect 74 = .ok (.getfield 227, 3) := dk_180 0 227 (dk_at dksX2_inspect_3 5 rfl rfl)
theorem dX2_inspect_77 : decode cX2_inspect 77 = .ok (.aload_n 2, 1) := dk_44 (dk_at dksX2_inspect_3 8 rfl rfl)
theorem dX2_inspect_78 : decode cX2_inspect 78 = .ok (.getfield 165, 3) := dk_180 0 165 (dk_at dksX2_inspect_3 9 rfl rfl)
theorem dX2_inspect_81 : decode cX2_inspect 81 = .ok (.if_icmp .le 29, 3) := dk_164 0 29 (dk_at dksX2_inspect_3 12 rfl rfl)
theorem dX2_inspect_84 : decode cX2_inspect 84 = .ok (.aload_n 3, 1) := dk_45 (dk_at dksX2_inspect_3 15 rfl rfl)
theorem dX2_inspect_85 : decode cX2_inspect 85 = .ok (.iconst 0, 1) := dk_3 (dk_at dksX2_inspect_3 16 rfl rfl)
theorem dX2_inspect_86 : decode cX2_inspect 86 = .ok (.aload_n 3, 1) := dk_45 (dk_at dksX2_inspect_3 17 rfl rfl)
theorem dX2_inspect_87 : decode cX2_inspect 87 = .ok (.getfield 237, 3) := dk_180 0 237 (dk_at dksX2_inspect_3 18 rfl rfl)
theorem dX2_inspect_90 : decode cX2_inspect 90 = .ok (.bipush 10, 2) := dk_16 10 (dk_at dksX2_inspect_3 21 rfl rfl)
theorem dX2_inspect_92 : decode cX2_inspect 92 = .ok (.isub, 1) := dk_100 (dk_at dksX2_inspect_3 23 rfl rfl)
theorem dX2_inspect_93 : decode cX2_inspect 93 = .ok (.invokestatic 171, 3) := dk_184 0 171 (dk_at dksX2_inspect_4 0 rfl rfl)
theorem dX2_inspect_96 : decode cX2_inspect 96 = .ok (.putfield 237, 3) := dk_181 0 237 (dk_at dksX2_inspect_4 3 rfl rfl)
theorem dX2_inspect_99 : decode cX2_inspect 99 = .ok (.aload_n 2, 1) := dk_44 (dk_at dksX2_inspect_4 6 rfl rfl)
theorem dX2_inspect_100 : decode cX2_inspect 100 = .ok (.aload_n 2, 1) := dk_44 (dk_at dksX2_inspect_4 7 rfl rfl)
theorem dX2_inspect_101 : decode cX2_inspect 101 = .ok (.getfield 165, 3) := dk_180 0 165 (dk_at dksX2_inspect_4 8 rfl rfl)
theorem dX2_inspect_104 : decode cX2_inspect 104 = .ok (.putfield 227, 3) := dk_181 0 227 (dk_at dksX2_inspect_4 11 rfl rfl)
theorem dX2_inspect_107 : decode cX2_inspect 107 = .ok (.goto 18, 3) := dk_167 0 18 (dk_at dksX2_inspect_4 14 rfl rfl)
theorem dX2_inspect_110 : decode cX2_inspect 110 = .ok (.aload_n 3, 1) := dk_45 (dk_at dksX2_inspect_4 17 rfl rfl)
theorem dX2_inspect_111 : decode cX2_inspect 111 = .ok (.bipush 100, 2) := dk_16 100 (dk_at dksX2_inspect_4 18 rfl rfl)
theorem dX2_inspect_113 : decode cX2_inspect 113 = .ok (.aload_n 3, 1) := dk_45 (dk_at dksX2_inspect_4 20 rfl rfl)
theorem dX2_inspect_114 : decode cX2_inspect 114 = .ok (.getfield 237, 3) := dk_180 0 237 (dk_at dksX2_inspect_4 21 rfl rfl)
theorem dX2_inspect_117 : decode cX2_inspect 117 = .ok (.iconst 2, 1) := dk_5 (dk_at dksX2_inspect_5 0 rfl rfl)
theorem dX2_inspect_118 : decode cX2_inspect 118 = .ok (.iadd, 1) := dk_96 (dk_at dksX2_inspect_5 1 rfl rfl)
theorem dX2_inspect_119 : decode cX2_inspect 119 = .ok (.invokestatic 240, 3) := dk_184 0 240 (dk_at dksX2_inspect_5 2 rfl rfl)
theorem dX2_inspect_122 : decode cX2_inspect 122 = .ok (.putfield 237, 3) := dk_181 0 237 (dk_at dksX2_inspect_5 5 rfl rfl)
theorem dX2_inspect_125 : decode cX2_inspect 125 = .ok (.aload_n 3, 1) := dk_45 (dk_at dksX2_inspect_5 8 rfl rfl)
theorem dX2_inspect_126 : decode cX2_inspect 126 = .ok (.getfield 237, 3) := dk_180 0 237 (dk_at dksX2_inspect_5 9 rfl rfl)
theorem dX2_inspect_129 : decode cX2_inspect 129 = .ok (.ireturn, 1) := dk_172 (dk_at dksX2_inspect_5 12 rfl rfl)
abbrev cX2_buyer : ByteArray := prog_13_method_25_code
def yX2_buyer : MethodName := ⟨RX2, "buyer", "(I)I"⟩
def dkwX2_buyer_3 : List UInt8 := [4, 100, 172]
abbrev dktX2_buyer_3 : List UInt8 := dkwX2_buyer_3 ++ []
def dkwX2_buyer_2 : List UInt8 := [172, 42, 180, 0, 39, 187, 0, 197, 89, 27, 183, 0, 243, 182, 0, 75, 87, 42, 180, 0, 39, 182, 0, 58]
abbrev dktX2_buyer_2 : List UInt8 := dkwX2_buyer_2 ++ dktX2_buyer_3
def dkwX2_buyer_1 : List UInt8 := [42, 180, 0, 39, 182, 0, 58, 7, 160, 0, 7, 4, 167, 0, 4, 3, 5, 182, 0, 54, 153, 0, 5, 3]
abbrev dktX2_buyer_1 : List UInt8 := dkwX2_buyer_1 ++ dktX2_buyer_2
def dkwX2_buyer_0 : List UInt8 := [42, 27, 3, 16, 9, 184, 0, 62, 154, 0, 7, 4, 167, 0, 4, 3, 4, 182, 0, 69, 154, 0, 27, 42]
abbrev dktX2_buyer_0 : List UInt8 := dkwX2_buyer_0 ++ dktX2_buyer_1
theorem dksX2_buyer_0 : cX2_buyer.data.toList.drop 0 = dktX2_buyer_0 := by decide +kernel
theorem dksX2_buyer_1 : cX2_buyer.data.toList.drop 24 = dktX2_buyer_1 := dk_seg dksX2_buyer_0 24 rfl rfl
theorem dksX2_buyer_2 : cX2_buyer.data.toList.drop 48 = dktX2_buyer_2 := dk_seg dksX2_buyer_1 24 rfl rfl
theorem dksX2_buyer_3 : cX2_buyer.data.toList.drop 72 = dktX2_buyer_3 := dk_seg dksX2_buyer_2 24 rfl rfl
theorem dX2_buyer_0 : decode cX2_buyer 0 = .ok (.aload_n 0, 1) := dk_42 (dk_at dksX2_buyer_0 0 rfl rfl)
theorem dX2_buyer_1 : decode cX2_buyer 1 = .ok (.iload_n 1, 1) := dk_27 (dk_at dksX2_buyer_0 1 rfl rfl)
theorem dX2_buyer_2 : decode cX2_buyer 2 = .ok (.iconst 0, 1) := dk_3 (dk_at dksX2_buyer_0 2 rfl rfl)
theorem dX2_buyer_3 : decode cX2_buyer 3 = .ok (.bipush 9, 2) := dk_16 9 (dk_at dksX2_buyer_0 3 rfl rfl)
theorem dX2_buyer_5 : decode cX2_buyer 5 = .ok (.invokestatic 62, 3) := dk_184 0 62 (dk_at dksX2_buyer_0 5 rfl rfl)
theorem dX2_buyer_8 : decode cX2_buyer 8 = .ok (.ifCond .ne 7, 3) := dk_154 0 7 (dk_at dksX2_buyer_0 8 rfl rfl)
theorem dX2_buyer_11 : decode cX2_buyer 11 = .ok (.iconst 1, 1) := dk_4 (dk_at dksX2_buyer_0 11 rfl rfl)
theorem dX2_buyer_12 : decode cX2_buyer 12 = .ok (.goto 4, 3) := dk_167 0 4 (dk_at dksX2_buyer_0 12 rfl rfl)
theorem dX2_buyer_15 : decode cX2_buyer 15 = .ok (.iconst 0, 1) := dk_3 (dk_at dksX2_buyer_0 15 rfl rfl)
theorem dX2_buyer_16 : decode cX2_buyer 16 = .ok (.iconst 1, 1) := dk_4 (dk_at dksX2_buyer_0 16 rfl rfl)
theorem dX2_buyer_17 : decode cX2_buyer 17 = .ok (.invokevirtual 69, 3) := dk_182 0 69 (dk_at dksX2_buyer_0 17 rfl rfl)
theorem dX2_buyer_20 : decode cX2_buyer 20 = .ok (.ifCond .ne 27, 3) := dk_154 0 27 (dk_at dksX2_buyer_0 20 rfl rfl)
theorem dX2_buyer_23 : decode cX2_buyer 23 = .ok (.aload_n 0, 1) := dk_42 (dk_at dksX2_buyer_0 23 rfl rfl)
theorem dX2_buyer_24 : decode cX2_buyer 24 = .ok (.aload_n 0, 1) := dk_42 (dk_at dksX2_buyer_1 0 rfl rfl)
theorem dX2_buyer_25 : decode cX2_buyer 25 = .ok (.getfield 39, 3) := dk_180 0 39 (dk_at dksX2_buyer_1 1 rfl rfl)
theorem dX2_buyer_28 : decode cX2_buyer 28 = .ok (.invokevirtual 58, 3) := dk_182 0 58 (dk_at dksX2_buyer_1 4 rfl rfl)
theorem dX2_buyer_31 : decode cX2_buyer 31 = .ok (.iconst 4, 1) := dk_7 (dk_at dksX2_buyer_1 7 rfl rfl)
theorem dX2_buyer_32 : decode cX2_buyer 32 = .ok (.if_icmp .ne 7, 3) := dk_160 0 7 (dk_at dksX2_buyer_1 8 rfl rfl)
theorem dX2_buyer_35 : decode cX2_buyer 35 = .ok (.iconst 1, 1) := dk_4 (dk_at dksX2_buyer_1 11 rfl rfl)
theorem dX2_buyer_36 : decode cX2_buyer 36 = .ok (.goto 4, 3) := dk_167 0 4 (dk_at dksX2_buyer_1 12 rfl rfl)
theorem dX2_buyer_39 : decode cX2_buyer 39 = .ok (.iconst 0, 1) := dk_3 (dk_at dksX2_buyer_1 15 rfl rfl)
theorem dX2_buyer_40 : decode cX2_buyer 40 = .ok (.iconst 2, 1) := dk_5 (dk_at dksX2_buyer_1 16 rfl rfl)
theorem dX2_buyer_41 : decode cX2_buyer 41 = .ok (.invokevirtual 54, 3) := dk_182 0 54 (dk_at dksX2_buyer_1 17 rfl rfl)
theorem dX2_buyer_44 : decode cX2_buyer 44 = .ok (.ifCond .eq 5, 3) := dk_153 0 5 (dk_at dksX2_buyer_1 20 rfl rfl)
theorem dX2_buyer_47 : decode cX2_buyer 47 = .ok (.iconst 0, 1) := dk_3 (dk_at dksX2_buyer_1 23 rfl rfl)
theorem dX2_buyer_48 : decode cX2_buyer 48 = .ok (.ireturn, 1) := dk_172 (dk_at dksX2_buyer_2 0 rfl rfl)
theorem dX2_buyer_49 : decode cX2_buyer 49 = .ok (.aload_n 0, 1) := dk_42 (dk_at dksX2_buyer_2 1 rfl rfl)
theorem dX2_buyer_50 : decode cX2_buyer 50 = .ok (.getfield 39, 3) := dk_180 0 39 (dk_at dksX2_buyer_2 2 rfl rfl)
theorem dX2_buyer_53 : decode cX2_buyer 53 = .ok (.new 197, 3) := dk_187 0 197 (dk_at dksX2_buyer_2 5 rfl rfl)
theorem dX2_buyer_56 : decode cX2_buyer 56 = .ok (.dup, 1) := dk_89 (dk_at dksX2_buyer_2 8 rfl rfl)
theorem dX2_buyer_57 : decode cX2_buyer 57 = .ok (.iload_n 1, 1) := dk_27 (dk_at dksX2_buyer_2 9 rfl rfl)
theorem dX2_buyer_58 : decode cX2_buyer 58 = .ok (.invokespecial 243, 3) := dk_183 0 243 (dk_at dksX2_buyer_2 10 rfl rfl)
theorem dX2_buyer_61 : decode cX2_buyer 61 = .ok (.invokevirtual 75, 3) := dk_182 0 75 (dk_at dksX2_buyer_2 13 rfl rfl)
theorem dX2_buyer_64 : decode cX2_buyer 64 = .ok (.pop, 1) := dk_87 (dk_at dksX2_buyer_2 16 rfl rfl)
theorem dX2_buyer_65 : decode cX2_buyer 65 = .ok (.aload_n 0, 1) := dk_42 (dk_at dksX2_buyer_2 17 rfl rfl)
theorem dX2_buyer_66 : decode cX2_buyer 66 = .ok (.getfield 39, 3) := dk_180 0 39 (dk_at dksX2_buyer_2 18 rfl rfl)
theorem dX2_buyer_69 : decode cX2_buyer 69 = .ok (.invokevirtual 58, 3) := dk_182 0 58 (dk_at dksX2_buyer_2 21 rfl rfl)
theorem dX2_buyer_72 : decode cX2_buyer 72 = .ok (.iconst 1, 1) := dk_4 (dk_at dksX2_buyer_3 0 rfl rfl)
theorem dX2_buyer_73 : decode cX2_buyer 73 = .ok (.isub, 1) := dk_100 (dk_at dksX2_buyer_3 1 rfl rfl)
theorem dX2_buyer_74 : decode cX2_buyer 74 = .ok (.ireturn, 1) := dk_172 (dk_at dksX2_buyer_3 2 rfl rfl)
abbrev cX2_even : ByteArray := prog_13_method_26_code
def yX2_even : MethodName := ⟨RX2, "even", "(II)I"⟩
def dkwX2_even_2 : List UInt8 := [192, 0, 197, 180, 0, 248, 62, 42, 180, 0, 39, 27, 182, 0, 83, 192, 0, 197, 28, 181, 0, 248, 29, 172]
abbrev dktX2_even_2 : List UInt8 := dkwX2_even_2 ++ []
def dkwX2_even_1 : List UInt8 := [4, 167, 0, 4, 3, 5, 182, 0, 54, 153, 0, 5, 3, 172, 42, 180, 0, 39, 27, 182, 0, 83]
abbrev dktX2_even_1 : List UInt8 := dkwX2_even_1 ++ dktX2_even_2
def dkwX2_even_0 : List UInt8 := [42, 42, 27, 182, 0, 245, 4, 182, 0, 69, 154, 0, 26, 42, 28, 3, 16, 9, 184, 0, 62, 154, 0, 7]
abbrev dktX2_even_0 : List UInt8 := dkwX2_even_0 ++ dktX2_even_1
theorem dksX2_even_0 : cX2_even.data.toList.drop 0 = dktX2_even_0 := by decide +kernel
theorem dksX2_even_1 : cX2_even.data.toList.drop 24 = dktX2_even_1 := dk_seg dksX2_even_0 24 rfl rfl
theorem dksX2_even_2 : cX2_even.data.toList.drop 46 = dktX2_even_2 := dk_seg dksX2_even_1 22 rfl rfl
theorem dX2_even_0 : decode cX2_even 0 = .ok (.aload_n 0, 1) := dk_42 (dk_at dksX2_even_0 0 rfl rfl)
theorem dX2_even_1 : decode cX2_even 1 = .ok (.aload_n 0, 1) := dk_42 (dk_at dksX2_even_0 1 rfl rfl)
theorem dX2_even_2 : decode cX2_even 2 = .ok (.iload_n 1, 1) := dk_27 (dk_at dksX2_even_0 2 rfl rfl)
theorem dX2_even_3 : decode cX2_even 3 = .ok (.invokevirtual 245, 3) := dk_182 0 245 (dk_at dksX2_even_0 3 rfl rfl)
theorem dX2_even_6 : decode cX2_even 6 = .ok (.iconst 1, 1) := dk_4 (dk_at dksX2_even_0 6 rfl rfl)
theorem dX2_even_7 : decode cX2_even 7 = .ok (.invokevirtual 69, 3) := dk_182 0 69 (dk_at dksX2_even_0 7 rfl rfl)
theorem dX2_even_10 : decode cX2_even 10 = .ok (.ifCond .ne 26, 3) := dk_154 0 26 (dk_at dksX2_even_0 10 rfl rfl)
theorem dX2_even_13 : decode cX2_even 13 = .ok (.aload_n 0, 1) := dk_42 (dk_at dksX2_even_0 13 rfl rfl)
theorem dX2_even_14 : decode cX2_even 14 = .ok (.iload_n 2, 1) := dk_28 (dk_at dksX2_even_0 14 rfl rfl)
theorem dX2_even_15 : decode cX2_even 15 = .ok (.iconst 0, 1) := dk_3 (dk_at dksX2_even_0 15 rfl rfl)
theorem dX2_even_16 : decode cX2_even 16 = .ok (.bipush 9, 2) := dk_16 9 (dk_at dksX2_even_0 16 rfl rfl)
theorem dX2_even_18 : decode cX2_even 18 = .ok (.invokestatic 62, 3) := dk_184 0 62 (dk_at dksX2_even_0 18 rfl rfl)
theorem dX2_even_21 : decode cX2_even 21 = .ok (.ifCond .ne 7, 3) := dk_154 0 7 (dk_at dksX2_even_0 21 rfl rfl)
theorem dX2_even_24 : decode cX2_even 24 = .ok (.iconst 1, 1) := dk_4 (dk_at dksX2_even_1 0 rfl rfl)
theorem dX2_even_25 : decode cX2_even 25 = .ok (.goto 4, 3) := dk_167 0 4 (dk_at dksX2_even_1 1 rfl rfl)
theorem dX2_even_28 : decode cX2_even 28 = .ok (.iconst 0, 1) := dk_3 (dk_at dksX2_even_1 4 rfl rfl)
theorem dX2_even_29 : decode cX2_even 29 = .ok (.iconst 2, 1) := dk_5 (dk_at dksX2_even_1 5 rfl rfl)
theorem dX2_even_30 : decode cX2_even 30 = .ok (.invokevirtual 54, 3) := dk_182 0 54 (dk_at dksX2_even_1 6 rfl rfl)
theorem dX2_even_33 : decode cX2_even 33 = .ok (.ifCond .eq 5, 3) := dk_153 0 5 (dk_at dksX2_even_1 9 rfl rfl)
theorem dX2_even_36 : decode cX2_even 36 = .ok (.iconst 0, 1) := dk_3 (dk_at dksX2_even_1 12 rfl rfl)
theorem dX2_even_37 : decode cX2_even 37 = .ok (.ireturn, 1) := dk_172 (dk_at dksX2_even_1 13 rfl rfl)
theorem dX2_even_38 : decode cX2_even 38 = .ok (.aload_n 0, 1) := dk_42 (dk_at dksX2_even_1 14 rfl rfl)
theorem dX2_even_39 : decode cX2_even 39 = .ok (.getfield 39, 3) := dk_180 0 39 (dk_at dksX2_even_1 15 rfl rfl)
theorem dX2_even_42 : decode cX2_even 42 = .ok (.iload_n 1, 1) := dk_27 (dk_at dksX2_even_1 18 rfl rfl)
theorem dX2_even_43 : decode cX2_even 43 = .ok (.invokevirtual 83, 3) := dk_182 0 83 (dk_at dksX2_even_1 19 rfl rfl)
theorem dX2_even_46 : decode cX2_even 46 = .ok (.checkcast 197, 3) := dk_192 0 197 (dk_at dksX2_even_2 0 rfl rfl)
theorem dX2_even_49 : decode cX2_even 49 = .ok (.getfield 248, 3) := dk_180 0 248 (dk_at dksX2_even_2 3 rfl rfl)
theorem dX2_even_52 : decode cX2_even 52 = .ok (.istore_n 3, 1) := dk_62 (dk_at dksX2_even_2 6 rfl rfl)
theorem dX2_even_53 : decode cX2_even 53 = .ok (.aload_n 0, 1) := dk_42 (dk_at dksX2_even_2 7 rfl rfl)
theorem dX2_even_54 : decode cX2_even 54 = .ok (.getfield 39, 3) := dk_180 0 39 (dk_at dksX2_even_2 8 rfl rfl)
theorem dX2_even_57 : decode cX2_even 57 = .ok (.iload_n 1, 1) := dk_27 (dk_at dksX2_even_2 11 rfl rfl)
theorem dX2_even_58 : decode cX2_even 58 = .ok (.invokevirtual 83, 3) := dk_182 0 83 (dk_at dksX2_even_2 12 rfl rfl)
theorem dX2_even_61 : decode cX2_even 61 = .ok (.checkcast 197, 3) := dk_192 0 197 (dk_at dksX2_even_2 15 rfl rfl)
theorem dX2_even_64 : decode cX2_even 64 = .ok (.iload_n 2, 1) := dk_28 (dk_at dksX2_even_2 18 rfl rfl)
theorem dX2_even_65 : decode cX2_even 65 = .ok (.putfield 248, 3) := dk_181 0 248 (dk_at dksX2_even_2 19 rfl rfl)
theorem dX2_even_68 : decode cX2_even 68 = .ok (.iload_n 3, 1) := dk_29 (dk_at dksX2_even_2 22 rfl rfl)
theorem dX2_even_69 : decode cX2_even 69 = .ok (.ireturn, 1) := dk_172 (dk_at dksX2_even_2 23 rfl rfl)
abbrev cX2_isNoBuyer : ByteArray := prog_13_method_10_code
def yX2_isNoBuyer : MethodName := ⟨RX2, "isNoBuyer", "(I)Z"⟩
def dkwX2_isNoBuyer_0 : List UInt8 := [27, 3, 42, 180, 0, 39, 182, 0, 58, 4, 100, 184, 0, 62, 154, 0, 7, 4, 167, 0, 4, 3, 172]
abbrev dktX2_isNoBuyer_0 : List UInt8 := dkwX2_isNoBuyer_0 ++ []
theorem dksX2_isNoBuyer_0 : cX2_isNoBuyer.data.toList.drop 0 = dktX2_isNoBuyer_0 := by decide +kernel
theorem dX2_isNoBuyer_0 : decode cX2_isNoBuyer 0 = .ok (.iload_n 1, 1) := dk_27 (dk_at dksX2_isNoBuyer_0 0 rfl rfl)
theorem dX2_isNoBuyer_1 : decode cX2_isNoBuyer 1 = .ok (.iconst 0, 1) := dk_3 (dk_at dksX2_isNoBuyer_0 1 rfl rfl)
theorem dX2_isNoBuyer_2 : decode cX2_isNoBuyer 2 = .ok (.aload_n 0, 1) := dk_42 (dk_at dksX2_isNoBuyer_0 2 rfl rfl)
theorem dX2_isNoBuyer_3 : decode cX2_isNoBuyer 3 = .ok (.getfield 39, 3) := dk_180 0 39 (dk_at dksX2_isNoBuyer_0 3 rfl rfl)
theorem dX2_isNoBuyer_6 : decode cX2_isNoBuyer 6 = .ok (.invokevirtual 58, 3) := dk_182 0 58 (dk_at dksX2_isNoBuyer_0 6 rfl rfl)
theorem dX2_isNoBuyer_9 : decode cX2_isNoBuyer 9 = .ok (.iconst 1, 1) := dk_4 (dk_at dksX2_isNoBuyer_0 9 rfl rfl)
theorem dX2_isNoBuyer_10 : decode cX2_isNoBuyer 10 = .ok (.isub, 1) := dk_100 (dk_at dksX2_isNoBuyer_0 10 rfl rfl)
theorem dX2_isNoBuyer_11 : decode cX2_isNoBuyer 11 = .ok (.invokestatic 62, 3) := dk_184 0 62 (dk_at dksX2_isNoBuyer_0 11 rfl rfl)
theorem dX2_isNoBuyer_14 : decode cX2_isNoBuyer 14 = .ok (.ifCond .ne 7, 3) := dk_154 0 7 (dk_at dksX2_isNoBuyer_0 14 rfl rfl)
theorem dX2_isNoBuyer_17 : decode cX2_isNoBuyer 17 = .ok (.iconst 1, 1) := dk_4 (dk_at dksX2_isNoBuyer_0 17 rfl rfl)
theorem dX2_isNoBuyer_18 : decode cX2_isNoBuyer 18 = .ok (.goto 4, 3) := dk_167 0 4 (dk_at dksX2_isNoBuyer_0 18 rfl rfl)
theorem dX2_isNoBuyer_21 : decode cX2_isNoBuyer 21 = .ok (.iconst 0, 1) := dk_3 (dk_at dksX2_isNoBuyer_0 21 rfl rfl)
theorem dX2_isNoBuyer_22 : decode cX2_isNoBuyer 22 = .ok (.ireturn, 1) := dk_172 (dk_at dksX2_isNoBuyer_0 22 rfl rfl)
abbrev cX2_leave : ByteArray := prog_13_method_27_code
def yX2_leave : MethodName := ⟨RX2, "leave", "(II)I"⟩
def dkwX2_leave_3 : List UInt8 := [181, 0, 199, 29, 172]
abbrev dktX2_leave_3 : List UInt8 := dkwX2_leave_3 ++ []
def dkwX2_leave_2 : List UInt8 := [182, 0, 83, 192, 0, 197, 180, 0, 199, 62, 42, 180, 0, 39, 27, 182, 0, 83, 192, 0, 197, 28]
abbrev dktX2_leave_2 : List UInt8 := dkwX2_leave_2 ++ dktX2_leave_3
def dkwX2_leave_1 : List UInt8 := [154, 0, 7, 4, 167, 0, 4, 3, 5, 182, 0, 54, 153, 0, 5, 3, 172, 42, 180, 0, 39, 27]
abbrev dktX2_leave_1 : List UInt8 := dkwX2_leave_1 ++ dktX2_leave_2
def dkwX2_leave_0 : List UInt8 := [42, 42, 27, 182, 0, 245, 4, 182, 0, 69, 154, 0, 27, 42, 28, 2, 17, 39, 15, 184, 0, 62]
abbrev dktX2_leave_0 : List UInt8 := dkwX2_leave_0 ++ dktX2_leave_1
theorem dksX2_leave_0 : cX2_leave.data.toList.drop 0 = dktX2_leave_0 := by decide +kernel
theorem dksX2_leave_1 : cX2_leave.data.toList.drop 22 = dktX2_leave_1 := dk_seg dksX2_leave_0 22 rfl rfl
theorem dksX2_leave_2 : cX2_leave.data.toList.drop 44 = dktX2_leave_2 := dk_seg dksX2_leave_1 22 rfl rfl
theorem dksX2_leave_3 : cX2_leave.data.toList.drop 66 = dktX2_leave_3 := dk_seg dksX2_leave_2 22 rfl rfl
theorem dX2_leave_0 : decode cX2_leave 0 = .ok (.aload_n 0, 1) := dk_42 (dk_at dksX2_leave_0 0 rfl rfl)
theorem dX2_leave_1 : decode cX2_leave 1 = .ok (.aload_n 0, 1) := dk_42 (dk_at dksX2_leave_0 1 rfl rfl)
theorem dX2_leave_2 : decode cX2_leave 2 = .ok (.iload_n 1, 1) := dk_27 (dk_at dksX2_leave_0 2 rfl rfl)
theorem dX2_leave_3 : decode cX2_leave 3 = .ok (.invokevirtual 245, 3) := dk_182 0 245 (dk_at dksX2_leave_0 3 rfl rfl)
theorem dX2_leave_6 : decode cX2_leave 6 = .ok (.iconst 1, 1) := dk_4 (dk_at dksX2_leave_0 6 rfl rfl)
theorem dX2_leave_7 : decode cX2_leave 7 = .ok (.invokevirtual 69, 3) := dk_182 0 69 (dk_at dksX2_leave_0 7 rfl rfl)
theorem dX2_leave_10 : decode cX2_leave 10 = .ok (.ifCond .ne 27, 3) := dk_154 0 27 (dk_at dksX2_leave_0 10 rfl rfl)
theorem dX2_leave_13 : decode cX2_leave 13 = .ok (.aload_n 0, 1) := dk_42 (dk_at dksX2_leave_0 13 rfl rfl)
theorem dX2_leave_14 : decode cX2_leave 14 = .ok (.iload_n 2, 1) := dk_28 (dk_at dksX2_leave_0 14 rfl rfl)
theorem dX2_leave_15 : decode cX2_leave 15 = .ok (.iconst (-1), 1) := dk_2 (dk_at dksX2_leave_0 15 rfl rfl)
theorem dX2_leave_16 : decode cX2_leave 16 = .ok (.sipush 9999, 3) := dk_17 39 15 (dk_at dksX2_leave_0 16 rfl rfl)
theorem dX2_leave_19 : decode cX2_leave 19 = .ok (.invokestatic 62, 3) := dk_184 0 62 (dk_at dksX2_leave_0 19 rfl rfl)
theorem dX2_leave_22 : decode cX2_leave 22 = .ok (.ifCond .ne 7, 3) := dk_154 0 7 (dk_at dksX2_leave_1 0 rfl rfl)
theorem dX2_leave_25 : decode cX2_leave 25 = .ok (.iconst 1, 1) := dk_4 (dk_at dksX2_leave_1 3 rfl rfl)
theorem dX2_leave_26 : decode cX2_leave 26 = .ok (.goto 4, 3) := dk_167 0 4 (dk_at dksX2_leave_1 4 rfl rfl)
theorem dX2_leave_29 : decode cX2_leave 29 = .ok (.iconst 0, 1) := dk_3 (dk_at dksX2_leave_1 7 rfl rfl)
theorem dX2_leave_30 : decode cX2_leave 30 = .ok (.iconst 2, 1) := dk_5 (dk_at dksX2_leave_1 8 rfl rfl)
theorem dX2_leave_31 : decode cX2_leave 31 = .ok (.invokevirtual 54, 3) := dk_182 0 54 (dk_at dksX2_leave_1 9 rfl rfl)
theorem dX2_leave_34 : decode cX2_leave 34 = .ok (.ifCond .eq 5, 3) := dk_153 0 5 (dk_at dksX2_leave_1 12 rfl rfl)
theorem dX2_leave_37 : decode cX2_leave 37 = .ok (.iconst 0, 1) := dk_3 (dk_at dksX2_leave_1 15 rfl rfl)
theorem dX2_leave_38 : decode cX2_leave 38 = .ok (.ireturn, 1) := dk_172 (dk_at dksX2_leave_1 16 rfl rfl)
theorem dX2_leave_39 : decode cX2_leave 39 = .ok (.aload_n 0, 1) := dk_42 (dk_at dksX2_leave_1 17 rfl rfl)
theorem dX2_leave_40 : decode cX2_leave 40 = .ok (.getfield 39, 3) := dk_180 0 39 (dk_at dksX2_leave_1 18 rfl rfl)
theorem dX2_leave_43 : decode cX2_leave 43 = .ok (.iload_n 1, 1) := dk_27 (dk_at dksX2_leave_1 21 rfl rfl)
theorem dX2_leave_44 : decode cX2_leave 44 = .ok (.invokevirtual 83, 3) := dk_182 0 83 (dk_at dksX2_leave_2 0 rfl rfl)
theorem dX2_leave_47 : decode cX2_leave 47 = .ok (.checkcast 197, 3) := dk_192 0 197 (dk_at dksX2_leave_2 3 rfl rfl)
theorem dX2_leave_50 : decode cX2_leave 50 = .ok (.getfield 199, 3) := dk_180 0 199 (dk_at dksX2_leave_2 6 rfl rfl)
theorem dX2_leave_53 : decode cX2_leave 53 = .ok (.istore_n 3, 1) := dk_62 (dk_at dksX2_leave_2 9 rfl rfl)
theorem dX2_leave_54 : decode cX2_leave 54 = .ok (.aload_n 0, 1) := dk_42 (dk_at dksX2_leave_2 10 rfl rfl)
theorem dX2_leave_55 : decode cX2_leave 55 = .ok (.getfield 39, 3) := dk_180 0 39 (dk_at dksX2_leave_2 11 rfl rfl)
theorem dX2_leave_58 : decode cX2_leave 58 = .ok (.iload_n 1, 1) := dk_27 (dk_at dksX2_leave_2 14 rfl rfl)
theorem dX2_leave_59 : decode cX2_leave 59 = .ok (.invokevirtual 83, 3) := dk_182 0 83 (dk_at dksX2_leave_2 15 rfl rfl)
theorem dX2_leave_62 : decode cX2_leave 62 = .ok (.checkcast 197, 3) := dk_192 0 197 (dk_at dksX2_leave_2 18 rfl rfl)
theorem dX2_leave_65 : decode cX2_leave 65 = .ok (.iload_n 2, 1) := dk_28 (dk_at dksX2_leave_2 21 rfl rfl)
theorem dX2_leave_66 : decode cX2_leave 66 = .ok (.putfield 199, 3) := dk_181 0 199 (dk_at dksX2_leave_3 0 rfl rfl)
theorem dX2_leave_69 : decode cX2_leave 69 = .ok (.iload_n 3, 1) := dk_29 (dk_at dksX2_leave_3 3 rfl rfl)
theorem dX2_leave_70 : decode cX2_leave 70 = .ok (.ireturn, 1) := dk_172 (dk_at dksX2_leave_3 4 rfl rfl)
abbrev cX2_order : ByteArray := prog_13_method_28_code
def yX2_order : MethodName := ⟨RX2, "order", "(IIIIIII)I"⟩
def dkwX2_order_6 : List UInt8 := [87, 42, 180, 0, 42, 182, 0, 58, 4, 100, 172]
abbrev dktX2_order_6 : List UInt8 := dkwX2_order_6 ++ []
def dkwX2_order_5 : List UInt8 := [180, 0, 42, 187, 0, 251, 89, 27, 28, 29, 21, 4, 21, 5, 21, 6, 21, 7, 183, 0, 253, 182, 0, 75]
abbrev dktX2_order_5 : List UInt8 := dkwX2_order_5 ++ dktX2_order_6
def dkwX2_order_4 : List UInt8 := [182, 0, 58, 16, 12, 160, 0, 7, 4, 167, 0, 4, 3, 6, 182, 0, 54, 153, 0, 5, 3, 172, 42]
abbrev dktX2_order_4 : List UInt8 := dkwX2_order_4 ++ dktX2_order_5
def dkwX2_order_3 : List UInt8 := [184, 0, 62, 154, 0, 7, 4, 167, 0, 4, 3, 5, 182, 0, 54, 154, 0, 28, 42, 42, 180, 0, 42]
abbrev dktX2_order_3 : List UInt8 := dkwX2_order_3 ++ dktX2_order_4
def dkwX2_order_2 : List UInt8 := [184, 0, 62, 153, 0, 26, 21, 6, 4, 16, 99, 184, 0, 62, 153, 0, 15, 21, 7, 4, 17, 1, 244]
abbrev dktX2_order_2 : List UInt8 := dkwX2_order_2 ++ dktX2_order_3
def dkwX2_order_1 : List UInt8 := [184, 0, 62, 153, 0, 48, 21, 4, 3, 16, 110, 184, 0, 62, 153, 0, 37, 21, 5, 3, 16, 100]
abbrev dktX2_order_1 : List UInt8 := dkwX2_order_1 ++ dktX2_order_2
def dkwX2_order_0 : List UInt8 := [42, 42, 27, 182, 0, 245, 4, 182, 0, 69, 154, 0, 102, 42, 28, 184, 0, 90, 154, 0, 57, 29, 3, 5]
abbrev dktX2_order_0 : List UInt8 := dkwX2_order_0 ++ dktX2_order_1
theorem dksX2_order_0 : cX2_order.data.toList.drop 0 = dktX2_order_0 := by decide +kernel
theorem dksX2_order_1 : cX2_order.data.toList.drop 24 = dktX2_order_1 := dk_seg dksX2_order_0 24 rfl rfl
theorem dksX2_order_2 : cX2_order.data.toList.drop 46 = dktX2_order_2 := dk_seg dksX2_order_1 22 rfl rfl
theorem dksX2_order_3 : cX2_order.data.toList.drop 69 = dktX2_order_3 := dk_seg dksX2_order_2 23 rfl rfl
theorem dksX2_order_4 : cX2_order.data.toList.drop 92 = dktX2_order_4 := dk_seg dksX2_order_3 23 rfl rfl
theorem dksX2_order_5 : cX2_order.data.toList.drop 115 = dktX2_order_5 := dk_seg dksX2_order_4 23 rfl rfl
theorem dksX2_order_6 : cX2_order.data.toList.drop 139 = dktX2_order_6 := dk_seg dksX2_order_5 24 rfl rfl
theorem dX2_order_0 : decode cX2_order 0 = .ok (.aload_n 0, 1) := dk_42 (dk_at dksX2_order_0 0 rfl rfl)
theorem dX2_order_1 : decode cX2_order 1 = .ok (.aload_n 0, 1) := dk_42 (dk_at dksX2_order_0 1 rfl rfl)
theorem dX2_order_2 : decode cX2_order 2 = .ok (.iload_n 1, 1) := dk_27 (dk_at dksX2_order_0 2 rfl rfl)
theorem dX2_order_3 : decode cX2_order 3 = .ok (.invokevirtual 245, 3) := dk_182 0 245 (dk_at dksX2_order_0 3 rfl rfl)
theorem dX2_order_6 : decode cX2_order 6 = .ok (.iconst 1, 1) := dk_4 (dk_at dksX2_order_0 6 rfl rfl)
theorem dX2_order_7 : decode cX2_order 7 = .ok (.invokevirtual 69, 3) := dk_182 0 69 (dk_at dksX2_order_0 7 rfl rfl)
theorem dX2_order_10 : decode cX2_order 10 = .ok (.ifCond .ne 102, 3) := dk_154 0 102 (dk_at dksX2_order_0 10 rfl rfl)
theorem dX2_order_13 : decode cX2_order 13 = .ok (.aload_n 0, 1) := dk_42 (dk_at dksX2_order_0 13 rfl rfl)
theorem dX2_order_14 : decode cX2_order 14 = .ok (.iload_n 2, 1) := dk_28 (dk_at dksX2_order_0 14 rfl rfl)
theorem dX2_order_15 : decode cX2_order 15 = .ok (.invokestatic 90, 3) := dk_184 0 90 (dk_at dksX2_order_0 15 rfl rfl)
theorem dX2_order_18 : decode cX2_order 18 = .ok (.ifCond .ne 57, 3) := dk_154 0 57 (dk_at dksX2_order_0 18 rfl rfl)
theorem dX2_order_21 : decode cX2_order 21 = .ok (.iload_n 3, 1) := dk_29 (dk_at dksX2_order_0 21 rfl rfl)
theorem dX2_order_22 : decode cX2_order 22 = .ok (.iconst 0, 1) := dk_3 (dk_at dksX2_order_0 22 rfl rfl)
theorem dX2_order_23 : decode cX2_order 23 = .ok (.iconst 2, 1) := dk_5 (dk_at dksX2_order_0 23 rfl rfl)
theorem dX2_order_24 : decode cX2_order 24 = .ok (.invokestatic 62, 3) := dk_184 0 62 (dk_at dksX2_order_1 0 rfl rfl)
theorem dX2_order_27 : decode cX2_order 27 = .ok (.ifCond .eq 48, 3) := dk_153 0 48 (dk_at dksX2_order_1 3 rfl rfl)
theorem dX2_order_30 : decode cX2_order 30 = .ok (.iload 4, 2) := dk_21 4 (dk_at dksX2_order_1 6 rfl rfl)
theorem dX2_order_32 : decode cX2_order 32 = .ok (.iconst 0, 1) := dk_3 (dk_at dksX2_order_1 8 rfl rfl)
theorem dX2_order_33 : decode cX2_order 33 = .ok (.bipush 110, 2) := dk_16 110 (dk_at dksX2_order_1 9 rfl rfl)
theorem dX2_order_35 : decode cX2_order 35 = .ok (.invokestatic 62, 3) := dk_184 0 62 (dk_at dksX2_order_1 11 rfl rfl)
theorem dX2_order_38 : decode cX2_order 38 = .ok (.ifCond .eq 37, 3) := dk_153 0 37 (dk_at dksX2_order_1 14 rfl rfl)
theorem dX2_order_41 : decode cX2_order 41 = .ok (.iload 5, 2) := dk_21 5 (dk_at dksX2_order_1 17 rfl rfl)
theorem dX2_order_43 : decode cX2_order 43 = .ok (.iconst 0, 1) := dk_3 (dk_at dksX2_order_1 19 rfl rfl)
theorem dX2_order_44 : decode cX2_order 44 = .ok (.bipush 100, 2) := dk_16 100 (dk_at dksX2_order_1 20 rfl rfl)
theorem dX2_order_46 : decode cX2_order 46 = .ok (.invokestatic 62, 3) := dk_184 0 62 (dk_at dksX2_order_2 0 rfl rfl)
theorem dX2_order_49 : decode cX2_order 49 = .ok (.ifCond .eq 26, 3) := dk_153 0 26 (dk_at dksX2_order_2 3 rfl rfl)
theorem dX2_order_52 : decode cX2_order 52 = .ok (.iload 6, 2) := dk_21 6 (dk_at dksX2_order_2 6 rfl rfl)
theorem dX2_order_54 : decode cX2_order 54 = .ok (.iconst 1, 1) := dk_4 (dk_at dksX2_order_2 8 rfl rfl)
theorem dX2_order_55 : decode cX2_order 55 = .ok (.bipush 99, 2) := dk_16 99 (dk_at dksX2_order_2 9 rfl rfl)
theorem dX2_order_57 : decode cX2_order 57 = .ok (.invokestatic 62, 3) := dk_184 0 62 (dk_at dksX2_order_2 11 rfl rfl)
theorem dX2_order_60 : decode cX2_order 60 = .ok (.ifCond .eq 15, 3) := dk_153 0 15 (dk_at dksX2_order_2 14 rfl rfl)
theorem dX2_order_63 : decode cX2_order 63 = .ok (.iload 7, 2) := dk_21 7 (dk_at dksX2_order_2 17 rfl rfl)
theorem dX2_order_65 : decode cX2_order 65 = .ok (.iconst 1, 1) := dk_4 (dk_at dksX2_order_2 19 rfl rfl)
theorem dX2_order_66 : decode cX2_order 66 = .ok (.sipush 500, 3) := dk_17 1 244 (dk_at dksX2_order_2 20 rfl rfl)
theorem dX2_order_69 : decode cX2_order 69 = .ok (.invokestatic 62, 3) := dk_184 0 62 (dk_at dksX2_order_3 0 rfl rfl)
theorem dX2_order_72 : decode cX2_order 72 = .ok (.ifCond .ne 7, 3) := dk_154 0 7 (dk_at dksX2_order_3 3 rfl rfl)
theorem dX2_order_75 : decode cX2_order 75 = .ok (.iconst 1, 1) := dk_4 (dk_at dksX2_order_3 6 rfl rfl)
theorem dX2_order_76 : decode cX2_order 76 = .ok (.goto 4, 3) := dk_167 0 4 (dk_at dksX2_order_3 7 rfl rfl)
theorem dX2_order_79 : decode cX2_order 79 = .ok (.iconst 0, 1) := dk_3 (dk_at dksX2_order_3 10 rfl rfl)
theorem dX2_order_80 : decode cX2_order 80 = .ok (.iconst 2, 1) := dk_5 (dk_at dksX2_order_3 11 rfl rfl)
theorem dX2_order_81 : decode cX2_order 81 = .ok (.invokevirtual 54, 3) := dk_182 0 54 (dk_at dksX2_order_3 12 rfl rfl)
theorem dX2_order_84 : decode cX2_order 84 = .ok (.ifCond .ne 28, 3) := dk_154 0 28 (dk_at dksX2_order_3 15 rfl rfl)
theorem dX2_order_87 : decode cX2_order 87 = .ok (.aload_n 0, 1) := dk_42 (dk_at dksX2_order_3 18 rfl rfl)
theorem dX2_order_88 : decode cX2_order 88 = .ok (.aload_n 0, 1) := dk_42 (dk_at dksX2_order_3 19 rfl rfl)
theorem dX2_order_89 : decode cX2_order 89 = .ok (.getfield 42, 3) := dk_180 0 42 (dk_at dksX2_order_3 20 rfl rfl)
theorem dX2_order_92 : decode cX2_order 92 = .ok (.invokevirtual 58, 3) := dk_182 0 58 (dk_at dksX2_order_4 0 rfl rfl)
theorem dX2_order_95 : decode cX2_order 95 = .ok (.bipush 12, 2) := dk_16 12 (dk_at dksX2_order_4 3 rfl rfl)
theorem dX2_order_97 : decode cX2_order 97 = .ok (.if_icmp .ne 7, 3) := dk_160 0 7 (dk_at dksX2_order_4 5 rfl rfl)
theorem dX2_order_100 : decode cX2_order 100 = .ok (.iconst 1, 1) := dk_4 (dk_at dksX2_order_4 8 rfl rfl)
theorem dX2_order_101 : decode cX2_order 101 = .ok (.goto 4, 3) := dk_167 0 4 (dk_at dksX2_order_4 9 rfl rfl)
theorem dX2_order_104 : decode cX2_order 104 = .ok (.iconst 0, 1) := dk_3 (dk_at dksX2_order_4 12 rfl rfl)
theorem dX2_order_105 : decode cX2_order 105 = .ok (.iconst 3, 1) := dk_6 (dk_at dksX2_order_4 13 rfl rfl)
theorem dX2_order_106 : decode cX2_order 106 = .ok (.invokevirtual 54, 3) := dk_182 0 54 (dk_at dksX2_order_4 14 rfl rfl)
theorem dX2_order_109 : decode cX2_order 109 = .ok (.ifCond .eq 5, 3) := dk_153 0 5 (dk_at dksX2_order_4 17 rfl rfl)
theorem dX2_order_112 : decode cX2_order 112 = .ok (.iconst 0, 1) := dk_3 (dk_at dksX2_order_4 20 rfl rfl)
theorem dX2_order_113 : decode cX2_order 113 = .ok (.ireturn, 1) := dk_172 (dk_at dksX2_order_4 21 rfl rfl)
theorem dX2_order_114 : decode cX2_order 114 = .ok (.aload_n 0, 1) := dk_42 (dk_at dksX2_order_4 22 rfl rfl)
theorem dX2_order_115 : decode cX2_order 115 = .ok (.getfield 42, 3) := dk_180 0 42 (dk_at dksX2_order_5 0 rfl rfl)
theorem dX2_order_118 : decode cX2_order 118 = .ok (.new 251, 3) := dk_187 0 251 (dk_at dksX2_order_5 3 rfl rfl)
theorem dX2_order_121 : decode cX2_order 121 = .ok (.dup, 1) := dk_89 (dk_at dksX2_order_5 6 rfl rfl)
theorem dX2_order_122 : decode cX2_order 122 = .ok (.iload_n 1, 1) := dk_27 (dk_at dksX2_order_5 7 rfl rfl)
theorem dX2_order_123 : decode cX2_order 123 = .ok (.iload_n 2, 1) := dk_28 (dk_at dksX2_order_5 8 rfl rfl)
theorem dX2_order_124 : decode cX2_order 124 = .ok (.iload_n 3, 1) := dk_29 (dk_at dksX2_order_5 9 rfl rfl)
theorem dX2_order_125 : decode cX2_order 125 = .ok (.iload 4, 2) := dk_21 4 (dk_at dksX2_order_5 10 rfl rfl)
theorem dX2_order_127 : decode cX2_order 127 = .ok (.iload 5, 2) := dk_21 5 (dk_at dksX2_order_5 12 rfl rfl)
theorem dX2_order_129 : decode cX2_order 129 = .ok (.iload 6, 2) := dk_21 6 (dk_at dksX2_order_5 14 rfl rfl)
theorem dX2_order_131 : decode cX2_order 131 = .ok (.iload 7, 2) := dk_21 7 (dk_at dksX2_order_5 16 rfl rfl)
theorem dX2_order_133 : decode cX2_order 133 = .ok (.invokespecial 253, 3) := dk_183 0 253 (dk_at dksX2_order_5 18 rfl rfl)
theorem dX2_order_136 : decode cX2_order 136 = .ok (.invokevirtual 75, 3) := dk_182 0 75 (dk_at dksX2_order_5 21 rfl rfl)
theorem dX2_order_139 : decode cX2_order 139 = .ok (.pop, 1) := dk_87 (dk_at dksX2_order_6 0 rfl rfl)
theorem dX2_order_140 : decode cX2_order 140 = .ok (.aload_n 0, 1) := dk_42 (dk_at dksX2_order_6 1 rfl rfl)
theorem dX2_order_141 : decode cX2_order 141 = .ok (.getfield 42, 3) := dk_180 0 42 (dk_at dksX2_order_6 2 rfl rfl)
theorem dX2_order_144 : decode cX2_order 144 = .ok (.invokevirtual 58, 3) := dk_182 0 58 (dk_at dksX2_order_6 5 rfl rfl)
theorem dX2_order_147 : decode cX2_order 147 = .ok (.iconst 1, 1) := dk_4 (dk_at dksX2_order_6 8 rfl rfl)
theorem dX2_order_148 : decode cX2_order 148 = .ok (.isub, 1) := dk_100 (dk_at dksX2_order_6 9 rfl rfl)
theorem dX2_order_149 : decode cX2_order 149 = .ok (.ireturn, 1) := dk_172 (dk_at dksX2_order_6 10 rfl rfl)
abbrev cX2_clock : ByteArray := prog_13_method_29_code
def yX2_clock : MethodName := ⟨RX2, "clock", "()I"⟩
def dkwX2_clock_6 : List UInt8 := [181, 1, 29, 21, 4, 45, 180, 1, 19, 96, 54, 4, 167, 255, 190, 21, 4, 172]
abbrev dktX2_clock_6 : List UInt8 := dkwX2_clock_6 ++ []
def dkwX2_clock_5 : List UInt8 := [180, 1, 19, 45, 180, 1, 22, 25, 5, 182, 1, 25, 25, 5, 89, 180, 1, 29, 45, 180, 1, 19, 100]
abbrev dktX2_clock_5 : List UInt8 := dkwX2_clock_5 ++ dktX2_clock_6
def dkwX2_clock_4 : List UInt8 := [180, 0, 42, 45, 180, 1, 15, 182, 0, 83, 192, 0, 251, 58, 5, 42, 27, 25, 5, 180, 1, 18, 45]
abbrev dktX2_clock_4 : List UInt8 := dkwX2_clock_4 ++ dktX2_clock_5
def dkwX2_clock_3 : List UInt8 := [180, 0, 230, 182, 1, 8, 44, 3, 181, 0, 132, 3, 54, 4, 45, 182, 1, 12, 153, 0, 65, 42]
abbrev dktX2_clock_3 : List UInt8 := dkwX2_clock_3 ++ dktX2_clock_4
def dkwX2_clock_2 : List UInt8 := [187, 1, 3, 89, 42, 183, 1, 5, 78, 45, 44, 44, 180, 0, 227, 44, 180, 0, 165, 184, 0, 240, 44]
abbrev dktX2_clock_2 : List UInt8 := dkwX2_clock_2 ++ dktX2_clock_3
def dkwX2_clock_1 : List UInt8 := [182, 0, 184, 192, 0, 191, 182, 1, 0, 60, 42, 180, 0, 33, 27, 182, 0, 83, 192, 0, 112, 77]
abbrev dktX2_clock_1 : List UInt8 := dkwX2_clock_1 ++ dktX2_clock_2
def dkwX2_clock_0 : List UInt8 := [42, 42, 180, 0, 36, 182, 0, 179, 4, 182, 0, 69, 153, 0, 5, 3, 172, 42, 180, 0, 36, 3]
abbrev dktX2_clock_0 : List UInt8 := dkwX2_clock_0 ++ dktX2_clock_1
theorem dksX2_clock_0 : cX2_clock.data.toList.drop 0 = dktX2_clock_0 := by decide +kernel
theorem dksX2_clock_1 : cX2_clock.data.toList.drop 22 = dktX2_clock_1 := dk_seg dksX2_clock_0 22 rfl rfl
theorem dksX2_clock_2 : cX2_clock.data.toList.drop 44 = dktX2_clock_2 := dk_seg dksX2_clock_1 22 rfl rfl
theorem dksX2_clock_3 : cX2_clock.data.toList.drop 67 = dktX2_clock_3 := dk_seg dksX2_clock_2 23 rfl rfl
theorem dksX2_clock_4 : cX2_clock.data.toList.drop 89 = dktX2_clock_4 := dk_seg dksX2_clock_3 22 rfl rfl
theorem dksX2_clock_5 : cX2_clock.data.toList.drop 112 = dktX2_clock_5 := dk_seg dksX2_clock_4 23 rfl rfl
theorem dksX2_clock_6 : cX2_clock.data.toList.drop 135 = dktX2_clock_6 := dk_seg dksX2_clock_5 23 rfl rfl
theorem dX2_clock_0 : decode cX2_clock 0 = .ok (.aload_n 0, 1) := dk_42 (dk_at dksX2_clock_0 0 rfl rfl)
theorem dX2_clock_1 : decode cX2_clock 1 = .ok (.aload_n 0, 1) := dk_42 (dk_at dksX2_clock_0 1 rfl rfl)
theorem dX2_clock_2 : decode cX2_clock 2 = .ok (.getfield 36, 3) := dk_180 0 36 (dk_at dksX2_clock_0 2 rfl rfl)
theorem dX2_clock_5 : decode cX2_clock 5 = .ok (.invokevirtual 179, 3) := dk_182 0 179 (dk_at dksX2_clock_0 5 rfl rfl)
theorem dX2_clock_8 : decode cX2_clock 8 = .ok (.iconst 1, 1) := dk_4 (dk_at dksX2_clock_0 8 rfl rfl)
theorem dX2_clock_9 : decode cX2_clock 9 = .ok (.invokevirtual 69, 3) := dk_182 0 69 (dk_at dksX2_clock_0 9 rfl rfl)
theorem dX2_clock_12 : decode cX2_clock 12 = .ok (.ifCond .eq 5, 3) := dk_153 0 5 (dk_at dksX2_clock_0 12 rfl rfl)
theorem dX2_clock_15 : decode cX2_clock 15 = .ok (.iconst 0, 1) := dk_3 (dk_at dksX2_clock_0 15 rfl rfl)
theorem dX2_clock_16 : decode cX2_clock 16 = .ok (.ireturn, 1) := dk_172 (dk_at dksX2_clock_0 16 rfl rfl)
theorem dX2_clock_17 : decode cX2_clock 17 = .ok (.aload_n 0, 1) := dk_42 (dk_at dksX2_clock_0 17 rfl rfl)
theorem dX2_clock_18 : decode cX2_clock 18 = .ok (.getfield 36, 3) := dk_180 0 36 (dk_at dksX2_clock_0 18 rfl rfl)
theorem dX2_clock_21 : decode cX2_clock 21 = .ok (.iconst 0, 1) := dk_3 (dk_at dksX2_clock_0 21 rfl rfl)
theorem dX2_clock_22 : decode cX2_clock 22 = .ok (.invokevirtual 184, 3) := dk_182 0 184 (dk_at dksX2_clock_1 0 rfl rfl)
theorem dX2_clock_25 : decode cX2_clock 25 = .ok (.checkcast 191, 3) := dk_192 0 191 (dk_at dksX2_clock_1 3 rfl rfl)
theorem dX2_clock_28 : decode cX2_clock 28 = .ok (.invokevirtual 256, 3) := dk_182 1 0 (dk_at dksX2_clock_1 6 rfl rfl)
theorem dX2_clock_31 : decode cX2_clock 31 = .ok (.istore_n 1, 1) := dk_60 (dk_at dksX2_clock_1 9 rfl rfl)
theorem dX2_clock_32 : decode cX2_clock 32 = .ok (.aload_n 0, 1) := dk_42 (dk_at dksX2_clock_1 10 rfl rfl)
theorem dX2_clock_33 : decode cX2_clock 33 = .ok (.getfield 33, 3) := dk_180 0 33 (dk_at dksX2_clock_1 11 rfl rfl)
theorem dX2_clock_36 : decode cX2_clock 36 = .ok (.iload_n 1, 1) := dk_27 (dk_at dksX2_clock_1 14 rfl rfl)
theorem dX2_clock_37 : decode cX2_clock 37 = .ok (.invokevirtual 83, 3) := dk_182 0 83 (dk_at dksX2_clock_1 15 rfl rfl)
theorem dX2_clock_40 : decode cX2_clock 40 = .ok (.checkcast 112, 3) := dk_192 0 112 (dk_at dksX2_clock_1 18 rfl rfl)
theorem dX2_clock_43 : decode cX2_clock 43 = .ok (.astore_n 2, 1) := dk_77 (dk_at dksX2_clock_1 21 rfl rfl)
theorem dX2_clock_44 : decode cX2_clock 44 = .ok (.new 259, 3) := dk_187 1 3 (dk_at dksX2_clock_2 0 rfl rfl)
theorem dX2_clock_47 : decode cX2_clock 47 = .ok (.dup, 1) := dk_89 (dk_at dksX2_clock_2 3 rfl rfl)
theorem dX2_clock_48 : decode cX2_clock 48 = .ok (.aload_n 0, 1) := dk_42 (dk_at dksX2_clock_2 4 rfl rfl)
theorem dX2_clock_49 : decode cX2_clock 49 = .ok (.invokespecial 261, 3) := dk_183 1 5 (dk_at dksX2_clock_2 5 rfl rfl)
theorem dX2_clock_52 : decode cX2_clock 52 = .ok (.astore_n 3, 1) := dk_78 (dk_at dksX2_clock_2 8 rfl rfl)
theorem dX2_clock_53 : decode cX2_clock 53 = .ok (.aload_n 3, 1) := dk_45 (dk_at dksX2_clock_2 9 rfl rfl)
theorem dX2_clock_54 : decode cX2_clock 54 = .ok (.aload_n 2, 1) := dk_44 (dk_at dksX2_clock_2 10 rfl rfl)
theorem dX2_clock_55 : decode cX2_clock 55 = .ok (.aload_n 2, 1) := dk_44 (dk_at dksX2_clock_2 11 rfl rfl)
theorem dX2_clock_56 : decode cX2_clock 56 = .ok (.getfield 227, 3) := dk_180 0 227 (dk_at dksX2_clock_2 12 rfl rfl)
theorem dX2_clock_59 : decode cX2_clock 59 = .ok (.aload_n 2, 1) := dk_44 (dk_at dksX2_clock_2 15 rfl rfl)
theorem dX2_clock_60 : decode cX2_clock 60 = .ok (.getfield 165, 3) := dk_180 0 165 (dk_at dksX2_clock_2 16 rfl rfl)
theorem dX2_clock_63 : decode cX2_clock 63 = .ok (.invokestatic 240, 3) := dk_184 0 240 (dk_at dksX2_clock_2 19 rfl rfl)
theorem dX2_clock_66 : decode cX2_clock 66 = .ok (.aload_n 2, 1) := dk_44 (dk_at dksX2_clock_2 22 rfl rfl)
theorem dX2_clock_67 : decode cX2_clock 67 = .ok (.getfield 230, 3) := dk_180 0 230 (dk_at dksX2_clock_3 0 rfl rfl)
theorem dX2_clock_70 : decode cX2_clock 70 = .ok (.invokevirtual 264, 3) := dk_182 1 8 (dk_at dksX2_clock_3 3 rfl rfl)
theorem dX2_clock_73 : decode cX2_clock 73 = .ok (.aload_n 2, 1) := dk_44 (dk_at dksX2_clock_3 6 rfl rfl)
theorem dX2_clock_74 : decode cX2_clock 74 = .ok (.iconst 0, 1) := dk_3 (dk_at dksX2_clock_3 7 rfl rfl)
theorem dX2_clock_75 : decode cX2_clock 75 = .ok (.putfield 132, 3) := dk_181 0 132 (dk_at dksX2_clock_3 8 rfl rfl)
theorem dX2_clock_78 : decode cX2_clock 78 = .ok (.iconst 0, 1) := dk_3 (dk_at dksX2_clock_3 11 rfl rfl)
theorem dX2_clock_79 : decode cX2_clock 79 = .ok (.istore 4, 2) := dk_54 4 (dk_at dksX2_clock_3 12 rfl rfl)
theorem dX2_clock_81 : decode cX2_clock 81 = .ok (.aload_n 3, 1) := dk_45 (dk_at dksX2_clock_3 14 rfl rfl)
theorem dX2_clock_82 : decode cX2_clock 82 = .ok (.invokevirtual 268, 3) := dk_182 1 12 (dk_at dksX2_clock_3 15 rfl rfl)
theorem dX2_clock_85 : decode cX2_clock 85 = .ok (.ifCond .eq 65, 3) := dk_153 0 65 (dk_at dksX2_clock_3 18 rfl rfl)
theorem dX2_clock_88 : decode cX2_clock 88 = .ok (.aload_n 0, 1) := dk_42 (dk_at dksX2_clock_3 21 rfl rfl)
theorem dX2_clock_89 : decode cX2_clock 89 = .ok (.getfield 42, 3) := dk_180 0 42 (dk_at dksX2_clock_4 0 rfl rfl)
theorem dX2_clock_92 : decode cX2_clock 92 = .ok (.aload_n 3, 1) := dk_45 (dk_at dksX2_clock_4 3 rfl rfl)
theorem dX2_clock_93 : decode cX2_clock 93 = .ok (.getfield 271, 3) := dk_180 1 15 (dk_at dksX2_clock_4 4 rfl rfl)
theorem dX2_clock_96 : decode cX2_clock 96 = .ok (.invokevirtual 83, 3) := dk_182 0 83 (dk_at dksX2_clock_4 7 rfl rfl)
theorem dX2_clock_99 : decode cX2_clock 99 = .ok (.checkcast 251, 3) := dk_192 0 251 (dk_at dksX2_clock_4 10 rfl rfl)
theorem dX2_clock_102 : decode cX2_clock 102 = .ok (.astore 5, 2) := dk_58 5 (dk_at dksX2_clock_4 13 rfl rfl)
theorem dX2_clock_104 : decode cX2_clock 104 = .ok (.aload_n 0, 1) := dk_42 (dk_at dksX2_clock_4 15 rfl rfl)
theorem dX2_clock_105 : decode cX2_clock 105 = .ok (.iload_n 1, 1) := dk_27 (dk_at dksX2_clock_4 16 rfl rfl)
theorem dX2_clock_106 : decode cX2_clock 106 = .ok (.aload 5, 2) := dk_25 5 (dk_at dksX2_clock_4 17 rfl rfl)
theorem dX2_clock_108 : decode cX2_clock 108 = .ok (.getfield 274, 3) := dk_180 1 18 (dk_at dksX2_clock_4 19 rfl rfl)
theorem dX2_clock_111 : decode cX2_clock 111 = .ok (.aload_n 3, 1) := dk_45 (dk_at dksX2_clock_4 22 rfl rfl)
theorem dX2_clock_112 : decode cX2_clock 112 = .ok (.getfield 275, 3) := dk_180 1 19 (dk_at dksX2_clock_5 0 rfl rfl)
theorem dX2_clock_115 : decode cX2_clock 115 = .ok (.aload_n 3, 1) := dk_45 (dk_at dksX2_clock_5 3 rfl rfl)
theorem dX2_clock_116 : decode cX2_clock 116 = .ok (.getfield 278, 3) := dk_180 1 22 (dk_at dksX2_clock_5 4 rfl rfl)
theorem dX2_clock_119 : decode cX2_clock 119 = .ok (.aload 5, 2) := dk_25 5 (dk_at dksX2_clock_5 7 rfl rfl)
theorem dX2_clock_121 : decode cX2_clock 121 = .ok (.invokevirtual 281, 3) := dk_182 1 25 (dk_at dksX2_clock_5 9 rfl rfl)
theorem dX2_clock_124 : decode cX2_clock 124 = .ok (.aload 5, 2) := dk_25 5 (dk_at dksX2_clock_5 12 rfl rfl)
theorem dX2_clock_126 : decode cX2_clock 126 = .ok (.dup, 1) := dk_89 (dk_at dksX2_clock_5 14 rfl rfl)
theorem dX2_clock_127 : decode cX2_clock 127 = .ok (.getfield 285, 3) := dk_180 1 29 (dk_at dksX2_clock_5 15 rfl rfl)
theorem dX2_clock_130 : decode cX2_clock 130 = .ok (.aload_n 3, 1) := dk_45 (dk_at dksX2_clock_5 18 rfl rfl)
theorem dX2_clock_131 : decode cX2_clock 131 = .ok (.getfield 275, 3) := dk_180 1 19 (dk_at dksX2_clock_5 19 rfl rfl)
theorem dX2_clock_134 : decode cX2_clock 134 = .ok (.isub, 1) := dk_100 (dk_at dksX2_clock_5 22 rfl rfl)
theorem dX2_clock_135 : decode cX2_clock 135 = .ok (.putfield 285, 3) := dk_181 1 29 (dk_at dksX2_clock_6 0 rfl rfl)
theorem dX2_clock_138 : decode cX2_clock 138 = .ok (.iload 4, 2) := dk_21 4 (dk_at dksX2_clock_6 3 rfl rfl)
theorem dX2_clock_140 : decode cX2_clock 140 = .ok (.aload_n 3, 1) := dk_45 (dk_at dksX2_clock_6 5 rfl rfl)
theorem dX2_clock_141 : decode cX2_clock 141 = .ok (.getfield 275, 3) := dk_180 1 19 (dk_at dksX2_clock_6 6 rfl rfl)
theorem dX2_clock_144 : decode cX2_clock 144 = .ok (.iadd, 1) := dk_96 (dk_at dksX2_clock_6 9 rfl rfl)
theorem dX2_clock_145 : decode cX2_clock 145 = .ok (.istore 4, 2) := dk_54 4 (dk_at dksX2_clock_6 10 rfl rfl)
theorem dX2_clock_147 : decode cX2_clock 147 = .ok (.goto (-66), 3) := dk_167 255 190 (dk_at dksX2_clock_6 12 rfl rfl)
theorem dX2_clock_150 : decode cX2_clock 150 = .ok (.iload 4, 2) := dk_21 4 (dk_at dksX2_clock_6 15 rfl rfl)
theorem dX2_clock_152 : decode cX2_clock 152 = .ok (.ireturn, 1) := dk_172 (dk_at dksX2_clock_6 17 rfl rfl)
abbrev cX2_sell : ByteArray := prog_13_method_30_code
def yX2_sell : MethodName := ⟨RX2, "sell", "(IIIILBloomclockModel$Order;)V"⟩
def dkwX2_sell_5 : List UInt8 := [164, 0, 12, 42, 180, 0, 48, 3, 182, 0, 184, 87, 177]
abbrev dktX2_sell_5 : List UInt8 := dkwX2_sell_5 ++ []
def dkwX2_sell_4 : List UInt8 := [182, 0, 75, 87, 42, 180, 0, 48, 25, 9, 182, 0, 75, 87, 42, 180, 0, 48, 182, 0, 58, 16, 20]
abbrev dktX2_sell_4 : List UInt8 := dkwX2_sell_4 ++ dktX2_sell_5
def dkwX2_sell_3 : List UInt8 := [182, 1, 41, 25, 6, 180, 0, 162, 154, 0, 9, 25, 6, 5, 181, 0, 132, 42, 180, 0, 45, 25, 8]
abbrev dktX2_sell_3 : List UInt8 := dkwX2_sell_3 ++ dktX2_sell_4
def dkwX2_sell_2 : List UInt8 := [29, 21, 4, 42, 180, 0, 66, 21, 7, 25, 5, 25, 8, 183, 1, 38, 58, 9, 42, 25, 9, 4]
abbrev dktX2_sell_2 : List UInt8 := dkwX2_sell_2 ++ dktX2_sell_3
def dkwX2_sell_1 : List UInt8 := [89, 28, 25, 6, 180, 0, 220, 29, 25, 6, 180, 0, 165, 183, 1, 35, 58, 8, 187, 1, 36, 89, 27, 28]
abbrev dktX2_sell_1 : List UInt8 := dkwX2_sell_1 ++ dktX2_sell_2
def dkwX2_sell_0 : List UInt8 := [42, 180, 0, 33, 27, 182, 0, 83, 192, 0, 112, 58, 6, 25, 6, 29, 182, 1, 32, 54, 7, 187, 0, 176]
abbrev dktX2_sell_0 : List UInt8 := dkwX2_sell_0 ++ dktX2_sell_1
theorem dksX2_sell_0 : cX2_sell.data.toList.drop 0 = dktX2_sell_0 := by decide +kernel
theorem dksX2_sell_1 : cX2_sell.data.toList.drop 24 = dktX2_sell_1 := dk_seg dksX2_sell_0 24 rfl rfl
theorem dksX2_sell_2 : cX2_sell.data.toList.drop 48 = dktX2_sell_2 := dk_seg dksX2_sell_1 24 rfl rfl
theorem dksX2_sell_3 : cX2_sell.data.toList.drop 70 = dktX2_sell_3 := dk_seg dksX2_sell_2 22 rfl rfl
theorem dksX2_sell_4 : cX2_sell.data.toList.drop 93 = dktX2_sell_4 := dk_seg dksX2_sell_3 23 rfl rfl
theorem dksX2_sell_5 : cX2_sell.data.toList.drop 116 = dktX2_sell_5 := dk_seg dksX2_sell_4 23 rfl rfl
theorem dX2_sell_0 : decode cX2_sell 0 = .ok (.aload_n 0, 1) := dk_42 (dk_at dksX2_sell_0 0 rfl rfl)
theorem dX2_sell_1 : decode cX2_sell 1 = .ok (.getfield 33, 3) := dk_180 0 33 (dk_at dksX2_sell_0 1 rfl rfl)
theorem dX2_sell_4 : decode cX2_sell 4 = .ok (.iload_n 1, 1) := dk_27 (dk_at dksX2_sell_0 4 rfl rfl)
theorem dX2_sell_5 : decode cX2_sell 5 = .ok (.invokevirtual 83, 3) := dk_182 0 83 (dk_at dksX2_sell_0 5 rfl rfl)
theorem dX2_sell_8 : decode cX2_sell 8 = .ok (.checkcast 112, 3) := dk_192 0 112 (dk_at dksX2_sell_0 8 rfl rfl)
theorem dX2_sell_11 : decode cX2_sell 11 = .ok (.astore 6, 2) := dk_58 6 (dk_at dksX2_sell_0 11 rfl rfl)
theorem dX2_sell_13 : decode cX2_sell 13 = .ok (.aload 6, 2) := dk_25 6 (dk_at dksX2_sell_0 13 rfl rfl)
theorem dX2_sell_15 : decode cX2_sell 15 = .ok (.iload_n 3, 1) := dk_29 (dk_at dksX2_sell_0 15 rfl rfl)
theorem dX2_sell_16 : decode cX2_sell 16 = .ok (.invokevirtual 288, 3) := dk_182 1 32 (dk_at dksX2_sell_0 16 rfl rfl)
theorem dX2_sell_19 : decode cX2_sell 19 = .ok (.istore 7, 2) := dk_54 7 (dk_at dksX2_sell_0 19 rfl rfl)
theorem dX2_sell_21 : decode cX2_sell 21 = .ok (.new 176, 3) := dk_187 0 176 (dk_at dksX2_sell_0 21 rfl rfl)
theorem dX2_sell_24 : decode cX2_sell 24 = .ok (.dup, 1) := dk_89 (dk_at dksX2_sell_1 0 rfl rfl)
theorem dX2_sell_25 : decode cX2_sell 25 = .ok (.iload_n 2, 1) := dk_28 (dk_at dksX2_sell_1 1 rfl rfl)
theorem dX2_sell_26 : decode cX2_sell 26 = .ok (.aload 6, 2) := dk_25 6 (dk_at dksX2_sell_1 2 rfl rfl)
theorem dX2_sell_28 : decode cX2_sell 28 = .ok (.getfield 220, 3) := dk_180 0 220 (dk_at dksX2_sell_1 4 rfl rfl)
theorem dX2_sell_31 : decode cX2_sell 31 = .ok (.iload_n 3, 1) := dk_29 (dk_at dksX2_sell_1 7 rfl rfl)
theorem dX2_sell_32 : decode cX2_sell 32 = .ok (.aload 6, 2) := dk_25 6 (dk_at dksX2_sell_1 8 rfl rfl)
theorem dX2_sell_34 : decode cX2_sell 34 = .ok (.getfield 165, 3) := dk_180 0 165 (dk_at dksX2_sell_1 10 rfl rfl)
theorem dX2_sell_37 : decode cX2_sell 37 = .ok (.invokespecial 291, 3) := dk_183 1 35 (dk_at dksX2_sell_1 13 rfl rfl)
theorem dX2_sell_40 : decode cX2_sell 40 = .ok (.astore 8, 2) := dk_58 8 (dk_at dksX2_sell_1 16 rfl rfl)
theorem dX2_sell_42 : decode cX2_sell 42 = .ok (.new 292, 3) := dk_187 1 36 (dk_at dksX2_sell_1 18 rfl rfl)
theorem dX2_sell_45 : decode cX2_sell 45 = .ok (.dup, 1) := dk_89 (dk_at dksX2_sell_1 21 rfl rfl)
theorem dX2_sell_46 : decode cX2_sell 46 = .ok (.iload_n 1, 1) := dk_27 (dk_at dksX2_sell_1 22 rfl rfl)
theorem dX2_sell_47 : decode cX2_sell 47 = .ok (.iload_n 2, 1) := dk_28 (dk_at dksX2_sell_1 23 rfl rfl)
theorem dX2_sell_48 : decode cX2_sell 48 = .ok (.iload_n 3, 1) := dk_29 (dk_at dksX2_sell_2 0 rfl rfl)
theorem dX2_sell_49 : decode cX2_sell 49 = .ok (.iload 4, 2) := dk_21 4 (dk_at dksX2_sell_2 1 rfl rfl)
theorem dX2_sell_51 : decode cX2_sell 51 = .ok (.aload_n 0, 1) := dk_42 (dk_at dksX2_sell_2 3 rfl rfl)
theorem dX2_sell_52 : decode cX2_sell 52 = .ok (.getfield 66, 3) := dk_180 0 66 (dk_at dksX2_sell_2 4 rfl rfl)
theorem dX2_sell_55 : decode cX2_sell 55 = .ok (.iload 7, 2) := dk_21 7 (dk_at dksX2_sell_2 7 rfl rfl)
theorem dX2_sell_57 : decode cX2_sell 57 = .ok (.aload 5, 2) := dk_25 5 (dk_at dksX2_sell_2 9 rfl rfl)
theorem dX2_sell_59 : decode cX2_sell 59 = .ok (.aload 8, 2) := dk_25 8 (dk_at dksX2_sell_2 11 rfl rfl)
theorem dX2_sell_61 : decode cX2_sell 61 = .ok (.invokespecial 294, 3) := dk_183 1 38 (dk_at dksX2_sell_2 13 rfl rfl)
theorem dX2_sell_64 : decode cX2_sell 64 = .ok (.astore 9, 2) := dk_58 9 (dk_at dksX2_sell_2 16 rfl rfl)
theorem dX2_sell_66 : decode cX2_sell 66 = .ok (.aload_n 0, 1) := dk_42 (dk_at dksX2_sell_2 18 rfl rfl)
theorem dX2_sell_67 : decode cX2_sell 67 = .ok (.aload 9, 2) := dk_25 9 (dk_at dksX2_sell_2 19 rfl rfl)
theorem dX2_sell_69 : decode cX2_sell 69 = .ok (.iconst 1, 1) := dk_4 (dk_at dksX2_sell_2 21 rfl rfl)
theorem dX2_sell_70 : decode cX2_sell 70 = .ok (.invokevirtual 297, 3) := dk_182 1 41 (dk_at dksX2_sell_3 0 rfl rfl)
theorem dX2_sell_73 : decode cX2_sell 73 = .ok (.aload 6, 2) := dk_25 6 (dk_at dksX2_sell_3 3 rfl rfl)
theorem dX2_sell_75 : decode cX2_sell 75 = .ok (.getfield 162, 3) := dk_180 0 162 (dk_at dksX2_sell_3 5 rfl rfl)
theorem dX2_sell_78 : decode cX2_sell 78 = .ok (.ifCond .ne 9, 3) := dk_154 0 9 (dk_at dksX2_sell_3 8 rfl rfl)
theorem dX2_sell_81 : decode cX2_sell 81 = .ok (.aload 6, 2) := dk_25 6 (dk_at dksX2_sell_3 11 rfl rfl)
theorem dX2_sell_83 : decode cX2_sell 83 = .ok (.iconst 2, 1) := dk_5 (dk_at dksX2_sell_3 13 rfl rfl)
theorem dX2_sell_84 : decode cX2_sell 84 = .ok (.putfield 132, 3) := dk_181 0 132 (dk_at dksX2_sell_3 14 rfl rfl)
theorem dX2_sell_87 : decode cX2_sell 87 = .ok (.aload_n 0, 1) := dk_42 (dk_at dksX2_sell_3 17 rfl rfl)
theorem dX2_sell_88 : decode cX2_sell 88 = .ok (.getfield 45, 3) := dk_180 0 45 (dk_at dksX2_sell_3 18 rfl rfl)
theorem dX2_sell_91 : decode cX2_sell 91 = .ok (.aload 8, 2) := dk_25 8 (dk_at dksX2_sell_3 21 rfl rfl)
theorem dX2_sell_93 : decode cX2_sell 93 = .ok (.invokevirtual 75, 3) := dk_182 0 75 (dk_at dksX2_sell_4 0 rfl rfl)
theorem dX2_sell_96 : decode cX2_sell 96 = .ok (.pop, 1) := dk_87 (dk_at dksX2_sell_4 3 rfl rfl)
theorem dX2_sell_97 : decode cX2_sell 97 = .ok (.aload_n 0, 1) := dk_42 (dk_at dksX2_sell_4 4 rfl rfl)
theorem dX2_sell_98 : decode cX2_sell 98 = .ok (.getfield 48, 3) := dk_180 0 48 (dk_at dksX2_sell_4 5 rfl rfl)
theorem dX2_sell_101 : decode cX2_sell 101 = .ok (.aload 9, 2) := dk_25 9 (dk_at dksX2_sell_4 8 rfl rfl)
theorem dX2_sell_103 : decode cX2_sell 103 = .ok (.invokevirtual 75, 3) := dk_182 0 75 (dk_at dksX2_sell_4 10 rfl rfl)
theorem dX2_sell_106 : decode cX2_sell 106 = .ok (.pop, 1) := dk_87 (dk_at dksX2_sell_4 13 rfl rfl)
theorem dX2_sell_107 : decode cX2_sell 107 = .ok (.aload_n 0, 1) := dk_42 (dk_at dksX2_sell_4 14 rfl rfl)
theorem dX2_sell_108 : decode cX2_sell 108 = .ok (.getfield 48, 3) := dk_180 0 48 (dk_at dksX2_sell_4 15 rfl rfl)
theorem dX2_sell_111 : decode cX2_sell 111 = .ok (.invokevirtual 58, 3) := dk_182 0 58 (dk_at dksX2_sell_4 18 rfl rfl)
theorem dX2_sell_114 : decode cX2_sell 114 = .ok (.bipush 20, 2) := dk_16 20 (dk_at dksX2_sell_4 21 rfl rfl)
theorem dX2_sell_116 : decode cX2_sell 116 = .ok (.if_icmp .le 12, 3) := dk_164 0 12 (dk_at dksX2_sell_5 0 rfl rfl)
theorem dX2_sell_119 : decode cX2_sell 119 = .ok (.aload_n 0, 1) := dk_42 (dk_at dksX2_sell_5 3 rfl rfl)
theorem dX2_sell_120 : decode cX2_sell 120 = .ok (.getfield 48, 3) := dk_180 0 48 (dk_at dksX2_sell_5 4 rfl rfl)
theorem dX2_sell_123 : decode cX2_sell 123 = .ok (.iconst 0, 1) := dk_3 (dk_at dksX2_sell_5 7 rfl rfl)
theorem dX2_sell_124 : decode cX2_sell 124 = .ok (.invokevirtual 184, 3) := dk_182 0 184 (dk_at dksX2_sell_5 8 rfl rfl)
theorem dX2_sell_127 : decode cX2_sell 127 = .ok (.pop, 1) := dk_87 (dk_at dksX2_sell_5 11 rfl rfl)
theorem dX2_sell_128 : decode cX2_sell 128 = .ok (.return_, 1) := dk_177 (dk_at dksX2_sell_5 12 rfl rfl)
abbrev cX2_move_2 : ByteArray := prog_13_method_31_code
def yX2_move_2 : MethodName := ⟨RX2, "move", "(LBloomclockModel$Sale;I)V"⟩
def dkwX2_move_2_8 : List UInt8 := [96, 181, 1, 63, 42, 89, 180, 1, 66, 28, 43, 182, 1, 50, 104, 96, 181, 1, 66, 177]
abbrev dktX2_move_2_8 : List UInt8 := dkwX2_move_2_8 ++ []
def dkwX2_move_2_7 : List UInt8 := [180, 0, 126, 28, 43, 180, 1, 53, 104, 100, 181, 0, 126, 42, 89, 180, 1, 63, 28, 43, 180, 1, 62, 104]
abbrev dktX2_move_2_7 : List UInt8 := dkwX2_move_2_7 ++ dktX2_move_2_8
def dkwX2_move_2_6 : List UInt8 := [104, 96, 181, 1, 59, 45, 89, 180, 0, 162, 28, 43, 180, 1, 62, 104, 100, 181, 0, 162, 45, 89]
abbrev dktX2_move_2_6 : List UInt8 := dkwX2_move_2_6 ++ dktX2_move_2_7
def dkwX2_move_2_5 : List UInt8 := [182, 1, 50, 43, 182, 1, 56, 100, 104, 96, 181, 0, 159, 25, 5, 89, 180, 1, 59, 28, 43, 180, 1, 62]
abbrev dktX2_move_2_5 : List UInt8 := dkwX2_move_2_5 ++ dktX2_move_2_6
def dkwX2_move_2_4 : List UInt8 := [182, 1, 56, 5, 43, 180, 1, 53, 104, 96, 104, 96, 181, 1, 55, 25, 5, 89, 180, 0, 159, 28, 43]
abbrev dktX2_move_2_4 : List UInt8 := dkwX2_move_2_4 ++ dktX2_move_2_5
def dkwX2_move_2_3 : List UInt8 := [25, 4, 89, 180, 1, 54, 28, 43, 180, 1, 53, 104, 96, 181, 1, 54, 42, 89, 180, 1, 55, 28, 43]
abbrev dktX2_move_2_3 : List UInt8 := dkwX2_move_2_3 ++ dktX2_move_2_4
def dkwX2_move_2_2 : List UInt8 := [25, 4, 89, 180, 1, 49, 28, 43, 182, 1, 50, 5, 43, 180, 1, 53, 104, 96, 104, 100, 181, 1, 49]
abbrev dktX2_move_2_2 : List UInt8 := dkwX2_move_2_2 ++ dktX2_move_2_3
def dkwX2_move_2_1 : List UInt8 := [182, 0, 83, 192, 0, 197, 58, 4, 42, 180, 0, 26, 45, 180, 0, 214, 182, 0, 83, 192, 0, 72, 58, 5]
abbrev dktX2_move_2_1 : List UInt8 := dkwX2_move_2_1 ++ dktX2_move_2_2
def dkwX2_move_2_0 : List UInt8 := [42, 180, 0, 33, 43, 180, 1, 45, 182, 0, 83, 192, 0, 112, 78, 42, 180, 0, 39, 43, 180, 1, 48]
abbrev dktX2_move_2_0 : List UInt8 := dkwX2_move_2_0 ++ dktX2_move_2_1
theorem dksX2_move_2_0 : cX2_move_2.data.toList.drop 0 = dktX2_move_2_0 := by decide +kernel
theorem dksX2_move_2_1 : cX2_move_2.data.toList.drop 23 = dktX2_move_2_1 := dk_seg dksX2_move_2_0 23 rfl rfl
theorem dksX2_move_2_2 : cX2_move_2.data.toList.drop 47 = dktX2_move_2_2 := dk_seg dksX2_move_2_1 24 rfl rfl
theorem dksX2_move_2_3 : cX2_move_2.data.toList.drop 70 = dktX2_move_2_3 := dk_seg dksX2_move_2_2 23 rfl rfl
theorem dksX2_move_2_4 : cX2_move_2.data.toList.drop 93 = dktX2_move_2_4 := dk_seg dksX2_move_2_3 23 rfl rfl
theorem dksX2_move_2_5 : cX2_move_2.data.toList.drop 116 = dktX2_move_2_5 := dk_seg dksX2_move_2_4 23 rfl rfl
theorem dksX2_move_2_6 : cX2_move_2.data.toList.drop 140 = dktX2_move_2_6 := dk_seg dksX2_move_2_5 24 rfl rfl
theorem dksX2_move_2_7 : cX2_move_2.data.toList.drop 162 = dktX2_move_2_7 := dk_seg dksX2_move_2_6 22 rfl rfl
theorem dksX2_move_2_8 : cX2_move_2.data.toList.drop 186 = dktX2_move_2_8 := dk_seg dksX2_move_2_7 24 rfl rfl
theorem dX2_move_2_0 : decode cX2_move_2 0 = .ok (.aload_n 0, 1) := dk_42 (dk_at dksX2_move_2_0 0 rfl rfl)
theorem dX2_move_2_1 : decode cX2_move_2 1 = .ok (.getfield 33, 3) := dk_180 0 33 (dk_at dksX2_move_2_0 1 rfl rfl)
theorem dX2_move_2_4 : decode cX2_move_2 4 = .ok (.aload_n 1, 1) := dk_43 (dk_at dksX2_move_2_0 4 rfl rfl)
theorem dX2_move_2_5 : decode cX2_move_2 5 = .ok (.getfield 301, 3) := dk_180 1 45 (dk_at dksX2_move_2_0 5 rfl rfl)
theorem dX2_move_2_8 : decode cX2_move_2 8 = .ok (.invokevirtual 83, 3) := dk_182 0 83 (dk_at dksX2_move_2_0 8 rfl rfl)
theorem dX2_move_2_11 : decode cX2_move_2 11 = .ok (.checkcast 112, 3) := dk_192 0 112 (dk_at dksX2_move_2_0 11 rfl rfl)
theorem dX2_move_2_14 : decode cX2_move_2 14 = .ok (.astore_n 3, 1) := dk_78 (dk_at dksX2_move_2_0 14 rfl rfl)
theorem dX2_move_2_15 : decode cX2_move_2 15 = .ok (.aload_n 0, 1) := dk_42 (dk_at dksX2_move_2_0 15 rfl rfl)
theorem dX2_move_2_16 : decode cX2_move_2 16 = .ok (.getfield 39, 3) := dk_180 0 39 (dk_at dksX2_move_2_0 16 rfl rfl)
theorem dX2_move_2_19 : decode cX2_move_2 19 = .ok (.aload_n 1, 1) := dk_43 (dk_at dksX2_move_2_0 19 rfl rfl)
theorem dX2_move_2_20 : decode cX2_move_2 20 = .ok (.getfield 304, 3) := dk_180 1 48 (dk_at dksX2_move_2_0 20 rfl rfl)
theorem dX2_move_2_23 : decode cX2_move_2 23 = .ok (.invokevirtual 83, 3) := dk_182 0 83 (dk_at dksX2_move_2_1 0 rfl rfl)
theorem dX2_move_2_26 : decode cX2_move_2 26 = .ok (.checkcast 197, 3) := dk_192 0 197 (dk_at dksX2_move_2_1 3 rfl rfl)
theorem dX2_move_2_29 : decode cX2_move_2 29 = .ok (.astore 4, 2) := dk_58 4 (dk_at dksX2_move_2_1 6 rfl rfl)
theorem dX2_move_2_31 : decode cX2_move_2 31 = .ok (.aload_n 0, 1) := dk_42 (dk_at dksX2_move_2_1 8 rfl rfl)
theorem dX2_move_2_32 : decode cX2_move_2 32 = .ok (.getfield 26, 3) := dk_180 0 26 (dk_at dksX2_move_2_1 9 rfl rfl)
theorem dX2_move_2_35 : decode cX2_move_2 35 = .ok (.aload_n 3, 1) := dk_45 (dk_at dksX2_move_2_1 12 rfl rfl)
theorem dX2_move_2_36 : decode cX2_move_2 36 = .ok (.getfield 214, 3) := dk_180 0 214 (dk_at dksX2_move_2_1 13 rfl rfl)
theorem dX2_move_2_39 : decode cX2_move_2 39 = .ok (.invokevirtual 83, 3) := dk_182 0 83 (dk_at dksX2_move_2_1 16 rfl rfl)
theorem dX2_move_2_42 : decode cX2_move_2 42 = .ok (.checkcast 72, 3) := dk_192 0 72 (dk_at dksX2_move_2_1 19 rfl rfl)
theorem dX2_move_2_45 : decode cX2_move_2 45 = .ok (.astore 5, 2) := dk_58 5 (dk_at dksX2_move_2_1 22 rfl rfl)
theorem dX2_move_2_47 : decode cX2_move_2 47 = .ok (.aload 4, 2) := dk_25 4 (dk_at dksX2_move_2_2 0 rfl rfl)
theorem dX2_move_2_49 : decode cX2_move_2 49 = .ok (.dup, 1) := dk_89 (dk_at dksX2_move_2_2 2 rfl rfl)
theorem dX2_move_2_50 : decode cX2_move_2 50 = .ok (.getfield 305, 3) := dk_180 1 49 (dk_at dksX2_move_2_2 3 rfl rfl)
theorem dX2_move_2_53 : decode cX2_move_2 53 = .ok (.iload_n 2, 1) := dk_28 (dk_at dksX2_move_2_2 6 rfl rfl)
theorem dX2_move_2_54 : decode cX2_move_2 54 = .ok (.aload_n 1, 1) := dk_43 (dk_at dksX2_move_2_2 7 rfl rfl)
theorem dX2_move_2_55 : decode cX2_move_2 55 = .ok (.invokevirtual 306, 3) := dk_182 1 50 (dk_at dksX2_move_2_2 8 rfl rfl)
theorem dX2_move_2_58 : decode cX2_move_2 58 = .ok (.iconst 2, 1) := dk_5 (dk_at dksX2_move_2_2 11 rfl rfl)
theorem dX2_move_2_59 : decode cX2_move_2 59 = .ok (.aload_n 1, 1) := dk_43 (dk_at dksX2_move_2_2 12 rfl rfl)
theorem dX2_move_2_60 : decode cX2_move_2 60 = .ok (.getfield 309, 3) := dk_180 1 53 (dk_at dksX2_move_2_2 13 rfl rfl)
theorem dX2_move_2_63 : decode cX2_move_2 63 = .ok (.imul, 1) := dk_104 (dk_at dksX2_move_2_2 16 rfl rfl)
theorem dX2_move_2_64 : decode cX2_move_2 64 = .ok (.iadd, 1) := dk_96 (dk_at dksX2_move_2_2 17 rfl rfl)
theorem dX2_move_2_65 : decode cX2_move_2 65 = .ok (.imul, 1) := dk_104 (dk_at dksX2_move_2_2 18 rfl rfl)
theorem dX2_move_2_66 : decode cX2_move_2 66 = .ok (.isub, 1) := dk_100 (dk_at dksX2_move_2_2 19 rfl rfl)
theorem dX2_move_2_67 : decode cX2_move_2 67 = .ok (.putfield 305, 3) := dk_181 1 49 (dk_at dksX2_move_2_2 20 rfl rfl)
theorem dX2_move_2_70 : decode cX2_move_2 70 = .ok (.aload 4, 2) := dk_25 4 (dk_at dksX2_move_2_3 0 rfl rfl)
theorem dX2_move_2_72 : decode cX2_move_2 72 = .ok (.dup, 1) := dk_89 (dk_at dksX2_move_2_3 2 rfl rfl)
theorem dX2_move_2_73 : decode cX2_move_2 73 = .ok (.getfield 310, 3) := dk_180 1 54 (dk_at dksX2_move_2_3 3 rfl rfl)
theorem dX2_move_2_76 : decode cX2_move_2 76 = .ok (.iload_n 2, 1) := dk_28 (dk_at dksX2_move_2_3 6 rfl rfl)
theorem dX2_move_2_77 : decode cX2_move_2 77 = .ok (.aload_n 1, 1) := dk_43 (dk_at dksX2_move_2_3 7 rfl rfl)
theorem dX2_move_2_78 : decode cX2_move_2 78 = .ok (.getfield 309, 3) := dk_180 1 53 (dk_at dksX2_move_2_3 8 rfl rfl)
theorem dX2_move_2_81 : decode cX2_move_2 81 = .ok (.imul, 1) := dk_104 (dk_at dksX2_move_2_3 11 rfl rfl)
theorem dX2_move_2_82 : decode cX2_move_2 82 = .ok (.iadd, 1) := dk_96 (dk_at dksX2_move_2_3 12 rfl rfl)
theorem dX2_move_2_83 : decode cX2_move_2 83 = .ok (.putfield 310, 3) := dk_181 1 54 (dk_at dksX2_move_2_3 13 rfl rfl)
theorem dX2_move_2_86 : decode cX2_move_2 86 = .ok (.aload_n 0, 1) := dk_42 (dk_at dksX2_move_2_3 16 rfl rfl)
theorem dX2_move_2_87 : decode cX2_move_2 87 = .ok (.dup, 1) := dk_89 (dk_at dksX2_move_2_3 17 rfl rfl)
theorem dX2_move_2_88 : decode cX2_move_2 88 = .ok (.getfield 311, 3) := dk_180 1 55 (dk_at dksX2_move_2_3 18 rfl rfl)
theorem dX2_move_2_91 : decode cX2_move_2 91 = .ok (.iload_n 2, 1) := dk_28 (dk_at dksX2_move_2_3 21 rfl rfl)
theorem dX2_move_2_92 : decode cX2_move_2 92 = .ok (.aload_n 1, 1) := dk_43 (dk_at dksX2_move_2_3 22 rfl rfl)
theorem dX2_move_2_93 : decode cX2_move_2 93 = .ok (.invokevirtual 312, 3) := dk_182 1 56 (dk_at dksX2_move_2_4 0 rfl rfl)
theorem dX2_move_2_96 : decode cX2_move_2 96 = .ok (.iconst 2, 1) := dk_5 (dk_at dksX2_move_2_4 3 rfl rfl)
theorem dX2_move_2_97 : decode cX2_move_2 97 = .ok (.aload_n 1, 1) := dk_43 (dk_at dksX2_move_2_4 4 rfl rfl)
theorem dX2_move_2_98 : decode cX2_move_2 98 = .ok (.getfield 309, 3) := dk_180 1 53 (dk_at dksX2_move_2_4 5 rfl rfl)
theorem dX2_move_2_101 : decode cX2_move_2 101 = .ok (.imul, 1) := dk_104 (dk_at dksX2_move_2_4 8 rfl rfl)
theorem dX2_move_2_102 : decode cX2_move_2 102 = .ok (.iadd, 1) := dk_96 (dk_at dksX2_move_2_4 9 rfl rfl)
theorem dX2_move_2_103 : decode cX2_move_2 103 = .ok (.imul, 1) := dk_104 (dk_at dksX2_move_2_4 10 rfl rfl)
theorem dX2_move_2_104 : decode cX2_move_2 104 = .ok (.iadd, 1) := dk_96 (dk_at dksX2_move_2_4 11 rfl rfl)
theorem dX2_move_2_105 : decode cX2_move_2 105 = .ok (.putfield 311, 3) := dk_181 1 55 (dk_at dksX2_move_2_4 12 rfl rfl)
theorem dX2_move_2_108 : decode cX2_move_2 108 = .ok (.aload 5, 2) := dk_25 5 (dk_at dksX2_move_2_4 15 rfl rfl)
theorem dX2_move_2_110 : decode cX2_move_2 110 = .ok (.dup, 1) := dk_89 (dk_at dksX2_move_2_4 17 rfl rfl)
theorem dX2_move_2_111 : decode cX2_move_2 111 = .ok (.getfield 159, 3) := dk_180 0 159 (dk_at dksX2_move_2_4 18 rfl rfl)
theorem dX2_move_2_114 : decode cX2_move_2 114 = .ok (.iload_n 2, 1) := dk_28 (dk_at dksX2_move_2_4 21 rfl rfl)
theorem dX2_move_2_115 : decode cX2_move_2 115 = .ok (.aload_n 1, 1) := dk_43 (dk_at dksX2_move_2_4 22 rfl rfl)
theorem dX2_move_2_116 : decode cX2_move_2 116 = .ok (.invokevirtual 306, 3) := dk_182 1 50 (dk_at dksX2_move_2_5 0 rfl rfl)
theorem dX2_move_2_119 : decode cX2_move_2 119 = .ok (.aload_n 1, 1) := dk_43 (dk_at dksX2_move_2_5 3 rfl rfl)
theorem dX2_move_2_120 : decode cX2_move_2 120 = .ok (.invokevirtual 312, 3) := dk_182 1 56 (dk_at dksX2_move_2_5 4 rfl rfl)
theorem dX2_move_2_123 : decode cX2_move_2 123 = .ok (.isub, 1) := dk_100 (dk_at dksX2_move_2_5 7 rfl rfl)
theorem dX2_move_2_124 : decode cX2_move_2 124 = .ok (.imul, 1) := dk_104 (dk_at dksX2_move_2_5 8 rfl rfl)
theorem dX2_move_2_125 : decode cX2_move_2 125 = .ok (.iadd, 1) := dk_96 (dk_at dksX2_move_2_5 9 rfl rfl)
theorem dX2_move_2_126 : decode cX2_move_2 126 = .ok (.putfield 159, 3) := dk_181 0 159 (dk_at dksX2_move_2_5 10 rfl rfl)
theorem dX2_move_2_129 : decode cX2_move_2 129 = .ok (.aload 5, 2) := dk_25 5 (dk_at dksX2_move_2_5 13 rfl rfl)
theorem dX2_move_2_131 : decode cX2_move_2 131 = .ok (.dup, 1) := dk_89 (dk_at dksX2_move_2_5 15 rfl rfl)
theorem dX2_move_2_132 : decode cX2_move_2 132 = .ok (.getfield 315, 3) := dk_180 1 59 (dk_at dksX2_move_2_5 16 rfl rfl)
theorem dX2_move_2_135 : decode cX2_move_2 135 = .ok (.iload_n 2, 1) := dk_28 (dk_at dksX2_move_2_5 19 rfl rfl)
theorem dX2_move_2_136 : decode cX2_move_2 136 = .ok (.aload_n 1, 1) := dk_43 (dk_at dksX2_move_2_5 20 rfl rfl)
theorem dX2_move_2_137 : decode cX2_move_2 137 = .ok (.getfield 318, 3) := dk_180 1 62 (dk_at dksX2_move_2_5 21 rfl rfl)
theorem dX2_move_2_140 : decode cX2_move_2 140 = .ok (.imul, 1) := dk_104 (dk_at dksX2_move_2_6 0 rfl rfl)
theorem dX2_move_2_141 : decode cX2_move_2 141 = .ok (.iadd, 1) := dk_96 (dk_at dksX2_move_2_6 1 rfl rfl)
theorem dX2_move_2_142 : decode cX2_move_2 142 = .ok (.putfield 315, 3) := dk_181 1 59 (dk_at dksX2_move_2_6 2 rfl rfl)
theorem dX2_move_2_145 : decode cX2_move_2 145 = .ok (.aload_n 3, 1) := dk_45 (dk_at dksX2_move_2_6 5 rfl rfl)
theorem dX2_move_2_146 : decode cX2_move_2 146 = .ok (.dup, 1) := dk_89 (dk_at dksX2_move_2_6 6 rfl rfl)
theorem dX2_move_2_147 : decode cX2_move_2 147 = .ok (.getfield 162, 3) := dk_180 0 162 (dk_at dksX2_move_2_6 7 rfl rfl)
theorem dX2_move_2_150 : decode cX2_move_2 150 = .ok (.iload_n 2, 1) := dk_28 (dk_at dksX2_move_2_6 10 rfl rfl)
theorem dX2_move_2_151 : decode cX2_move_2 151 = .ok (.aload_n 1, 1) := dk_43 (dk_at dksX2_move_2_6 11 rfl rfl)
theorem dX2_move_2_152 : decode cX2_move_2 152 = .ok (.getfield 318, 3) := dk_180 1 62 (dk_at dksX2_move_2_6 12 rfl rfl)
theorem dX2_move_2_155 : decode cX2_move_2 155 = .ok (.imul, 1) := dk_104 (dk_at dksX2_move_2_6 15 rfl rfl)
theorem dX2_move_2_156 : decode cX2_move_2 156 = .ok (.isub, 1) := dk_100 (dk_at dksX2_move_2_6 16 rfl rfl)
theorem dX2_move_2_157 : decode cX2_move_2 157 = .ok (.putfield 162, 3) := dk_181 0 162 (dk_at dksX2_move_2_6 17 rfl rfl)
theorem dX2_move_2_160 : decode cX2_move_2 160 = .ok (.aload_n 3, 1) := dk_45 (dk_at dksX2_move_2_6 20 rfl rfl)
theorem dX2_move_2_161 : decode cX2_move_2 161 = .ok (.dup, 1) := dk_89 (dk_at dksX2_move_2_6 21 rfl rfl)
theorem dX2_move_2_162 : decode cX2_move_2 162 = .ok (.getfield 126, 3) := dk_180 0 126 (dk_at dksX2_move_2_7 0 rfl rfl)
theorem dX2_move_2_165 : decode cX2_move_2 165 = .ok (.iload_n 2, 1) := dk_28 (dk_at dksX2_move_2_7 3 rfl rfl)
theorem dX2_move_2_166 : decode cX2_move_2 166 = .ok (.aload_n 1, 1) := dk_43 (dk_at dksX2_move_2_7 4 rfl rfl)
theorem dX2_move_2_167 : decode cX2_move_2 167 = .ok (.getfield 309, 3) := dk_180 1 53 (dk_at dksX2_move_2_7 5 rfl rfl)
theorem dX2_move_2_170 : decode cX2_move_2 170 = .ok (.imul, 1) := dk_104 (dk_at dksX2_move_2_7 8 rfl rfl)
theorem dX2_move_2_171 : decode cX2_move_2 171 = .ok (.isub, 1) := dk_100 (dk_at dksX2_move_2_7 9 rfl rfl)
theorem dX2_move_2_172 : decode cX2_move_2 172 = .ok (.putfield 126, 3) := dk_181 0 126 (dk_at dksX2_move_2_7 10 rfl rfl)
theorem dX2_move_2_175 : decode cX2_move_2 175 = .ok (.aload_n 0, 1) := dk_42 (dk_at dksX2_move_2_7 13 rfl rfl)
theorem dX2_move_2_176 : decode cX2_move_2 176 = .ok (.dup, 1) := dk_89 (dk_at dksX2_move_2_7 14 rfl rfl)
theorem dX2_move_2_177 : decode cX2_move_2 177 = .ok (.getfield 319, 3) := dk_180 1 63 (dk_at dksX2_move_2_7 15 rfl rfl)
theorem dX2_move_2_180 : decode cX2_move_2 180 = .ok (.iload_n 2, 1) := dk_28 (dk_at dksX2_move_2_7 18 rfl rfl)
theorem dX2_move_2_181 : decode cX2_move_2 181 = .ok (.aload_n 1, 1) := dk_43 (dk_at dksX2_move_2_7 19 rfl rfl)
theorem dX2_move_2_182 : decode cX2_move_2 182 = .ok (.getfield 318, 3) := dk_180 1 62 (dk_at dksX2_move_2_7 20 rfl rfl)
theorem dX2_move_2_185 : decode cX2_move_2 185 = .ok (.imul, 1) := dk_104 (dk_at dksX2_move_2_7 23 rfl rfl)
theorem dX2_move_2_186 : decode cX2_move_2 186 = .ok (.iadd, 1) := dk_96 (dk_at dksX2_move_2_8 0 rfl rfl)
theorem dX2_move_2_187 : decode cX2_move_2 187 = .ok (.putfield 319, 3) := dk_181 1 63 (dk_at dksX2_move_2_8 1 rfl rfl)
theorem dX2_move_2_190 : decode cX2_move_2 190 = .ok (.aload_n 0, 1) := dk_42 (dk_at dksX2_move_2_8 4 rfl rfl)
theorem dX2_move_2_191 : decode cX2_move_2 191 = .ok (.dup, 1) := dk_89 (dk_at dksX2_move_2_8 5 rfl rfl)
theorem dX2_move_2_192 : decode cX2_move_2 192 = .ok (.getfield 322, 3) := dk_180 1 66 (dk_at dksX2_move_2_8 6 rfl rfl)
theorem dX2_move_2_195 : decode cX2_move_2 195 = .ok (.iload_n 2, 1) := dk_28 (dk_at dksX2_move_2_8 9 rfl rfl)
theorem dX2_move_2_196 : decode cX2_move_2 196 = .ok (.aload_n 1, 1) := dk_43 (dk_at dksX2_move_2_8 10 rfl rfl)
theorem dX2_move_2_197 : decode cX2_move_2 197 = .ok (.invokevirtual 306, 3) := dk_182 1 50 (dk_at dksX2_move_2_8 11 rfl rfl)
theorem dX2_move_2_200 : decode cX2_move_2 200 = .ok (.imul, 1) := dk_104 (dk_at dksX2_move_2_8 14 rfl rfl)
theorem dX2_move_2_201 : decode cX2_move_2 201 = .ok (.iadd, 1) := dk_96 (dk_at dksX2_move_2_8 15 rfl rfl)
theorem dX2_move_2_202 : decode cX2_move_2 202 = .ok (.putfield 322, 3) := dk_181 1 66 (dk_at dksX2_move_2_8 16 rfl rfl)
theorem dX2_move_2_205 : decode cX2_move_2 205 = .ok (.return_, 1) := dk_177 (dk_at dksX2_move_2_8 19 rfl rfl)
abbrev cX2_presell : ByteArray := prog_13_method_32_code
def yX2_presell : MethodName := ⟨RX2, "presell", "(IIII)I"⟩
def dkwX2_presell_6 : List UInt8 := [29, 104, 16, 20, 108, 100, 172]
abbrev dktX2_presell_6 : List UInt8 := dkwX2_presell_6 ++ []
def dkwX2_presell_5 : List UInt8 := [182, 0, 54, 153, 0, 5, 3, 172, 42, 27, 28, 29, 21, 4, 1, 182, 1, 25, 21, 4, 29, 104, 21, 4]
abbrev dktX2_presell_5 : List UInt8 := dkwX2_presell_5 ++ dktX2_presell_6
def dkwX2_presell_4 : List UInt8 := [28, 182, 0, 83, 192, 0, 197, 180, 1, 49, 21, 4, 29, 104, 162, 0, 7, 4, 167, 0, 4, 3, 6]
abbrev dktX2_presell_4 : List UInt8 := dkwX2_presell_4 ++ dktX2_presell_5
def dkwX2_presell_3 : List UInt8 := [58, 5, 42, 25, 5, 180, 0, 132, 154, 0, 33, 25, 5, 180, 0, 162, 29, 161, 0, 24, 42, 180, 0, 39]
abbrev dktX2_presell_3 : List UInt8 := dkwX2_presell_3 ++ dktX2_presell_4
def dkwX2_presell_2 : List UInt8 := [167, 0, 4, 3, 5, 182, 0, 54, 153, 0, 5, 3, 172, 42, 180, 0, 33, 27, 182, 0, 83, 192, 0, 112]
abbrev dktX2_presell_2 : List UInt8 := dkwX2_presell_2 ++ dktX2_presell_3
def dkwX2_presell_1 : List UInt8 := [182, 0, 69, 154, 0, 32, 42, 29, 4, 161, 0, 14, 21, 4, 4, 16, 99, 184, 0, 62, 154, 0, 7, 4]
abbrev dktX2_presell_1 : List UInt8 := dkwX2_presell_1 ++ dktX2_presell_2
def dkwX2_presell_0 : List UInt8 := [42, 42, 27, 182, 0, 129, 154, 0, 11, 42, 28, 182, 0, 245, 153, 0, 7, 4, 167, 0, 4, 3, 4]
abbrev dktX2_presell_0 : List UInt8 := dkwX2_presell_0 ++ dktX2_presell_1
theorem dksX2_presell_0 : cX2_presell.data.toList.drop 0 = dktX2_presell_0 := by decide +kernel
theorem dksX2_presell_1 : cX2_presell.data.toList.drop 23 = dktX2_presell_1 := dk_seg dksX2_presell_0 23 rfl rfl
theorem dksX2_presell_2 : cX2_presell.data.toList.drop 47 = dktX2_presell_2 := dk_seg dksX2_presell_1 24 rfl rfl
theorem dksX2_presell_3 : cX2_presell.data.toList.drop 71 = dktX2_presell_3 := dk_seg dksX2_presell_2 24 rfl rfl
theorem dksX2_presell_4 : cX2_presell.data.toList.drop 95 = dktX2_presell_4 := dk_seg dksX2_presell_3 24 rfl rfl
theorem dksX2_presell_5 : cX2_presell.data.toList.drop 118 = dktX2_presell_5 := dk_seg dksX2_presell_4 23 rfl rfl
theorem dksX2_presell_6 : cX2_presell.data.toList.drop 142 = dktX2_presell_6 := dk_seg dksX2_presell_5 24 rfl rfl
theorem dX2_presell_0 : decode cX2_presell 0 = .ok (.aload_n 0, 1) := dk_42 (dk_at dksX2_presell_0 0 rfl rfl)
theorem dX2_presell_1 : decode cX2_presell 1 = .ok (.aload_n 0, 1) := dk_42 (dk_at dksX2_presell_0 1 rfl rfl)
theorem dX2_presell_2 : decode cX2_presell 2 = .ok (.iload_n 1, 1) := dk_27 (dk_at dksX2_presell_0 2 rfl rfl)
theorem dX2_presell_3 : decode cX2_presell 3 = .ok (.invokevirtual 129, 3) := dk_182 0 129 (dk_at dksX2_presell_0 3 rfl rfl)
theorem dX2_presell_6 : decode cX2_presell 6 = .ok (.ifCond .ne 11, 3) := dk_154 0 11 (dk_at dksX2_presell_0 6 rfl rfl)
theorem dX2_presell_9 : decode cX2_presell 9 = .ok (.aload_n 0, 1) := dk_42 (dk_at dksX2_presell_0 9 rfl rfl)
theorem dX2_presell_10 : decode cX2_presell 10 = .ok (.iload_n 2, 1) := dk_28 (dk_at dksX2_presell_0 10 rfl rfl)
theorem dX2_presell_11 : decode cX2_presell 11 = .ok (.invokevirtual 245, 3) := dk_182 0 245 (dk_at dksX2_presell_0 11 rfl rfl)
theorem dX2_presell_14 : decode cX2_presell 14 = .ok (.ifCond .eq 7, 3) := dk_153 0 7 (dk_at dksX2_presell_0 14 rfl rfl)
theorem dX2_presell_17 : decode cX2_presell 17 = .ok (.iconst 1, 1) := dk_4 (dk_at dksX2_presell_0 17 rfl rfl)
theorem dX2_presell_18 : decode cX2_presell 18 = .ok (.goto 4, 3) := dk_167 0 4 (dk_at dksX2_presell_0 18 rfl rfl)
theorem dX2_presell_21 : decode cX2_presell 21 = .ok (.iconst 0, 1) := dk_3 (dk_at dksX2_presell_0 21 rfl rfl)
theorem dX2_presell_22 : decode cX2_presell 22 = .ok (.iconst 1, 1) := dk_4 (dk_at dksX2_presell_0 22 rfl rfl)
theorem dX2_presell_23 : decode cX2_presell 23 = .ok (.invokevirtual 69, 3) := dk_182 0 69 (dk_at dksX2_presell_1 0 rfl rfl)
theorem dX2_presell_26 : decode cX2_presell 26 = .ok (.ifCond .ne 32, 3) := dk_154 0 32 (dk_at dksX2_presell_1 3 rfl rfl)
theorem dX2_presell_29 : decode cX2_presell 29 = .ok (.aload_n 0, 1) := dk_42 (dk_at dksX2_presell_1 6 rfl rfl)
theorem dX2_presell_30 : decode cX2_presell 30 = .ok (.iload_n 3, 1) := dk_29 (dk_at dksX2_presell_1 7 rfl rfl)
theorem dX2_presell_31 : decode cX2_presell 31 = .ok (.iconst 1, 1) := dk_4 (dk_at dksX2_presell_1 8 rfl rfl)
theorem dX2_presell_32 : decode cX2_presell 32 = .ok (.if_icmp .lt 14, 3) := dk_161 0 14 (dk_at dksX2_presell_1 9 rfl rfl)
theorem dX2_presell_35 : decode cX2_presell 35 = .ok (.iload 4, 2) := dk_21 4 (dk_at dksX2_presell_1 12 rfl rfl)
theorem dX2_presell_37 : decode cX2_presell 37 = .ok (.iconst 1, 1) := dk_4 (dk_at dksX2_presell_1 14 rfl rfl)
theorem dX2_presell_38 : decode cX2_presell 38 = .ok (.bipush 99, 2) := dk_16 99 (dk_at dksX2_presell_1 15 rfl rfl)
theorem dX2_presell_40 : decode cX2_presell 40 = .ok (.invokestatic 62, 3) := dk_184 0 62 (dk_at dksX2_presell_1 17 rfl rfl)
theorem dX2_presell_43 : decode cX2_presell 43 = .ok (.ifCond .ne 7, 3) := dk_154 0 7 (dk_at dksX2_presell_1 20 rfl rfl)
theorem dX2_presell_46 : decode cX2_presell 46 = .ok (.iconst 1, 1) := dk_4 (dk_at dksX2_presell_1 23 rfl rfl)
theorem dX2_presell_47 : decode cX2_presell 47 = .ok (.goto 4, 3) := dk_167 0 4 (dk_at dksX2_presell_2 0 rfl rfl)
theorem dX2_presell_50 : decode cX2_presell 50 = .ok (.iconst 0, 1) := dk_3 (dk_at dksX2_presell_2 3 rfl rfl)
theorem dX2_presell_51 : decode cX2_presell 51 = .ok (.iconst 2, 1) := dk_5 (dk_at dksX2_presell_2 4 rfl rfl)
theorem dX2_presell_52 : decode cX2_presell 52 = .ok (.invokevirtual 54, 3) := dk_182 0 54 (dk_at dksX2_presell_2 5 rfl rfl)
theorem dX2_presell_55 : decode cX2_presell 55 = .ok (.ifCond .eq 5, 3) := dk_153 0 5 (dk_at dksX2_presell_2 8 rfl rfl)
theorem dX2_presell_58 : decode cX2_presell 58 = .ok (.iconst 0, 1) := dk_3 (dk_at dksX2_presell_2 11 rfl rfl)
theorem dX2_presell_59 : decode cX2_presell 59 = .ok (.ireturn, 1) := dk_172 (dk_at dksX2_presell_2 12 rfl rfl)
theorem dX2_presell_60 : decode cX2_presell 60 = .ok (.aload_n 0, 1) := dk_42 (dk_at dksX2_presell_2 13 rfl rfl)
theorem dX2_presell_61 : decode cX2_presell 61 = .ok (.getfield 33, 3) := dk_180 0 33 (dk_at dksX2_presell_2 14 rfl rfl)
theorem dX2_presell_64 : decode cX2_presell 64 = .ok (.iload_n 1, 1) := dk_27 (dk_at dksX2_presell_2 17 rfl rfl)
theorem dX2_presell_65 : decode cX2_presell 65 = .ok (.invokevirtual 83, 3) := dk_182 0 83 (dk_at dksX2_presell_2 18 rfl rfl)
theorem dX2_presell_68 : decode cX2_presell 68 = .ok (.checkcast 112, 3) := dk_192 0 112 (dk_at dksX2_presell_2 21 rfl rfl)
theorem dX2_presell_71 : decode cX2_presell 71 = .ok (.astore 5, 2) := dk_58 5 (dk_at dksX2_presell_3 0 rfl rfl)
theorem dX2_presell_73 : decode cX2_presell 73 = .ok (.aload_n 0, 1) := dk_42 (dk_at dksX2_presell_3 2 rfl rfl)
theorem dX2_presell_74 : decode cX2_presell 74 = .ok (.aload 5, 2) := dk_25 5 (dk_at dksX2_presell_3 3 rfl rfl)
theorem dX2_presell_76 : decode cX2_presell 76 = .ok (.getfield 132, 3) := dk_180 0 132 (dk_at dksX2_presell_3 5 rfl rfl)
theorem dX2_presell_79 : decode cX2_presell 79 = .ok (.ifCond .ne 33, 3) := dk_154 0 33 (dk_at dksX2_presell_3 8 rfl rfl)
theorem dX2_presell_82 : decode cX2_presell 82 = .ok (.aload 5, 2) := dk_25 5 (dk_at dksX2_presell_3 11 rfl rfl)
theorem dX2_presell_84 : decode cX2_presell 84 = .ok (.getfield 162, 3) := dk_180 0 162 (dk_at dksX2_presell_3 13 rfl rfl)
theorem dX2_presell_87 : decode cX2_presell 87 = .ok (.iload_n 3, 1) := dk_29 (dk_at dksX2_presell_3 16 rfl rfl)
theorem dX2_presell_88 : decode cX2_presell 88 = .ok (.if_icmp .lt 24, 3) := dk_161 0 24 (dk_at dksX2_presell_3 17 rfl rfl)
theorem dX2_presell_91 : decode cX2_presell 91 = .ok (.aload_n 0, 1) := dk_42 (dk_at dksX2_presell_3 20 rfl rfl)
theorem dX2_presell_92 : decode cX2_presell 92 = .ok (.getfield 39, 3) := dk_180 0 39 (dk_at dksX2_presell_3 21 rfl rfl)
theorem dX2_presell_95 : decode cX2_presell 95 = .ok (.iload_n 2, 1) := dk_28 (dk_at dksX2_presell_4 0 rfl rfl)
theorem dX2_presell_96 : decode cX2_presell 96 = .ok (.invokevirtual 83, 3) := dk_182 0 83 (dk_at dksX2_presell_4 1 rfl rfl)
theorem dX2_presell_99 : decode cX2_presell 99 = .ok (.checkcast 197, 3) := dk_192 0 197 (dk_at dksX2_presell_4 4 rfl rfl)
theorem dX2_presell_102 : decode cX2_presell 102 = .ok (.getfield 305, 3) := dk_180 1 49 (dk_at dksX2_presell_4 7 rfl rfl)
theorem dX2_presell_105 : decode cX2_presell 105 = .ok (.iload 4, 2) := dk_21 4 (dk_at dksX2_presell_4 10 rfl rfl)
theorem dX2_presell_107 : decode cX2_presell 107 = .ok (.iload_n 3, 1) := dk_29 (dk_at dksX2_presell_4 12 rfl rfl)
theorem dX2_presell_108 : decode cX2_presell 108 = .ok (.imul, 1) := dk_104 (dk_at dksX2_presell_4 13 rfl rfl)
theorem dX2_presell_109 : decode cX2_presell 109 = .ok (.if_icmp .ge 7, 3) := dk_162 0 7 (dk_at dksX2_presell_4 14 rfl rfl)
theorem dX2_presell_112 : decode cX2_presell 112 = .ok (.iconst 1, 1) := dk_4 (dk_at dksX2_presell_4 17 rfl rfl)
theorem dX2_presell_113 : decode cX2_presell 113 = .ok (.goto 4, 3) := dk_167 0 4 (dk_at dksX2_presell_4 18 rfl rfl)
theorem dX2_presell_116 : decode cX2_presell 116 = .ok (.iconst 0, 1) := dk_3 (dk_at dksX2_presell_4 21 rfl rfl)
theorem dX2_presell_117 : decode cX2_presell 117 = .ok (.iconst 3, 1) := dk_6 (dk_at dksX2_presell_4 22 rfl rfl)
theorem dX2_presell_118 : decode cX2_presell 118 = .ok (.invokevirtual 54, 3) := dk_182 0 54 (dk_at dksX2_presell_5 0 rfl rfl)
theorem dX2_presell_121 : decode cX2_presell 121 = .ok (.ifCond .eq 5, 3) := dk_153 0 5 (dk_at dksX2_presell_5 3 rfl rfl)
theorem dX2_presell_124 : decode cX2_presell 124 = .ok (.iconst 0, 1) := dk_3 (dk_at dksX2_presell_5 6 rfl rfl)
theorem dX2_presell_125 : decode cX2_presell 125 = .ok (.ireturn, 1) := dk_172 (dk_at dksX2_presell_5 7 rfl rfl)
theorem dX2_presell_126 : decode cX2_presell 126 = .ok (.aload_n 0, 1) := dk_42 (dk_at dksX2_presell_5 8 rfl rfl)
theorem dX2_presell_127 : decode cX2_presell 127 = .ok (.iload_n 1, 1) := dk_27 (dk_at dksX2_presell_5 9 rfl rfl)
theorem dX2_presell_128 : decode cX2_presell 128 = .ok (.iload_n 2, 1) := dk_28 (dk_at dksX2_presell_5 10 rfl rfl)
theorem dX2_presell_129 : decode cX2_presell 129 = .ok (.iload_n 3, 1) := dk_29 (dk_at dksX2_presell_5 11 rfl rfl)
theorem dX2_presell_130 : decode cX2_presell 130 = .ok (.iload 4, 2) := dk_21 4 (dk_at dksX2_presell_5 12 rfl rfl)
theorem dX2_presell_132 : decode cX2_presell 132 = .ok (.aconst_null, 1) := dk_1 (dk_at dksX2_presell_5 14 rfl rfl)
theorem dX2_presell_133 : decode cX2_presell 133 = .ok (.invokevirtual 281, 3) := dk_182 1 25 (dk_at dksX2_presell_5 15 rfl rfl)
theorem dX2_presell_136 : decode cX2_presell 136 = .ok (.iload 4, 2) := dk_21 4 (dk_at dksX2_presell_5 18 rfl rfl)
theorem dX2_presell_138 : decode cX2_presell 138 = .ok (.iload_n 3, 1) := dk_29 (dk_at dksX2_presell_5 20 rfl rfl)
theorem dX2_presell_139 : decode cX2_presell 139 = .ok (.imul, 1) := dk_104 (dk_at dksX2_presell_5 21 rfl rfl)
theorem dX2_presell_140 : decode cX2_presell 140 = .ok (.iload 4, 2) := dk_21 4 (dk_at dksX2_presell_5 22 rfl rfl)
theorem dX2_presell_142 : decode cX2_presell 142 = .ok (.iload_n 3, 1) := dk_29 (dk_at dksX2_presell_6 0 rfl rfl)
theorem dX2_presell_143 : decode cX2_presell 143 = .ok (.imul, 1) := dk_104 (dk_at dksX2_presell_6 1 rfl rfl)
theorem dX2_presell_144 : decode cX2_presell 144 = .ok (.bipush 20, 2) := dk_16 20 (dk_at dksX2_presell_6 2 rfl rfl)
theorem dX2_presell_146 : decode cX2_presell 146 = .ok (.idiv, 1) := dk_108 (dk_at dksX2_presell_6 4 rfl rfl)
theorem dX2_presell_147 : decode cX2_presell 147 = .ok (.isub, 1) := dk_100 (dk_at dksX2_presell_6 5 rfl rfl)
theorem dX2_presell_148 : decode cX2_presell 148 = .ok (.ireturn, 1) := dk_172 (dk_at dksX2_presell_6 6 rfl rfl)
abbrev cX2_undo : ByteArray := prog_13_method_33_code
def yX2_undo : MethodName := ⟨RX2, "undo", "()I"⟩
def dkwX2_undo_8 : List UInt8 := [180, 0, 132, 5, 160, 0, 8, 44, 3, 181, 0, 132, 43, 180, 1, 62, 172]
abbrev dktX2_undo_8 : List UInt8 := dkwX2_undo_8 ++ []
def dkwX2_undo_7 : List UInt8 := [180, 1, 79, 198, 0, 19, 43, 180, 1, 79, 89, 180, 1, 29, 43, 180, 1, 62, 96, 181, 1, 29, 44]
abbrev dktX2_undo_7 : List UInt8 := dkwX2_undo_7 ++ dktX2_undo_8
def dkwX2_undo_6 : List UInt8 := [182, 0, 184, 87, 42, 180, 0, 45, 43, 180, 1, 70, 182, 1, 77, 87, 42, 43, 2, 182, 1, 41, 43]
abbrev dktX2_undo_6 : List UInt8 := dkwX2_undo_6 ++ dktX2_undo_7
def dkwX2_undo_5 : List UInt8 := [4, 182, 0, 54, 153, 0, 5, 3, 172, 42, 180, 0, 48, 42, 180, 0, 48, 182, 0, 58, 4, 100]
abbrev dktX2_undo_5 : List UInt8 := dkwX2_undo_5 ++ dktX2_undo_6
def dkwX2_undo_4 : List UInt8 := [180, 1, 48, 182, 0, 83, 192, 0, 197, 180, 1, 54, 43, 180, 1, 53, 162, 0, 7, 4, 167, 0, 4, 3]
abbrev dktX2_undo_4 : List UInt8 := dkwX2_undo_4 ++ dktX2_undo_5
def dkwX2_undo_3 : List UInt8 := [180, 1, 70, 182, 1, 74, 153, 0, 35, 44, 180, 0, 132, 6, 159, 0, 27, 42, 180, 0, 39, 43]
abbrev dktX2_undo_3 : List UInt8 := dkwX2_undo_3 ++ dktX2_undo_4
def dkwX2_undo_2 : List UInt8 := [182, 0, 83, 192, 0, 112, 77, 42, 43, 180, 1, 69, 42, 180, 0, 66, 160, 0, 49, 42, 180, 0, 45, 43]
abbrev dktX2_undo_2 : List UInt8 := dkwX2_undo_2 ++ dktX2_undo_3
def dkwX2_undo_1 : List UInt8 := [180, 0, 48, 182, 0, 58, 4, 100, 182, 0, 83, 192, 1, 36, 76, 42, 180, 0, 33, 43, 180, 1, 45]
abbrev dktX2_undo_1 : List UInt8 := dkwX2_undo_1 ++ dktX2_undo_2
def dkwX2_undo_0 : List UInt8 := [42, 42, 180, 0, 48, 182, 0, 179, 4, 182, 0, 69, 153, 0, 5, 3, 172, 42, 180, 0, 48, 42]
abbrev dktX2_undo_0 : List UInt8 := dkwX2_undo_0 ++ dktX2_undo_1
theorem dksX2_undo_0 : cX2_undo.data.toList.drop 0 = dktX2_undo_0 := by decide +kernel
theorem dksX2_undo_1 : cX2_undo.data.toList.drop 22 = dktX2_undo_1 := dk_seg dksX2_undo_0 22 rfl rfl
theorem dksX2_undo_2 : cX2_undo.data.toList.drop 45 = dktX2_undo_2 := dk_seg dksX2_undo_1 23 rfl rfl
theorem dksX2_undo_3 : cX2_undo.data.toList.drop 69 = dktX2_undo_3 := dk_seg dksX2_undo_2 24 rfl rfl
theorem dksX2_undo_4 : cX2_undo.data.toList.drop 91 = dktX2_undo_4 := dk_seg dksX2_undo_3 22 rfl rfl
theorem dksX2_undo_5 : cX2_undo.data.toList.drop 115 = dktX2_undo_5 := dk_seg dksX2_undo_4 24 rfl rfl
theorem dksX2_undo_6 : cX2_undo.data.toList.drop 137 = dktX2_undo_6 := dk_seg dksX2_undo_5 22 rfl rfl
theorem dksX2_undo_7 : cX2_undo.data.toList.drop 160 = dktX2_undo_7 := dk_seg dksX2_undo_6 23 rfl rfl
theorem dksX2_undo_8 : cX2_undo.data.toList.drop 183 = dktX2_undo_8 := dk_seg dksX2_undo_7 23 rfl rfl
theorem dX2_undo_0 : decode cX2_undo 0 = .ok (.aload_n 0, 1) := dk_42 (dk_at dksX2_undo_0 0 rfl rfl)
theorem dX2_undo_1 : decode cX2_undo 1 = .ok (.aload_n 0, 1) := dk_42 (dk_at dksX2_undo_0 1 rfl rfl)
theorem dX2_undo_2 : decode cX2_undo 2 = .ok (.getfield 48, 3) := dk_180 0 48 (dk_at dksX2_undo_0 2 rfl rfl)
theorem dX2_undo_5 : decode cX2_undo 5 = .ok (.invokevirtual 179, 3) := dk_182 0 179 (dk_at dksX2_undo_0 5 rfl rfl)
theorem dX2_undo_8 : decode cX2_undo 8 = .ok (.iconst 1, 1) := dk_4 (dk_at dksX2_undo_0 8 rfl rfl)
theorem dX2_undo_9 : decode cX2_undo 9 = .ok (.invokevirtual 69, 3) := dk_182 0 69 (dk_at dksX2_undo_0 9 rfl rfl)
theorem dX2_undo_12 : decode cX2_undo 12 = .ok (.ifCond .eq 5, 3) := dk_153 0 5 (dk_at dksX2_undo_0 12 rfl rfl)
theorem dX2_undo_15 : decode cX2_undo 15 = .ok (.iconst 0, 1) := dk_3 (dk_at dksX2_undo_0 15 rfl rfl)
theorem dX2_undo_16 : decode cX2_undo 16 = .ok (.ireturn, 1) := dk_172 (dk_at dksX2_undo_0 16 rfl rfl)
theorem dX2_undo_17 : decode cX2_undo 17 = .ok (.aload_n 0, 1) := dk_42 (dk_at dksX2_undo_0 17 rfl rfl)
theorem dX2_undo_18 : decode cX2_undo 18 = .ok (.getfield 48, 3) := dk_180 0 48 (dk_at dksX2_undo_0 18 rfl rfl)
theorem dX2_undo_21 : decode cX2_undo 21 = .ok (.aload_n 0, 1) := dk_42 (dk_at dksX2_undo_0 21 rfl rfl)
theorem dX2_undo_22 : decode cX2_undo 22 = .ok (.getfield 48, 3) := dk_180 0 48 (dk_at dksX2_undo_1 0 rfl rfl)
theorem dX2_undo_25 : decode cX2_undo 25 = .ok (.invokevirtual 58, 3) := dk_182 0 58 (dk_at dksX2_undo_1 3 rfl rfl)
theorem dX2_undo_28 : decode cX2_undo 28 = .ok (.iconst 1, 1) := dk_4 (dk_at dksX2_undo_1 6 rfl rfl)
theorem dX2_undo_29 : decode cX2_undo 29 = .ok (.isub, 1) := dk_100 (dk_at dksX2_undo_1 7 rfl rfl)
theorem dX2_undo_30 : decode cX2_undo 30 = .ok (.invokevirtual 83, 3) := dk_182 0 83 (dk_at dksX2_undo_1 8 rfl rfl)
theorem dX2_undo_33 : decode cX2_undo 33 = .ok (.checkcast 292, 3) := dk_192 1 36 (dk_at dksX2_undo_1 11 rfl rfl)
theorem dX2_undo_36 : decode cX2_undo 36 = .ok (.astore_n 1, 1) := dk_76 (dk_at dksX2_undo_1 14 rfl rfl)
theorem dX2_undo_37 : decode cX2_undo 37 = .ok (.aload_n 0, 1) := dk_42 (dk_at dksX2_undo_1 15 rfl rfl)
theorem dX2_undo_38 : decode cX2_undo 38 = .ok (.getfield 33, 3) := dk_180 0 33 (dk_at dksX2_undo_1 16 rfl rfl)
theorem dX2_undo_41 : decode cX2_undo 41 = .ok (.aload_n 1, 1) := dk_43 (dk_at dksX2_undo_1 19 rfl rfl)
theorem dX2_undo_42 : decode cX2_undo 42 = .ok (.getfield 301, 3) := dk_180 1 45 (dk_at dksX2_undo_1 20 rfl rfl)
theorem dX2_undo_45 : decode cX2_undo 45 = .ok (.invokevirtual 83, 3) := dk_182 0 83 (dk_at dksX2_undo_2 0 rfl rfl)
theorem dX2_undo_48 : decode cX2_undo 48 = .ok (.checkcast 112, 3) := dk_192 0 112 (dk_at dksX2_undo_2 3 rfl rfl)
theorem dX2_undo_51 : decode cX2_undo 51 = .ok (.astore_n 2, 1) := dk_77 (dk_at dksX2_undo_2 6 rfl rfl)
theorem dX2_undo_52 : decode cX2_undo 52 = .ok (.aload_n 0, 1) := dk_42 (dk_at dksX2_undo_2 7 rfl rfl)
theorem dX2_undo_53 : decode cX2_undo 53 = .ok (.aload_n 1, 1) := dk_43 (dk_at dksX2_undo_2 8 rfl rfl)
theorem dX2_undo_54 : decode cX2_undo 54 = .ok (.getfield 325, 3) := dk_180 1 69 (dk_at dksX2_undo_2 9 rfl rfl)
theorem dX2_undo_57 : decode cX2_undo 57 = .ok (.aload_n 0, 1) := dk_42 (dk_at dksX2_undo_2 12 rfl rfl)
theorem dX2_undo_58 : decode cX2_undo 58 = .ok (.getfield 66, 3) := dk_180 0 66 (dk_at dksX2_undo_2 13 rfl rfl)
theorem dX2_undo_61 : decode cX2_undo 61 = .ok (.if_icmp .ne 49, 3) := dk_160 0 49 (dk_at dksX2_undo_2 16 rfl rfl)
theorem dX2_undo_64 : decode cX2_undo 64 = .ok (.aload_n 0, 1) := dk_42 (dk_at dksX2_undo_2 19 rfl rfl)
theorem dX2_undo_65 : decode cX2_undo 65 = .ok (.getfield 45, 3) := dk_180 0 45 (dk_at dksX2_undo_2 20 rfl rfl)
theorem dX2_undo_68 : decode cX2_undo 68 = .ok (.aload_n 1, 1) := dk_43 (dk_at dksX2_undo_2 23 rfl rfl)
theorem dX2_undo_69 : decode cX2_undo 69 = .ok (.getfield 326, 3) := dk_180 1 70 (dk_at dksX2_undo_3 0 rfl rfl)
theorem dX2_undo_72 : decode cX2_undo 72 = .ok (.invokevirtual 330, 3) := dk_182 1 74 (dk_at dksX2_undo_3 3 rfl rfl)
theorem dX2_undo_75 : decode cX2_undo 75 = .ok (.ifCond .eq 35, 3) := dk_153 0 35 (dk_at dksX2_undo_3 6 rfl rfl)
theorem dX2_undo_78 : decode cX2_undo 78 = .ok (.aload_n 2, 1) := dk_44 (dk_at dksX2_undo_3 9 rfl rfl)
theorem dX2_undo_79 : decode cX2_undo 79 = .ok (.getfield 132, 3) := dk_180 0 132 (dk_at dksX2_undo_3 10 rfl rfl)
theorem dX2_undo_82 : decode cX2_undo 82 = .ok (.iconst 3, 1) := dk_6 (dk_at dksX2_undo_3 13 rfl rfl)
theorem dX2_undo_83 : decode cX2_undo 83 = .ok (.if_icmp .eq 27, 3) := dk_159 0 27 (dk_at dksX2_undo_3 14 rfl rfl)
theorem dX2_undo_86 : decode cX2_undo 86 = .ok (.aload_n 0, 1) := dk_42 (dk_at dksX2_undo_3 17 rfl rfl)
theorem dX2_undo_87 : decode cX2_undo 87 = .ok (.getfield 39, 3) := dk_180 0 39 (dk_at dksX2_undo_3 18 rfl rfl)
theorem dX2_undo_90 : decode cX2_undo 90 = .ok (.aload_n 1, 1) := dk_43 (dk_at dksX2_undo_3 21 rfl rfl)
theorem dX2_undo_91 : decode cX2_undo 91 = .ok (.getfield 304, 3) := dk_180 1 48 (dk_at dksX2_undo_4 0 rfl rfl)
theorem dX2_undo_94 : decode cX2_undo 94 = .ok (.invokevirtual 83, 3) := dk_182 0 83 (dk_at dksX2_undo_4 3 rfl rfl)
theorem dX2_undo_97 : decode cX2_undo 97 = .ok (.checkcast 197, 3) := dk_192 0 197 (dk_at dksX2_undo_4 6 rfl rfl)
theorem dX2_undo_100 : decode cX2_undo 100 = .ok (.getfield 310, 3) := dk_180 1 54 (dk_at dksX2_undo_4 9 rfl rfl)
theorem dX2_undo_103 : decode cX2_undo 103 = .ok (.aload_n 1, 1) := dk_43 (dk_at dksX2_undo_4 12 rfl rfl)
theorem dX2_undo_104 : decode cX2_undo 104 = .ok (.getfield 309, 3) := dk_180 1 53 (dk_at dksX2_undo_4 13 rfl rfl)
theorem dX2_undo_107 : decode cX2_undo 107 = .ok (.if_icmp .ge 7, 3) := dk_162 0 7 (dk_at dksX2_undo_4 16 rfl rfl)
theorem dX2_undo_110 : decode cX2_undo 110 = .ok (.iconst 1, 1) := dk_4 (dk_at dksX2_undo_4 19 rfl rfl)
theorem dX2_undo_111 : decode cX2_undo 111 = .ok (.goto 4, 3) := dk_167 0 4 (dk_at dksX2_undo_4 20 rfl rfl)
theorem dX2_undo_114 : decode cX2_undo 114 = .ok (.iconst 0, 1) := dk_3 (dk_at dksX2_undo_4 23 rfl rfl)
theorem dX2_undo_115 : decode cX2_undo 115 = .ok (.iconst 1, 1) := dk_4 (dk_at dksX2_undo_5 0 rfl rfl)
theorem dX2_undo_116 : decode cX2_undo 116 = .ok (.invokevirtual 54, 3) := dk_182 0 54 (dk_at dksX2_undo_5 1 rfl rfl)
theorem dX2_undo_119 : decode cX2_undo 119 = .ok (.ifCond .eq 5, 3) := dk_153 0 5 (dk_at dksX2_undo_5 4 rfl rfl)
theorem dX2_undo_122 : decode cX2_undo 122 = .ok (.iconst 0, 1) := dk_3 (dk_at dksX2_undo_5 7 rfl rfl)
theorem dX2_undo_123 : decode cX2_undo 123 = .ok (.ireturn, 1) := dk_172 (dk_at dksX2_undo_5 8 rfl rfl)
theorem dX2_undo_124 : decode cX2_undo 124 = .ok (.aload_n 0, 1) := dk_42 (dk_at dksX2_undo_5 9 rfl rfl)
theorem dX2_undo_125 : decode cX2_undo 125 = .ok (.getfield 48, 3) := dk_180 0 48 (dk_at dksX2_undo_5 10 rfl rfl)
theorem dX2_undo_128 : decode cX2_undo 128 = .ok (.aload_n 0, 1) := dk_42 (dk_at dksX2_undo_5 13 rfl rfl)
theorem dX2_undo_129 : decode cX2_undo 129 = .ok (.getfield 48, 3) := dk_180 0 48 (dk_at dksX2_undo_5 14 rfl rfl)
theorem dX2_undo_132 : decode cX2_undo 132 = .ok (.invokevirtual 58, 3) := dk_182 0 58 (dk_at dksX2_undo_5 17 rfl rfl)
theorem dX2_undo_135 : decode cX2_undo 135 = .ok (.iconst 1, 1) := dk_4 (dk_at dksX2_undo_5 20 rfl rfl)
theorem dX2_undo_136 : decode cX2_undo 136 = .ok (.isub, 1) := dk_100 (dk_at dksX2_undo_5 21 rfl rfl)
theorem dX2_undo_137 : decode cX2_undo 137 = .ok (.invokevirtual 184, 3) := dk_182 0 184 (dk_at dksX2_undo_6 0 rfl rfl)
theorem dX2_undo_140 : decode cX2_undo 140 = .ok (.pop, 1) := dk_87 (dk_at dksX2_undo_6 3 rfl rfl)
theorem dX2_undo_141 : decode cX2_undo 141 = .ok (.aload_n 0, 1) := dk_42 (dk_at dksX2_undo_6 4 rfl rfl)
theorem dX2_undo_142 : decode cX2_undo 142 = .ok (.getfield 45, 3) := dk_180 0 45 (dk_at dksX2_undo_6 5 rfl rfl)
theorem dX2_undo_145 : decode cX2_undo 145 = .ok (.aload_n 1, 1) := dk_43 (dk_at dksX2_undo_6 8 rfl rfl)
theorem dX2_undo_146 : decode cX2_undo 146 = .ok (.getfield 326, 3) := dk_180 1 70 (dk_at dksX2_undo_6 9 rfl rfl)
theorem dX2_undo_149 : decode cX2_undo 149 = .ok (.invokevirtual 333, 3) := dk_182 1 77 (dk_at dksX2_undo_6 12 rfl rfl)
theorem dX2_undo_152 : decode cX2_undo 152 = .ok (.pop, 1) := dk_87 (dk_at dksX2_undo_6 15 rfl rfl)
theorem dX2_undo_153 : decode cX2_undo 153 = .ok (.aload_n 0, 1) := dk_42 (dk_at dksX2_undo_6 16 rfl rfl)
theorem dX2_undo_154 : decode cX2_undo 154 = .ok (.aload_n 1, 1) := dk_43 (dk_at dksX2_undo_6 17 rfl rfl)
theorem dX2_undo_155 : decode cX2_undo 155 = .ok (.iconst (-1), 1) := dk_2 (dk_at dksX2_undo_6 18 rfl rfl)
theorem dX2_undo_156 : decode cX2_undo 156 = .ok (.invokevirtual 297, 3) := dk_182 1 41 (dk_at dksX2_undo_6 19 rfl rfl)
theorem dX2_undo_159 : decode cX2_undo 159 = .ok (.aload_n 1, 1) := dk_43 (dk_at dksX2_undo_6 22 rfl rfl)
theorem dX2_undo_160 : decode cX2_undo 160 = .ok (.getfield 335, 3) := dk_180 1 79 (dk_at dksX2_undo_7 0 rfl rfl)
theorem dX2_undo_163 : decode cX2_undo 163 = .ok (.ifnull 19, 3) := dk_198 0 19 (dk_at dksX2_undo_7 3 rfl rfl)
theorem dX2_undo_166 : decode cX2_undo 166 = .ok (.aload_n 1, 1) := dk_43 (dk_at dksX2_undo_7 6 rfl rfl)
theorem dX2_undo_167 : decode cX2_undo 167 = .ok (.getfield 335, 3) := dk_180 1 79 (dk_at dksX2_undo_7 7 rfl rfl)
theorem dX2_undo_170 : decode cX2_undo 170 = .ok (.dup, 1) := dk_89 (dk_at dksX2_undo_7 10 rfl rfl)
theorem dX2_undo_171 : decode cX2_undo 171 = .ok (.getfield 285, 3) := dk_180 1 29 (dk_at dksX2_undo_7 11 rfl rfl)
theorem dX2_undo_174 : decode cX2_undo 174 = .ok (.aload_n 1, 1) := dk_43 (dk_at dksX2_undo_7 14 rfl rfl)
theorem dX2_undo_175 : decode cX2_undo 175 = .ok (.getfield 318, 3) := dk_180 1 62 (dk_at dksX2_undo_7 15 rfl rfl)
theorem dX2_undo_178 : decode cX2_undo 178 = .ok (.iadd, 1) := dk_96 (dk_at dksX2_undo_7 18 rfl rfl)
theorem dX2_undo_179 : decode cX2_undo 179 = .ok (.putfield 285, 3) := dk_181 1 29 (dk_at dksX2_undo_7 19 rfl rfl)
theorem dX2_undo_182 : decode cX2_undo 182 = .ok (.aload_n 2, 1) := dk_44 (dk_at dksX2_undo_7 22 rfl rfl)
theorem dX2_undo_183 : decode cX2_undo 183 = .ok (.getfield 132, 3) := dk_180 0 132 (dk_at dksX2_undo_8 0 rfl rfl)
theorem dX2_undo_186 : decode cX2_undo 186 = .ok (.iconst 2, 1) := dk_5 (dk_at dksX2_undo_8 3 rfl rfl)
theorem dX2_undo_187 : decode cX2_undo 187 = .ok (.if_icmp .ne 8, 3) := dk_160 0 8 (dk_at dksX2_undo_8 4 rfl rfl)
theorem dX2_undo_190 : decode cX2_undo 190 = .ok (.aload_n 2, 1) := dk_44 (dk_at dksX2_undo_8 7 rfl rfl)
theorem dX2_undo_191 : decode cX2_undo 191 = .ok (.iconst 0, 1) := dk_3 (dk_at dksX2_undo_8 8 rfl rfl)
theorem dX2_undo_192 : decode cX2_undo 192 = .ok (.putfield 132, 3) := dk_181 0 132 (dk_at dksX2_undo_8 9 rfl rfl)
theorem dX2_undo_195 : decode cX2_undo 195 = .ok (.aload_n 1, 1) := dk_43 (dk_at dksX2_undo_8 12 rfl rfl)
theorem dX2_undo_196 : decode cX2_undo 196 = .ok (.getfield 318, 3) := dk_180 1 62 (dk_at dksX2_undo_8 13 rfl rfl)
theorem dX2_undo_199 : decode cX2_undo 199 = .ok (.ireturn, 1) := dk_172 (dk_at dksX2_undo_8 16 rfl rfl)
abbrev cX2_speed : ByteArray := prog_13_method_34_code
def yX2_speed : MethodName := ⟨RX2, "speed", "(I)I"⟩
def dkwX2_speed_1 : List UInt8 := [172, 42, 180, 0, 16, 61, 42, 27, 181, 0, 16, 28, 172]
abbrev dktX2_speed_1 : List UInt8 := dkwX2_speed_1 ++ []
def dkwX2_speed_0 : List UInt8 := [42, 27, 4, 16, 9, 184, 0, 62, 154, 0, 7, 4, 167, 0, 4, 3, 4, 182, 0, 69, 153, 0, 5, 3]
abbrev dktX2_speed_0 : List UInt8 := dkwX2_speed_0 ++ dktX2_speed_1
theorem dksX2_speed_0 : cX2_speed.data.toList.drop 0 = dktX2_speed_0 := by decide +kernel
theorem dksX2_speed_1 : cX2_speed.data.toList.drop 24 = dktX2_speed_1 := dk_seg dksX2_speed_0 24 rfl rfl
theorem dX2_speed_0 : decode cX2_speed 0 = .ok (.aload_n 0, 1) := dk_42 (dk_at dksX2_speed_0 0 rfl rfl)
theorem dX2_speed_1 : decode cX2_speed 1 = .ok (.iload_n 1, 1) := dk_27 (dk_at dksX2_speed_0 1 rfl rfl)
theorem dX2_speed_2 : decode cX2_speed 2 = .ok (.iconst 1, 1) := dk_4 (dk_at dksX2_speed_0 2 rfl rfl)
theorem dX2_speed_3 : decode cX2_speed 3 = .ok (.bipush 9, 2) := dk_16 9 (dk_at dksX2_speed_0 3 rfl rfl)
theorem dX2_speed_5 : decode cX2_speed 5 = .ok (.invokestatic 62, 3) := dk_184 0 62 (dk_at dksX2_speed_0 5 rfl rfl)
theorem dX2_speed_8 : decode cX2_speed 8 = .ok (.ifCond .ne 7, 3) := dk_154 0 7 (dk_at dksX2_speed_0 8 rfl rfl)
theorem dX2_speed_11 : decode cX2_speed 11 = .ok (.iconst 1, 1) := dk_4 (dk_at dksX2_speed_0 11 rfl rfl)
theorem dX2_speed_12 : decode cX2_speed 12 = .ok (.goto 4, 3) := dk_167 0 4 (dk_at dksX2_speed_0 12 rfl rfl)
theorem dX2_speed_15 : decode cX2_speed 15 = .ok (.iconst 0, 1) := dk_3 (dk_at dksX2_speed_0 15 rfl rfl)
theorem dX2_speed_16 : decode cX2_speed 16 = .ok (.iconst 1, 1) := dk_4 (dk_at dksX2_speed_0 16 rfl rfl)
theorem dX2_speed_17 : decode cX2_speed 17 = .ok (.invokevirtual 69, 3) := dk_182 0 69 (dk_at dksX2_speed_0 17 rfl rfl)
theorem dX2_speed_20 : decode cX2_speed 20 = .ok (.ifCond .eq 5, 3) := dk_153 0 5 (dk_at dksX2_speed_0 20 rfl rfl)
theorem dX2_speed_23 : decode cX2_speed 23 = .ok (.iconst 0, 1) := dk_3 (dk_at dksX2_speed_0 23 rfl rfl)
theorem dX2_speed_24 : decode cX2_speed 24 = .ok (.ireturn, 1) := dk_172 (dk_at dksX2_speed_1 0 rfl rfl)
theorem dX2_speed_25 : decode cX2_speed 25 = .ok (.aload_n 0, 1) := dk_42 (dk_at dksX2_speed_1 1 rfl rfl)
theorem dX2_speed_26 : decode cX2_speed 26 = .ok (.getfield 16, 3) := dk_180 0 16 (dk_at dksX2_speed_1 2 rfl rfl)
theorem dX2_speed_29 : decode cX2_speed 29 = .ok (.istore_n 2, 1) := dk_61 (dk_at dksX2_speed_1 5 rfl rfl)
theorem dX2_speed_30 : decode cX2_speed 30 = .ok (.aload_n 0, 1) := dk_42 (dk_at dksX2_speed_1 6 rfl rfl)
theorem dX2_speed_31 : decode cX2_speed 31 = .ok (.iload_n 1, 1) := dk_27 (dk_at dksX2_speed_1 7 rfl rfl)
theorem dX2_speed_32 : decode cX2_speed 32 = .ok (.putfield 16, 3) := dk_181 0 16 (dk_at dksX2_speed_1 8 rfl rfl)
theorem dX2_speed_35 : decode cX2_speed 35 = .ok (.iload_n 2, 1) := dk_28 (dk_at dksX2_speed_1 11 rfl rfl)
theorem dX2_speed_36 : decode cX2_speed 36 = .ok (.ireturn, 1) := dk_172 (dk_at dksX2_speed_1 12 rfl rfl)
abbrev cX2_bind : ByteArray := prog_13_method_35_code
def yX2_bind : MethodName := ⟨RX2, "bind", "(II)I"⟩
def dkwX2_bind_2 : List UInt8 := [180, 0, 39, 27, 182, 0, 83, 192, 0, 197, 182, 1, 82, 153, 0, 9, 132, 3, 1, 167, 255, 231, 29, 172]
abbrev dktX2_bind_2 : List UInt8 := dkwX2_bind_2 ++ []
def dkwX2_bind_1 : List UInt8 := [4, 167, 0, 4, 3, 5, 182, 0, 54, 153, 0, 5, 3, 172, 3, 62, 29, 28, 162, 0, 26, 42]
abbrev dktX2_bind_1 : List UInt8 := dkwX2_bind_1 ++ dktX2_bind_2
def dkwX2_bind_0 : List UInt8 := [42, 42, 27, 182, 0, 245, 4, 182, 0, 69, 154, 0, 26, 42, 28, 4, 16, 99, 184, 0, 62, 154, 0, 7]
abbrev dktX2_bind_0 : List UInt8 := dkwX2_bind_0 ++ dktX2_bind_1
theorem dksX2_bind_0 : cX2_bind.data.toList.drop 0 = dktX2_bind_0 := by decide +kernel
theorem dksX2_bind_1 : cX2_bind.data.toList.drop 24 = dktX2_bind_1 := dk_seg dksX2_bind_0 24 rfl rfl
theorem dksX2_bind_2 : cX2_bind.data.toList.drop 46 = dktX2_bind_2 := dk_seg dksX2_bind_1 22 rfl rfl
theorem dX2_bind_0 : decode cX2_bind 0 = .ok (.aload_n 0, 1) := dk_42 (dk_at dksX2_bind_0 0 rfl rfl)
theorem dX2_bind_1 : decode cX2_bind 1 = .ok (.aload_n 0, 1) := dk_42 (dk_at dksX2_bind_0 1 rfl rfl)
theorem dX2_bind_2 : decode cX2_bind 2 = .ok (.iload_n 1, 1) := dk_27 (dk_at dksX2_bind_0 2 rfl rfl)
theorem dX2_bind_3 : decode cX2_bind 3 = .ok (.invokevirtual 245, 3) := dk_182 0 245 (dk_at dksX2_bind_0 3 rfl rfl)
theorem dX2_bind_6 : decode cX2_bind 6 = .ok (.iconst 1, 1) := dk_4 (dk_at dksX2_bind_0 6 rfl rfl)
theorem dX2_bind_7 : decode cX2_bind 7 = .ok (.invokevirtual 69, 3) := dk_182 0 69 (dk_at dksX2_bind_0 7 rfl rfl)
theorem dX2_bind_10 : decode cX2_bind 10 = .ok (.ifCond .ne 26, 3) := dk_154 0 26 (dk_at dksX2_bind_0 10 rfl rfl)
theorem dX2_bind_13 : decode cX2_bind 13 = .ok (.aload_n 0, 1) := dk_42 (dk_at dksX2_bind_0 13 rfl rfl)
theorem dX2_bind_14 : decode cX2_bind 14 = .ok (.iload_n 2, 1) := dk_28 (dk_at dksX2_bind_0 14 rfl rfl)
theorem dX2_bind_15 : decode cX2_bind 15 = .ok (.iconst 1, 1) := dk_4 (dk_at dksX2_bind_0 15 rfl rfl)
theorem dX2_bind_16 : decode cX2_bind 16 = .ok (.bipush 99, 2) := dk_16 99 (dk_at dksX2_bind_0 16 rfl rfl)
theorem dX2_bind_18 : decode cX2_bind 18 = .ok (.invokestatic 62, 3) := dk_184 0 62 (dk_at dksX2_bind_0 18 rfl rfl)
theorem dX2_bind_21 : decode cX2_bind 21 = .ok (.ifCond .ne 7, 3) := dk_154 0 7 (dk_at dksX2_bind_0 21 rfl rfl)
theorem dX2_bind_24 : decode cX2_bind 24 = .ok (.iconst 1, 1) := dk_4 (dk_at dksX2_bind_1 0 rfl rfl)
theorem dX2_bind_25 : decode cX2_bind 25 = .ok (.goto 4, 3) := dk_167 0 4 (dk_at dksX2_bind_1 1 rfl rfl)
theorem dX2_bind_28 : decode cX2_bind 28 = .ok (.iconst 0, 1) := dk_3 (dk_at dksX2_bind_1 4 rfl rfl)
theorem dX2_bind_29 : decode cX2_bind 29 = .ok (.iconst 2, 1) := dk_5 (dk_at dksX2_bind_1 5 rfl rfl)
theorem dX2_bind_30 : decode cX2_bind 30 = .ok (.invokevirtual 54, 3) := dk_182 0 54 (dk_at dksX2_bind_1 6 rfl rfl)
theorem dX2_bind_33 : decode cX2_bind 33 = .ok (.ifCond .eq 5, 3) := dk_153 0 5 (dk_at dksX2_bind_1 9 rfl rfl)
theorem dX2_bind_36 : decode cX2_bind 36 = .ok (.iconst 0, 1) := dk_3 (dk_at dksX2_bind_1 12 rfl rfl)
theorem dX2_bind_37 : decode cX2_bind 37 = .ok (.ireturn, 1) := dk_172 (dk_at dksX2_bind_1 13 rfl rfl)
theorem dX2_bind_38 : decode cX2_bind 38 = .ok (.iconst 0, 1) := dk_3 (dk_at dksX2_bind_1 14 rfl rfl)
theorem dX2_bind_39 : decode cX2_bind 39 = .ok (.istore_n 3, 1) := dk_62 (dk_at dksX2_bind_1 15 rfl rfl)
theorem dX2_bind_40 : decode cX2_bind 40 = .ok (.iload_n 3, 1) := dk_29 (dk_at dksX2_bind_1 16 rfl rfl)
theorem dX2_bind_41 : decode cX2_bind 41 = .ok (.iload_n 2, 1) := dk_28 (dk_at dksX2_bind_1 17 rfl rfl)
theorem dX2_bind_42 : decode cX2_bind 42 = .ok (.if_icmp .ge 26, 3) := dk_162 0 26 (dk_at dksX2_bind_1 18 rfl rfl)
theorem dX2_bind_45 : decode cX2_bind 45 = .ok (.aload_n 0, 1) := dk_42 (dk_at dksX2_bind_1 21 rfl rfl)
theorem dX2_bind_46 : decode cX2_bind 46 = .ok (.getfield 39, 3) := dk_180 0 39 (dk_at dksX2_bind_2 0 rfl rfl)
theorem dX2_bind_49 : decode cX2_bind 49 = .ok (.iload_n 1, 1) := dk_27 (dk_at dksX2_bind_2 3 rfl rfl)
theorem dX2_bind_50 : decode cX2_bind 50 = .ok (.invokevirtual 83, 3) := dk_182 0 83 (dk_at dksX2_bind_2 4 rfl rfl)
theorem dX2_bind_53 : decode cX2_bind 53 = .ok (.checkcast 197, 3) := dk_192 0 197 (dk_at dksX2_bind_2 7 rfl rfl)
theorem dX2_bind_56 : decode cX2_bind 56 = .ok (.invokevirtual 338, 3) := dk_182 1 82 (dk_at dksX2_bind_2 10 rfl rfl)
theorem dX2_bind_59 : decode cX2_bind 59 = .ok (.ifCond .eq 9, 3) := dk_153 0 9 (dk_at dksX2_bind_2 13 rfl rfl)
theorem dX2_bind_62 : decode cX2_bind 62 = .ok (.iinc 3 1, 3) := dk_132 3 1 (dk_at dksX2_bind_2 16 rfl rfl)
theorem dX2_bind_65 : decode cX2_bind 65 = .ok (.goto (-25), 3) := dk_167 255 231 (dk_at dksX2_bind_2 19 rfl rfl)
theorem dX2_bind_68 : decode cX2_bind 68 = .ok (.iload_n 3, 1) := dk_29 (dk_at dksX2_bind_2 22 rfl rfl)
theorem dX2_bind_69 : decode cX2_bind 69 = .ok (.ireturn, 1) := dk_172 (dk_at dksX2_bind_2 23 rfl rfl)
abbrev cX2_back : ByteArray := prog_13_method_36_code
def yX2_back : MethodName := ⟨RX2, "back", "(II)I"⟩
def dkwX2_back_5 : List UInt8 := [181, 0, 13, 42, 180, 0, 13, 172]
abbrev dktX2_back_5 : List UInt8 := dkwX2_back_5 ++ []
def dkwX2_back_4 : List UInt8 := [104, 96, 181, 1, 49, 42, 89, 180, 1, 55, 5, 28, 104, 100, 181, 1, 55, 42, 89, 180, 0, 13, 28, 96]
abbrev dktX2_back_4 : List UInt8 := dkwX2_back_4 ++ dktX2_back_5
def dkwX2_back_3 : List UInt8 := [182, 0, 83, 192, 0, 197, 78, 45, 89, 180, 1, 54, 28, 100, 181, 1, 54, 45, 89, 180, 1, 49, 5, 28]
abbrev dktX2_back_3 : List UInt8 := dkwX2_back_3 ++ dktX2_back_4
def dkwX2_back_2 : List UInt8 := [162, 0, 7, 4, 167, 0, 4, 3, 6, 182, 0, 54, 153, 0, 5, 3, 172, 42, 180, 0, 39, 27]
abbrev dktX2_back_2 : List UInt8 := dkwX2_back_2 ++ dktX2_back_3
def dkwX2_back_1 : List UInt8 := [5, 182, 0, 54, 154, 0, 34, 42, 42, 180, 0, 39, 27, 182, 0, 83, 192, 0, 197, 180, 1, 54, 28]
abbrev dktX2_back_1 : List UInt8 := dkwX2_back_1 ++ dktX2_back_2
def dkwX2_back_0 : List UInt8 := [42, 42, 27, 182, 0, 245, 4, 182, 0, 69, 154, 0, 52, 42, 28, 4, 162, 0, 7, 4, 167, 0, 4, 3]
abbrev dktX2_back_0 : List UInt8 := dkwX2_back_0 ++ dktX2_back_1
theorem dksX2_back_0 : cX2_back.data.toList.drop 0 = dktX2_back_0 := by decide +kernel
theorem dksX2_back_1 : cX2_back.data.toList.drop 24 = dktX2_back_1 := dk_seg dksX2_back_0 24 rfl rfl
theorem dksX2_back_2 : cX2_back.data.toList.drop 47 = dktX2_back_2 := dk_seg dksX2_back_1 23 rfl rfl
theorem dksX2_back_3 : cX2_back.data.toList.drop 69 = dktX2_back_3 := dk_seg dksX2_back_2 22 rfl rfl
theorem dksX2_back_4 : cX2_back.data.toList.drop 93 = dktX2_back_4 := dk_seg dksX2_back_3 24 rfl rfl
theorem dksX2_back_5 : cX2_back.data.toList.drop 117 = dktX2_back_5 := dk_seg dksX2_back_4 24 rfl rfl
theorem dX2_back_0 : decode cX2_back 0 = .ok (.aload_n 0, 1) := dk_42 (dk_at dksX2_back_0 0 rfl rfl)
theorem dX2_back_1 : decode cX2_back 1 = .ok (.aload_n 0, 1) := dk_42 (dk_at dksX2_back_0 1 rfl rfl)
theorem dX2_back_2 : decode cX2_back 2 = .ok (.iload_n 1, 1) := dk_27 (dk_at dksX2_back_0 2 rfl rfl)
theorem dX2_back_3 : decode cX2_back 3 = .ok (.invokevirtual 245, 3) := dk_182 0 245 (dk_at dksX2_back_0 3 rfl rfl)
theorem dX2_back_6 : decode cX2_back 6 = .ok (.iconst 1, 1) := dk_4 (dk_at dksX2_back_0 6 rfl rfl)
theorem dX2_back_7 : decode cX2_back 7 = .ok (.invokevirtual 69, 3) := dk_182 0 69 (dk_at dksX2_back_0 7 rfl rfl)
theorem dX2_back_10 : decode cX2_back 10 = .ok (.ifCond .ne 52, 3) := dk_154 0 52 (dk_at dksX2_back_0 10 rfl rfl)
theorem dX2_back_13 : decode cX2_back 13 = .ok (.aload_n 0, 1) := dk_42 (dk_at dksX2_back_0 13 rfl rfl)
theorem dX2_back_14 : decode cX2_back 14 = .ok (.iload_n 2, 1) := dk_28 (dk_at dksX2_back_0 14 rfl rfl)
theorem dX2_back_15 : decode cX2_back 15 = .ok (.iconst 1, 1) := dk_4 (dk_at dksX2_back_0 15 rfl rfl)
theorem dX2_back_16 : decode cX2_back 16 = .ok (.if_icmp .ge 7, 3) := dk_162 0 7 (dk_at dksX2_back_0 16 rfl rfl)
theorem dX2_back_19 : decode cX2_back 19 = .ok (.iconst 1, 1) := dk_4 (dk_at dksX2_back_0 19 rfl rfl)
theorem dX2_back_20 : decode cX2_back 20 = .ok (.goto 4, 3) := dk_167 0 4 (dk_at dksX2_back_0 20 rfl rfl)
theorem dX2_back_23 : decode cX2_back 23 = .ok (.iconst 0, 1) := dk_3 (dk_at dksX2_back_0 23 rfl rfl)
theorem dX2_back_24 : decode cX2_back 24 = .ok (.iconst 2, 1) := dk_5 (dk_at dksX2_back_1 0 rfl rfl)
theorem dX2_back_25 : decode cX2_back 25 = .ok (.invokevirtual 54, 3) := dk_182 0 54 (dk_at dksX2_back_1 1 rfl rfl)
theorem dX2_back_28 : decode cX2_back 28 = .ok (.ifCond .ne 34, 3) := dk_154 0 34 (dk_at dksX2_back_1 4 rfl rfl)
theorem dX2_back_31 : decode cX2_back 31 = .ok (.aload_n 0, 1) := dk_42 (dk_at dksX2_back_1 7 rfl rfl)
theorem dX2_back_32 : decode cX2_back 32 = .ok (.aload_n 0, 1) := dk_42 (dk_at dksX2_back_1 8 rfl rfl)
theorem dX2_back_33 : decode cX2_back 33 = .ok (.getfield 39, 3) := dk_180 0 39 (dk_at dksX2_back_1 9 rfl rfl)
theorem dX2_back_36 : decode cX2_back 36 = .ok (.iload_n 1, 1) := dk_27 (dk_at dksX2_back_1 12 rfl rfl)
theorem dX2_back_37 : decode cX2_back 37 = .ok (.invokevirtual 83, 3) := dk_182 0 83 (dk_at dksX2_back_1 13 rfl rfl)
theorem dX2_back_40 : decode cX2_back 40 = .ok (.checkcast 197, 3) := dk_192 0 197 (dk_at dksX2_back_1 16 rfl rfl)
theorem dX2_back_43 : decode cX2_back 43 = .ok (.getfield 310, 3) := dk_180 1 54 (dk_at dksX2_back_1 19 rfl rfl)
theorem dX2_back_46 : decode cX2_back 46 = .ok (.iload_n 2, 1) := dk_28 (dk_at dksX2_back_1 22 rfl rfl)
theorem dX2_back_47 : decode cX2_back 47 = .ok (.if_icmp .ge 7, 3) := dk_162 0 7 (dk_at dksX2_back_2 0 rfl rfl)
theorem dX2_back_50 : decode cX2_back 50 = .ok (.iconst 1, 1) := dk_4 (dk_at dksX2_back_2 3 rfl rfl)
theorem dX2_back_51 : decode cX2_back 51 = .ok (.goto 4, 3) := dk_167 0 4 (dk_at dksX2_back_2 4 rfl rfl)
theorem dX2_back_54 : decode cX2_back 54 = .ok (.iconst 0, 1) := dk_3 (dk_at dksX2_back_2 7 rfl rfl)
theorem dX2_back_55 : decode cX2_back 55 = .ok (.iconst 3, 1) := dk_6 (dk_at dksX2_back_2 8 rfl rfl)
theorem dX2_back_56 : decode cX2_back 56 = .ok (.invokevirtual 54, 3) := dk_182 0 54 (dk_at dksX2_back_2 9 rfl rfl)
theorem dX2_back_59 : decode cX2_back 59 = .ok (.ifCond .eq 5, 3) := dk_153 0 5 (dk_at dksX2_back_2 12 rfl rfl)
theorem dX2_back_62 : decode cX2_back 62 = .ok (.iconst 0, 1) := dk_3 (dk_at dksX2_back_2 15 rfl rfl)
theorem dX2_back_63 : decode cX2_back 63 = .ok (.ireturn, 1) := dk_172 (dk_at dksX2_back_2 16 rfl rfl)
theorem dX2_back_64 : decode cX2_back 64 = .ok (.aload_n 0, 1) := dk_42 (dk_at dksX2_back_2 17 rfl rfl)
theorem dX2_back_65 : decode cX2_back 65 = .ok (.getfield 39, 3) := dk_180 0 39 (dk_at dksX2_back_2 18 rfl rfl)
theorem dX2_back_68 : decode cX2_back 68 = .ok (.iload_n 1, 1) := dk_27 (dk_at dksX2_back_2 21 rfl rfl)
theorem dX2_back_69 : decode cX2_back 69 = .ok (.invokevirtual 83, 3) := dk_182 0 83 (dk_at dksX2_back_3 0 rfl rfl)
theorem dX2_back_72 : decode cX2_back 72 = .ok (.checkcast 197, 3) := dk_192 0 197 (dk_at dksX2_back_3 3 rfl rfl)
theorem dX2_back_75 : decode cX2_back 75 = .ok (.astore_n 3, 1) := dk_78 (dk_at dksX2_back_3 6 rfl rfl)
theorem dX2_back_76 : decode cX2_back 76 = .ok (.aload_n 3, 1) := dk_45 (dk_at dksX2_back_3 7 rfl rfl)
theorem dX2_back_77 : decode cX2_back 77 = .ok (.dup, 1) := dk_89 (dk_at dksX2_back_3 8 rfl rfl)
theorem dX2_back_78 : decode cX2_back 78 = .ok (.getfield 310, 3) := dk_180 1 54 (dk_at dksX2_back_3 9 rfl rfl)
theorem dX2_back_81 : decode cX2_back 81 = .ok (.iload_n 2, 1) := dk_28 (dk_at dksX2_back_3 12 rfl rfl)
theorem dX2_back_82 : decode cX2_back 82 = .ok (.isub, 1) := dk_100 (dk_at dksX2_back_3 13 rfl rfl)
theorem dX2_back_83 : decode cX2_back 83 = .ok (.putfield 310, 3) := dk_181 1 54 (dk_at dksX2_back_3 14 rfl rfl)
theorem dX2_back_86 : decode cX2_back 86 = .ok (.aload_n 3, 1) := dk_45 (dk_at dksX2_back_3 17 rfl rfl)
theorem dX2_back_87 : decode cX2_back 87 = .ok (.dup, 1) := dk_89 (dk_at dksX2_back_3 18 rfl rfl)
theorem dX2_back_88 : decode cX2_back 88 = .ok (.getfield 305, 3) := dk_180 1 49 (dk_at dksX2_back_3 19 rfl rfl)
theorem dX2_back_91 : decode cX2_back 91 = .ok (.iconst 2, 1) := dk_5 (dk_at dksX2_back_3 22 rfl rfl)
theorem dX2_back_92 : decode cX2_back 92 = .ok (.iload_n 2, 1) := dk_28 (dk_at dksX2_back_3 23 rfl rfl)
theorem dX2_back_93 : decode cX2_back 93 = .ok (.imul, 1) := dk_104 (dk_at dksX2_back_4 0 rfl rfl)
theorem dX2_back_94 : decode cX2_back 94 = .ok (.iadd, 1) := dk_96 (dk_at dksX2_back_4 1 rfl rfl)
theorem dX2_back_95 : decode cX2_back 95 = .ok (.putfield 305, 3) := dk_181 1 49 (dk_at dksX2_back_4 2 rfl rfl)
theorem dX2_back_98 : decode cX2_back 98 = .ok (.aload_n 0, 1) := dk_42 (dk_at dksX2_back_4 5 rfl rfl)
theorem dX2_back_99 : decode cX2_back 99 = .ok (.dup, 1) := dk_89 (dk_at dksX2_back_4 6 rfl rfl)
theorem dX2_back_100 : decode cX2_back 100 = .ok (.getfield 311, 3) := dk_180 1 55 (dk_at dksX2_back_4 7 rfl rfl)
theorem dX2_back_103 : decode cX2_back 103 = .ok (.iconst 2, 1) := dk_5 (dk_at dksX2_back_4 10 rfl rfl)
theorem dX2_back_104 : decode cX2_back 104 = .ok (.iload_n 2, 1) := dk_28 (dk_at dksX2_back_4 11 rfl rfl)
theorem dX2_back_105 : decode cX2_back 105 = .ok (.imul, 1) := dk_104 (dk_at dksX2_back_4 12 rfl rfl)
theorem dX2_back_106 : decode cX2_back 106 = .ok (.isub, 1) := dk_100 (dk_at dksX2_back_4 13 rfl rfl)
theorem dX2_back_107 : decode cX2_back 107 = .ok (.putfield 311, 3) := dk_181 1 55 (dk_at dksX2_back_4 14 rfl rfl)
theorem dX2_back_110 : decode cX2_back 110 = .ok (.aload_n 0, 1) := dk_42 (dk_at dksX2_back_4 17 rfl rfl)
theorem dX2_back_111 : decode cX2_back 111 = .ok (.dup, 1) := dk_89 (dk_at dksX2_back_4 18 rfl rfl)
theorem dX2_back_112 : decode cX2_back 112 = .ok (.getfield 13, 3) := dk_180 0 13 (dk_at dksX2_back_4 19 rfl rfl)
theorem dX2_back_115 : decode cX2_back 115 = .ok (.iload_n 2, 1) := dk_28 (dk_at dksX2_back_4 22 rfl rfl)
theorem dX2_back_116 : decode cX2_back 116 = .ok (.iadd, 1) := dk_96 (dk_at dksX2_back_4 23 rfl rfl)
theorem dX2_back_117 : decode cX2_back 117 = .ok (.putfield 13, 3) := dk_181 0 13 (dk_at dksX2_back_5 0 rfl rfl)
theorem dX2_back_120 : decode cX2_back 120 = .ok (.aload_n 0, 1) := dk_42 (dk_at dksX2_back_5 3 rfl rfl)
theorem dX2_back_121 : decode cX2_back 121 = .ok (.getfield 13, 3) := dk_180 0 13 (dk_at dksX2_back_5 4 rfl rfl)
theorem dX2_back_124 : decode cX2_back 124 = .ok (.ireturn, 1) := dk_172 (dk_at dksX2_back_5 7 rfl rfl)
abbrev cX2_clear : ByteArray := prog_13_method_37_code
def yX2_clear : MethodName := ⟨RX2, "clear", "(IZ)I"⟩
def dkwX2_clear_6 : List UInt8 := [21, 5, 172]
abbrev dktX2_clear_6 : List UInt8 := dkwX2_clear_6 ++ []
def dkwX2_clear_5 : List UInt8 := [181, 0, 132, 28, 153, 0, 20, 25, 4, 16, 100, 25, 4, 180, 0, 237, 4, 96, 184, 0, 240, 181, 0, 237]
abbrev dktX2_clear_5 : List UInt8 := dkwX2_clear_5 ++ dktX2_clear_6
def dkwX2_clear_4 : List UInt8 := [180, 0, 13, 45, 180, 0, 126, 96, 181, 0, 13, 45, 3, 181, 0, 162, 45, 3, 181, 0, 126, 45, 6]
abbrev dktX2_clear_4 : List UInt8 := dkwX2_clear_4 ++ dktX2_clear_5
def dkwX2_clear_3 : List UInt8 := [192, 0, 72, 58, 4, 45, 180, 0, 162, 54, 5, 42, 89, 180, 0, 206, 21, 5, 96, 181, 0, 206, 42, 89]
abbrev dktX2_clear_3 : List UInt8 := dkwX2_clear_3 ++ dktX2_clear_4
def dkwX2_clear_2 : List UInt8 := [180, 0, 33, 27, 182, 0, 83, 192, 0, 112, 78, 42, 180, 0, 26, 45, 180, 0, 214, 182, 0, 83]
abbrev dktX2_clear_2 : List UInt8 := dkwX2_clear_2 ++ dktX2_clear_3
def dkwX2_clear_1 : List UInt8 := [192, 0, 112, 180, 0, 132, 153, 0, 7, 4, 167, 0, 4, 3, 5, 182, 0, 54, 153, 0, 5, 3, 172, 42]
abbrev dktX2_clear_1 : List UInt8 := dkwX2_clear_1 ++ dktX2_clear_2
def dkwX2_clear_0 : List UInt8 := [42, 42, 27, 182, 0, 129, 4, 182, 0, 69, 154, 0, 33, 42, 42, 180, 0, 33, 27, 182, 0, 83]
abbrev dktX2_clear_0 : List UInt8 := dkwX2_clear_0 ++ dktX2_clear_1
theorem dksX2_clear_0 : cX2_clear.data.toList.drop 0 = dktX2_clear_0 := by decide +kernel
theorem dksX2_clear_1 : cX2_clear.data.toList.drop 22 = dktX2_clear_1 := dk_seg dksX2_clear_0 22 rfl rfl
theorem dksX2_clear_2 : cX2_clear.data.toList.drop 46 = dktX2_clear_2 := dk_seg dksX2_clear_1 24 rfl rfl
theorem dksX2_clear_3 : cX2_clear.data.toList.drop 68 = dktX2_clear_3 := dk_seg dksX2_clear_2 22 rfl rfl
theorem dksX2_clear_4 : cX2_clear.data.toList.drop 92 = dktX2_clear_4 := dk_seg dksX2_clear_3 24 rfl rfl
theorem dksX2_clear_5 : cX2_clear.data.toList.drop 115 = dktX2_clear_5 := dk_seg dksX2_clear_4 23 rfl rfl
theorem dksX2_clear_6 : cX2_clear.data.toList.drop 139 = dktX2_clear_6 := dk_seg dksX2_clear_5 24 rfl rfl
theorem dX2_clear_0 : decode cX2_clear 0 = .ok (.aload_n 0, 1) := dk_42 (dk_at dksX2_clear_0 0 rfl rfl)
theorem dX2_clear_1 : decode cX2_clear 1 = .ok (.aload_n 0, 1) := dk_42 (dk_at dksX2_clear_0 1 rfl rfl)
theorem dX2_clear_2 : decode cX2_clear 2 = .ok (.iload_n 1, 1) := dk_27 (dk_at dksX2_clear_0 2 rfl rfl)
theorem dX2_clear_3 : decode cX2_clear 3 = .ok (.invokevirtual 129, 3) := dk_182 0 129 (dk_at dksX2_clear_0 3 rfl rfl)
theorem dX2_clear_6 : decode cX2_clear 6 = .ok (.iconst 1, 1) := dk_4 (dk_at dksX2_clear_0 6 rfl rfl)
theorem dX2_clear_7 : decode cX2_clear 7 = .ok (.invokevirtual 69, 3) := dk_182 0 69 (dk_at dksX2_clear_0 7 rfl rfl)
theorem dX2_clear_10 : decode cX2_clear 10 = .ok (.ifCond .ne 33, 3) := dk_154 0 33 (dk_at dksX2_clear_0 10 rfl rfl)
theorem dX2_clear_13 : decode cX2_clear 13 = .ok (.aload_n 0, 1) := dk_42 (dk_at dksX2_clear_0 13 rfl rfl)
theorem dX2_clear_14 : decode cX2_clear 14 = .ok (.aload_n 0, 1) := dk_42 (dk_at dksX2_clear_0 14 rfl rfl)
theorem dX2_clear_15 : decode cX2_clear 15 = .ok (.getfield 33, 3) := dk_180 0 33 (dk_at dksX2_clear_0 15 rfl rfl)
theorem dX2_clear_18 : decode cX2_clear 18 = .ok (.iload_n 1, 1) := dk_27 (dk_at dksX2_clear_0 18 rfl rfl)
theorem dX2_clear_19 : decode cX2_clear 19 = .ok (.invokevirtual 83, 3) := dk_182 0 83 (dk_at dksX2_clear_0 19 rfl rfl)
theorem dX2_clear_22 : decode cX2_clear 22 = .ok (.checkcast 112, 3) := dk_192 0 112 (dk_at dksX2_clear_1 0 rfl rfl)
theorem dX2_clear_25 : decode cX2_clear 25 = .ok (.getfield 132, 3) := dk_180 0 132 (dk_at dksX2_clear_1 3 rfl rfl)
theorem dX2_clear_28 : decode cX2_clear 28 = .ok (.ifCond .eq 7, 3) := dk_153 0 7 (dk_at dksX2_clear_1 6 rfl rfl)
theorem dX2_clear_31 : decode cX2_clear 31 = .ok (.iconst 1, 1) := dk_4 (dk_at dksX2_clear_1 9 rfl rfl)
theorem dX2_clear_32 : decode cX2_clear 32 = .ok (.goto 4, 3) := dk_167 0 4 (dk_at dksX2_clear_1 10 rfl rfl)
theorem dX2_clear_35 : decode cX2_clear 35 = .ok (.iconst 0, 1) := dk_3 (dk_at dksX2_clear_1 13 rfl rfl)
theorem dX2_clear_36 : decode cX2_clear 36 = .ok (.iconst 2, 1) := dk_5 (dk_at dksX2_clear_1 14 rfl rfl)
theorem dX2_clear_37 : decode cX2_clear 37 = .ok (.invokevirtual 54, 3) := dk_182 0 54 (dk_at dksX2_clear_1 15 rfl rfl)
theorem dX2_clear_40 : decode cX2_clear 40 = .ok (.ifCond .eq 5, 3) := dk_153 0 5 (dk_at dksX2_clear_1 18 rfl rfl)
theorem dX2_clear_43 : decode cX2_clear 43 = .ok (.iconst 0, 1) := dk_3 (dk_at dksX2_clear_1 21 rfl rfl)
theorem dX2_clear_44 : decode cX2_clear 44 = .ok (.ireturn, 1) := dk_172 (dk_at dksX2_clear_1 22 rfl rfl)
theorem dX2_clear_45 : decode cX2_clear 45 = .ok (.aload_n 0, 1) := dk_42 (dk_at dksX2_clear_1 23 rfl rfl)
theorem dX2_clear_46 : decode cX2_clear 46 = .ok (.getfield 33, 3) := dk_180 0 33 (dk_at dksX2_clear_2 0 rfl rfl)
theorem dX2_clear_49 : decode cX2_clear 49 = .ok (.iload_n 1, 1) := dk_27 (dk_at dksX2_clear_2 3 rfl rfl)
theorem dX2_clear_50 : decode cX2_clear 50 = .ok (.invokevirtual 83, 3) := dk_182 0 83 (dk_at dksX2_clear_2 4 rfl rfl)
theorem dX2_clear_53 : decode cX2_clear 53 = .ok (.checkcast 112, 3) := dk_192 0 112 (dk_at dksX2_clear_2 7 rfl rfl)
theorem dX2_clear_56 : decode cX2_clear 56 = .ok (.astore_n 3, 1) := dk_78 (dk_at dksX2_clear_2 10 rfl rfl)
theorem dX2_clear_57 : decode cX2_clear 57 = .ok (.aload_n 0, 1) := dk_42 (dk_at dksX2_clear_2 11 rfl rfl)
theorem dX2_clear_58 : decode cX2_clear 58 = .ok (.getfield 26, 3) := dk_180 0 26 (dk_at dksX2_clear_2 12 rfl rfl)
theorem dX2_clear_61 : decode cX2_clear 61 = .ok (.aload_n 3, 1) := dk_45 (dk_at dksX2_clear_2 15 rfl rfl)
theorem dX2_clear_62 : decode cX2_clear 62 = .ok (.getfield 214, 3) := dk_180 0 214 (dk_at dksX2_clear_2 16 rfl rfl)
theorem dX2_clear_65 : decode cX2_clear 65 = .ok (.invokevirtual 83, 3) := dk_182 0 83 (dk_at dksX2_clear_2 19 rfl rfl)
theorem dX2_clear_68 : decode cX2_clear 68 = .ok (.checkcast 72, 3) := dk_192 0 72 (dk_at dksX2_clear_3 0 rfl rfl)
theorem dX2_clear_71 : decode cX2_clear 71 = .ok (.astore 4, 2) := dk_58 4 (dk_at dksX2_clear_3 3 rfl rfl)
theorem dX2_clear_73 : decode cX2_clear 73 = .ok (.aload_n 3, 1) := dk_45 (dk_at dksX2_clear_3 5 rfl rfl)
theorem dX2_clear_74 : decode cX2_clear 74 = .ok (.getfield 162, 3) := dk_180 0 162 (dk_at dksX2_clear_3 6 rfl rfl)
theorem dX2_clear_77 : decode cX2_clear 77 = .ok (.istore 5, 2) := dk_54 5 (dk_at dksX2_clear_3 9 rfl rfl)
theorem dX2_clear_79 : decode cX2_clear 79 = .ok (.aload_n 0, 1) := dk_42 (dk_at dksX2_clear_3 11 rfl rfl)
theorem dX2_clear_80 : decode cX2_clear 80 = .ok (.dup, 1) := dk_89 (dk_at dksX2_clear_3 12 rfl rfl)
theorem dX2_clear_81 : decode cX2_clear 81 = .ok (.getfield 206, 3) := dk_180 0 206 (dk_at dksX2_clear_3 13 rfl rfl)
theorem dX2_clear_84 : decode cX2_clear 84 = .ok (.iload 5, 2) := dk_21 5 (dk_at dksX2_clear_3 16 rfl rfl)
theorem dX2_clear_86 : decode cX2_clear 86 = .ok (.iadd, 1) := dk_96 (dk_at dksX2_clear_3 18 rfl rfl)
theorem dX2_clear_87 : decode cX2_clear 87 = .ok (.putfield 206, 3) := dk_181 0 206 (dk_at dksX2_clear_3 19 rfl rfl)
theorem dX2_clear_90 : decode cX2_clear 90 = .ok (.aload_n 0, 1) := dk_42 (dk_at dksX2_clear_3 22 rfl rfl)
theorem dX2_clear_91 : decode cX2_clear 91 = .ok (.dup, 1) := dk_89 (dk_at dksX2_clear_3 23 rfl rfl)
theorem dX2_clear_92 : decode cX2_clear 92 = .ok (.getfield 13, 3) := dk_180 0 13 (dk_at dksX2_clear_4 0 rfl rfl)
theorem dX2_clear_95 : decode cX2_clear 95 = .ok (.aload_n 3, 1) := dk_45 (dk_at dksX2_clear_4 3 rfl rfl)
theorem dX2_clear_96 : decode cX2_clear 96 = .ok (.getfield 126, 3) := dk_180 0 126 (dk_at dksX2_clear_4 4 rfl rfl)
theorem dX2_clear_99 : decode cX2_clear 99 = .ok (.iadd, 1) := dk_96 (dk_at dksX2_clear_4 7 rfl rfl)
theorem dX2_clear_100 : decode cX2_clear 100 = .ok (.putfield 13, 3) := dk_181 0 13 (dk_at dksX2_clear_4 8 rfl rfl)
theorem dX2_clear_103 : decode cX2_clear 103 = .ok (.aload_n 3, 1) := dk_45 (dk_at dksX2_clear_4 11 rfl rfl)
theorem dX2_clear_104 : decode cX2_clear 104 = .ok (.iconst 0, 1) := dk_3 (dk_at dksX2_clear_4 12 rfl rfl)
theorem dX2_clear_105 : decode cX2_clear 105 = .ok (.putfield 162, 3) := dk_181 0 162 (dk_at dksX2_clear_4 13 rfl rfl)
theorem dX2_clear_108 : decode cX2_clear 108 = .ok (.aload_n 3, 1) := dk_45 (dk_at dksX2_clear_4 16 rfl rfl)
theorem dX2_clear_109 : decode cX2_clear 109 = .ok (.iconst 0, 1) := dk_3 (dk_at dksX2_clear_4 17 rfl rfl)
theorem dX2_clear_110 : decode cX2_clear 110 = .ok (.putfield 126, 3) := dk_181 0 126 (dk_at dksX2_clear_4 18 rfl rfl)
theorem dX2_clear_113 : decode cX2_clear 113 = .ok (.aload_n 3, 1) := dk_45 (dk_at dksX2_clear_4 21 rfl rfl)
theorem dX2_clear_114 : decode cX2_clear 114 = .ok (.iconst 3, 1) := dk_6 (dk_at dksX2_clear_4 22 rfl rfl)
theorem dX2_clear_115 : decode cX2_clear 115 = .ok (.putfield 132, 3) := dk_181 0 132 (dk_at dksX2_clear_5 0 rfl rfl)
theorem dX2_clear_118 : decode cX2_clear 118 = .ok (.iload_n 2, 1) := dk_28 (dk_at dksX2_clear_5 3 rfl rfl)
theorem dX2_clear_119 : decode cX2_clear 119 = .ok (.ifCond .eq 20, 3) := dk_153 0 20 (dk_at dksX2_clear_5 4 rfl rfl)
theorem dX2_clear_122 : decode cX2_clear 122 = .ok (.aload 4, 2) := dk_25 4 (dk_at dksX2_clear_5 7 rfl rfl)
theorem dX2_clear_124 : decode cX2_clear 124 = .ok (.bipush 100, 2) := dk_16 100 (dk_at dksX2_clear_5 9 rfl rfl)
theorem dX2_clear_126 : decode cX2_clear 126 = .ok (.aload 4, 2) := dk_25 4 (dk_at dksX2_clear_5 11 rfl rfl)
theorem dX2_clear_128 : decode cX2_clear 128 = .ok (.getfield 237, 3) := dk_180 0 237 (dk_at dksX2_clear_5 13 rfl rfl)
theorem dX2_clear_131 : decode cX2_clear 131 = .ok (.iconst 1, 1) := dk_4 (dk_at dksX2_clear_5 16 rfl rfl)
theorem dX2_clear_132 : decode cX2_clear 132 = .ok (.iadd, 1) := dk_96 (dk_at dksX2_clear_5 17 rfl rfl)
theorem dX2_clear_133 : decode cX2_clear 133 = .ok (.invokestatic 240, 3) := dk_184 0 240 (dk_at dksX2_clear_5 18 rfl rfl)
theorem dX2_clear_136 : decode cX2_clear 136 = .ok (.putfield 237, 3) := dk_181 0 237 (dk_at dksX2_clear_5 21 rfl rfl)
theorem dX2_clear_139 : decode cX2_clear 139 = .ok (.iload 5, 2) := dk_21 5 (dk_at dksX2_clear_6 0 rfl rfl)
theorem dX2_clear_141 : decode cX2_clear 141 = .ok (.ireturn, 1) := dk_172 (dk_at dksX2_clear_6 2 rfl rfl)
abbrev cX2_vote : ByteArray := prog_13_method_38_code
def yX2_vote : MethodName := ⟨RX2, "vote", "(II)I"⟩
def dkwX2_vote_5 : List UInt8 := [29, 21, 4, 164, 0, 10, 42, 180, 0, 19, 27, 28, 79, 29, 172]
abbrev dktX2_vote_5 : List UInt8 := dkwX2_vote_5 ++ []
def dkwX2_vote_4 : List UInt8 := [180, 1, 59, 96, 96, 62, 167, 0, 15, 21, 4, 4, 25, 6, 180, 1, 59, 96, 96, 54, 4, 167, 255, 195]
abbrev dktX2_vote_4 : List UInt8 := dkwX2_vote_4 ++ dktX2_vote_5
def dkwX2_vote_3 : List UInt8 := [192, 0, 72, 58, 6, 25, 6, 42, 182, 0, 217, 27, 182, 0, 221, 28, 163, 0, 16, 29, 4, 25, 6]
abbrev dktX2_vote_3 : List UInt8 := dkwX2_vote_3 ++ dktX2_vote_4
def dkwX2_vote_2 : List UInt8 := [182, 0, 141, 58, 5, 25, 5, 185, 0, 145, 1, 0, 153, 0, 57, 25, 5, 185, 0, 151, 1, 0]
abbrev dktX2_vote_2 : List UInt8 := dkwX2_vote_2 ++ dktX2_vote_3
def dkwX2_vote_1 : List UInt8 := [4, 167, 0, 4, 3, 5, 182, 0, 54, 153, 0, 5, 3, 172, 3, 62, 3, 54, 4, 42, 180, 0, 26]
abbrev dktX2_vote_1 : List UInt8 := dkwX2_vote_1 ++ dktX2_vote_2
def dkwX2_vote_0 : List UInt8 := [42, 27, 184, 0, 90, 4, 182, 0, 69, 154, 0, 27, 42, 28, 3, 17, 3, 231, 184, 0, 62, 154, 0, 7]
abbrev dktX2_vote_0 : List UInt8 := dkwX2_vote_0 ++ dktX2_vote_1
theorem dksX2_vote_0 : cX2_vote.data.toList.drop 0 = dktX2_vote_0 := by decide +kernel
theorem dksX2_vote_1 : cX2_vote.data.toList.drop 24 = dktX2_vote_1 := dk_seg dksX2_vote_0 24 rfl rfl
theorem dksX2_vote_2 : cX2_vote.data.toList.drop 47 = dktX2_vote_2 := dk_seg dksX2_vote_1 23 rfl rfl
theorem dksX2_vote_3 : cX2_vote.data.toList.drop 69 = dktX2_vote_3 := dk_seg dksX2_vote_2 22 rfl rfl
theorem dksX2_vote_4 : cX2_vote.data.toList.drop 92 = dktX2_vote_4 := dk_seg dksX2_vote_3 23 rfl rfl
theorem dksX2_vote_5 : cX2_vote.data.toList.drop 116 = dktX2_vote_5 := dk_seg dksX2_vote_4 24 rfl rfl
theorem dX2_vote_0 : decode cX2_vote 0 = .ok (.aload_n 0, 1) := dk_42 (dk_at dksX2_vote_0 0 rfl rfl)
theorem dX2_vote_1 : decode cX2_vote 1 = .ok (.iload_n 1, 1) := dk_27 (dk_at dksX2_vote_0 1 rfl rfl)
theorem dX2_vote_2 : decode cX2_vote 2 = .ok (.invokestatic 90, 3) := dk_184 0 90 (dk_at dksX2_vote_0 2 rfl rfl)
theorem dX2_vote_5 : decode cX2_vote 5 = .ok (.iconst 1, 1) := dk_4 (dk_at dksX2_vote_0 5 rfl rfl)
theorem dX2_vote_6 : decode cX2_vote 6 = .ok (.invokevirtual 69, 3) := dk_182 0 69 (dk_at dksX2_vote_0 6 rfl rfl)
theorem dX2_vote_9 : decode cX2_vote 9 = .ok (.ifCond .ne 27, 3) := dk_154 0 27 (dk_at dksX2_vote_0 9 rfl rfl)
theorem dX2_vote_12 : decode cX2_vote 12 = .ok (.aload_n 0, 1) := dk_42 (dk_at dksX2_vote_0 12 rfl rfl)
theorem dX2_vote_13 : decode cX2_vote 13 = .ok (.iload_n 2, 1) := dk_28 (dk_at dksX2_vote_0 13 rfl rfl)
theorem dX2_vote_14 : decode cX2_vote 14 = .ok (.iconst 0, 1) := dk_3 (dk_at dksX2_vote_0 14 rfl rfl)
theorem dX2_vote_15 : decode cX2_vote 15 = .ok (.sipush 999, 3) := dk_17 3 231 (dk_at dksX2_vote_0 15 rfl rfl)
theorem dX2_vote_18 : decode cX2_vote 18 = .ok (.invokestatic 62, 3) := dk_184 0 62 (dk_at dksX2_vote_0 18 rfl rfl)
theorem dX2_vote_21 : decode cX2_vote 21 = .ok (.ifCond .ne 7, 3) := dk_154 0 7 (dk_at dksX2_vote_0 21 rfl rfl)
theorem dX2_vote_24 : decode cX2_vote 24 = .ok (.iconst 1, 1) := dk_4 (dk_at dksX2_vote_1 0 rfl rfl)
theorem dX2_vote_25 : decode cX2_vote 25 = .ok (.goto 4, 3) := dk_167 0 4 (dk_at dksX2_vote_1 1 rfl rfl)
theorem dX2_vote_28 : decode cX2_vote 28 = .ok (.iconst 0, 1) := dk_3 (dk_at dksX2_vote_1 4 rfl rfl)
theorem dX2_vote_29 : decode cX2_vote 29 = .ok (.iconst 2, 1) := dk_5 (dk_at dksX2_vote_1 5 rfl rfl)
theorem dX2_vote_30 : decode cX2_vote 30 = .ok (.invokevirtual 54, 3) := dk_182 0 54 (dk_at dksX2_vote_1 6 rfl rfl)
theorem dX2_vote_33 : decode cX2_vote 33 = .ok (.ifCond .eq 5, 3) := dk_153 0 5 (dk_at dksX2_vote_1 9 rfl rfl)
theorem dX2_vote_36 : decode cX2_vote 36 = .ok (.iconst 0, 1) := dk_3 (dk_at dksX2_vote_1 12 rfl rfl)
theorem dX2_vote_37 : decode cX2_vote 37 = .ok (.ireturn, 1) := dk_172 (dk_at dksX2_vote_1 13 rfl rfl)
theorem dX2_vote_38 : decode cX2_vote 38 = .ok (.iconst 0, 1) := dk_3 (dk_at dksX2_vote_1 14 rfl rfl)
theorem dX2_vote_39 : decode cX2_vote 39 = .ok (.istore_n 3, 1) := dk_62 (dk_at dksX2_vote_1 15 rfl rfl)
theorem dX2_vote_40 : decode cX2_vote 40 = .ok (.iconst 0, 1) := dk_3 (dk_at dksX2_vote_1 16 rfl rfl)
theorem dX2_vote_41 : decode cX2_vote 41 = .ok (.istore 4, 2) := dk_54 4 (dk_at dksX2_vote_1 17 rfl rfl)
theorem dX2_vote_43 : decode cX2_vote 43 = .ok (.aload_n 0, 1) := dk_42 (dk_at dksX2_vote_1 19 rfl rfl)
theorem dX2_vote_44 : decode cX2_vote 44 = .ok (.getfield 26, 3) := dk_180 0 26 (dk_at dksX2_vote_1 20 rfl rfl)
theorem dX2_vote_47 : decode cX2_vote 47 = .ok (.invokevirtual 141, 3) := dk_182 0 141 (dk_at dksX2_vote_2 0 rfl rfl)
theorem dX2_vote_50 : decode cX2_vote 50 = .ok (.astore 5, 2) := dk_58 5 (dk_at dksX2_vote_2 3 rfl rfl)
theorem dX2_vote_52 : decode cX2_vote 52 = .ok (.aload 5, 2) := dk_25 5 (dk_at dksX2_vote_2 5 rfl rfl)
theorem dX2_vote_54 : decode cX2_vote 54 = .ok (.invokeinterface 145 1, 5) := by decide +kernel
theorem dX2_vote_59 : decode cX2_vote 59 = .ok (.ifCond .eq 57, 3) := dk_153 0 57 (dk_at dksX2_vote_2 12 rfl rfl)
theorem dX2_vote_62 : decode cX2_vote 62 = .ok (.aload 5, 2) := dk_25 5 (dk_at dksX2_vote_2 15 rfl rfl)
theorem dX2_vote_64 : decode cX2_vote 64 = .ok (.invokeinterface 151 1, 5) := by decide +kernel
theorem dX2_vote_69 : decode cX2_vote 69 = .ok (.checkcast 72, 3) := dk_192 0 72 (dk_at dksX2_vote_3 0 rfl rfl)
theorem dX2_vote_72 : decode cX2_vote 72 = .ok (.astore 6, 2) := dk_58 6 (dk_at dksX2_vote_3 3 rfl rfl)
theorem dX2_vote_74 : decode cX2_vote 74 = .ok (.aload 6, 2) := dk_25 6 (dk_at dksX2_vote_3 5 rfl rfl)
theorem dX2_vote_76 : decode cX2_vote 76 = .ok (.aload_n 0, 1) := dk_42 (dk_at dksX2_vote_3 7 rfl rfl)
theorem dX2_vote_77 : decode cX2_vote 77 = .ok (.invokevirtual 217, 3) := dk_182 0 217 (dk_at dksX2_vote_3 8 rfl rfl)
theorem dX2_vote_80 : decode cX2_vote 80 = .ok (.iload_n 1, 1) := dk_27 (dk_at dksX2_vote_3 11 rfl rfl)
theorem dX2_vote_81 : decode cX2_vote 81 = .ok (.invokevirtual 221, 3) := dk_182 0 221 (dk_at dksX2_vote_3 12 rfl rfl)
theorem dX2_vote_84 : decode cX2_vote 84 = .ok (.iload_n 2, 1) := dk_28 (dk_at dksX2_vote_3 15 rfl rfl)
theorem dX2_vote_85 : decode cX2_vote 85 = .ok (.if_icmp .gt 16, 3) := dk_163 0 16 (dk_at dksX2_vote_3 16 rfl rfl)
theorem dX2_vote_88 : decode cX2_vote 88 = .ok (.iload_n 3, 1) := dk_29 (dk_at dksX2_vote_3 19 rfl rfl)
theorem dX2_vote_89 : decode cX2_vote 89 = .ok (.iconst 1, 1) := dk_4 (dk_at dksX2_vote_3 20 rfl rfl)
theorem dX2_vote_90 : decode cX2_vote 90 = .ok (.aload 6, 2) := dk_25 6 (dk_at dksX2_vote_3 21 rfl rfl)
theorem dX2_vote_92 : decode cX2_vote 92 = .ok (.getfield 315, 3) := dk_180 1 59 (dk_at dksX2_vote_4 0 rfl rfl)
theorem dX2_vote_95 : decode cX2_vote 95 = .ok (.iadd, 1) := dk_96 (dk_at dksX2_vote_4 3 rfl rfl)
theorem dX2_vote_96 : decode cX2_vote 96 = .ok (.iadd, 1) := dk_96 (dk_at dksX2_vote_4 4 rfl rfl)
theorem dX2_vote_97 : decode cX2_vote 97 = .ok (.istore_n 3, 1) := dk_62 (dk_at dksX2_vote_4 5 rfl rfl)
theorem dX2_vote_98 : decode cX2_vote 98 = .ok (.goto 15, 3) := dk_167 0 15 (dk_at dksX2_vote_4 6 rfl rfl)
theorem dX2_vote_101 : decode cX2_vote 101 = .ok (.iload 4, 2) := dk_21 4 (dk_at dksX2_vote_4 9 rfl rfl)
theorem dX2_vote_103 : decode cX2_vote 103 = .ok (.iconst 1, 1) := dk_4 (dk_at dksX2_vote_4 11 rfl rfl)
theorem dX2_vote_104 : decode cX2_vote 104 = .ok (.aload 6, 2) := dk_25 6 (dk_at dksX2_vote_4 12 rfl rfl)
theorem dX2_vote_106 : decode cX2_vote 106 = .ok (.getfield 315, 3) := dk_180 1 59 (dk_at dksX2_vote_4 14 rfl rfl)
theorem dX2_vote_109 : decode cX2_vote 109 = .ok (.iadd, 1) := dk_96 (dk_at dksX2_vote_4 17 rfl rfl)
theorem dX2_vote_110 : decode cX2_vote 110 = .ok (.iadd, 1) := dk_96 (dk_at dksX2_vote_4 18 rfl rfl)
theorem dX2_vote_111 : decode cX2_vote 111 = .ok (.istore 4, 2) := dk_54 4 (dk_at dksX2_vote_4 19 rfl rfl)
theorem dX2_vote_113 : decode cX2_vote 113 = .ok (.goto (-61), 3) := dk_167 255 195 (dk_at dksX2_vote_4 21 rfl rfl)
theorem dX2_vote_116 : decode cX2_vote 116 = .ok (.iload_n 3, 1) := dk_29 (dk_at dksX2_vote_5 0 rfl rfl)
theorem dX2_vote_117 : decode cX2_vote 117 = .ok (.iload 4, 2) := dk_21 4 (dk_at dksX2_vote_5 1 rfl rfl)
theorem dX2_vote_119 : decode cX2_vote 119 = .ok (.if_icmp .le 10, 3) := dk_164 0 10 (dk_at dksX2_vote_5 3 rfl rfl)
theorem dX2_vote_122 : decode cX2_vote 122 = .ok (.aload_n 0, 1) := dk_42 (dk_at dksX2_vote_5 6 rfl rfl)
theorem dX2_vote_123 : decode cX2_vote 123 = .ok (.getfield 19, 3) := dk_180 0 19 (dk_at dksX2_vote_5 7 rfl rfl)
theorem dX2_vote_126 : decode cX2_vote 126 = .ok (.iload_n 1, 1) := dk_27 (dk_at dksX2_vote_5 10 rfl rfl)
theorem dX2_vote_127 : decode cX2_vote 127 = .ok (.iload_n 2, 1) := dk_28 (dk_at dksX2_vote_5 11 rfl rfl)
theorem dX2_vote_128 : decode cX2_vote 128 = .ok (.iastore, 1) := dk_79 (dk_at dksX2_vote_5 12 rfl rfl)
theorem dX2_vote_129 : decode cX2_vote 129 = .ok (.iload_n 3, 1) := dk_29 (dk_at dksX2_vote_5 13 rfl rfl)
theorem dX2_vote_130 : decode cX2_vote 130 = .ok (.ireturn, 1) := dk_172 (dk_at dksX2_vote_5 14 rfl rfl)
abbrev cX2_ofCrop : ByteArray := prog_13_method_40_code
def yX2_ofCrop : MethodName := ⟨RX2, "ofCrop", "(II)I"⟩
def dkwX2_ofCrop_1 : List UInt8 := [167, 0, 4, 3, 5, 182, 0, 54, 153, 0, 7, 3, 167, 0, 9, 42, 27, 28, 182, 1, 88, 172]
abbrev dktX2_ofCrop_1 : List UInt8 := dkwX2_ofCrop_1 ++ []
def dkwX2_ofCrop_0 : List UInt8 := [42, 42, 27, 182, 0, 98, 4, 182, 0, 69, 154, 0, 25, 42, 28, 3, 8, 184, 0, 62, 154, 0, 7, 4]
abbrev dktX2_ofCrop_0 : List UInt8 := dkwX2_ofCrop_0 ++ dktX2_ofCrop_1
theorem dksX2_ofCrop_0 : cX2_ofCrop.data.toList.drop 0 = dktX2_ofCrop_0 := by decide +kernel
theorem dksX2_ofCrop_1 : cX2_ofCrop.data.toList.drop 24 = dktX2_ofCrop_1 := dk_seg dksX2_ofCrop_0 24 rfl rfl
theorem dX2_ofCrop_0 : decode cX2_ofCrop 0 = .ok (.aload_n 0, 1) := dk_42 (dk_at dksX2_ofCrop_0 0 rfl rfl)
theorem dX2_ofCrop_1 : decode cX2_ofCrop 1 = .ok (.aload_n 0, 1) := dk_42 (dk_at dksX2_ofCrop_0 1 rfl rfl)
theorem dX2_ofCrop_2 : decode cX2_ofCrop 2 = .ok (.iload_n 1, 1) := dk_27 (dk_at dksX2_ofCrop_0 2 rfl rfl)
theorem dX2_ofCrop_3 : decode cX2_ofCrop 3 = .ok (.invokevirtual 98, 3) := dk_182 0 98 (dk_at dksX2_ofCrop_0 3 rfl rfl)
theorem dX2_ofCrop_6 : decode cX2_ofCrop 6 = .ok (.iconst 1, 1) := dk_4 (dk_at dksX2_ofCrop_0 6 rfl rfl)
theorem dX2_ofCrop_7 : decode cX2_ofCrop 7 = .ok (.invokevirtual 69, 3) := dk_182 0 69 (dk_at dksX2_ofCrop_0 7 rfl rfl)
theorem dX2_ofCrop_10 : decode cX2_ofCrop 10 = .ok (.ifCond .ne 25, 3) := dk_154 0 25 (dk_at dksX2_ofCrop_0 10 rfl rfl)
theorem dX2_ofCrop_13 : decode cX2_ofCrop 13 = .ok (.aload_n 0, 1) := dk_42 (dk_at dksX2_ofCrop_0 13 rfl rfl)
theorem dX2_ofCrop_14 : decode cX2_ofCrop 14 = .ok (.iload_n 2, 1) := dk_28 (dk_at dksX2_ofCrop_0 14 rfl rfl)
theorem dX2_ofCrop_15 : decode cX2_ofCrop 15 = .ok (.iconst 0, 1) := dk_3 (dk_at dksX2_ofCrop_0 15 rfl rfl)
theorem dX2_ofCrop_16 : decode cX2_ofCrop 16 = .ok (.iconst 5, 1) := dk_8 (dk_at dksX2_ofCrop_0 16 rfl rfl)
theorem dX2_ofCrop_17 : decode cX2_ofCrop 17 = .ok (.invokestatic 62, 3) := dk_184 0 62 (dk_at dksX2_ofCrop_0 17 rfl rfl)
theorem dX2_ofCrop_20 : decode cX2_ofCrop 20 = .ok (.ifCond .ne 7, 3) := dk_154 0 7 (dk_at dksX2_ofCrop_0 20 rfl rfl)
theorem dX2_ofCrop_23 : decode cX2_ofCrop 23 = .ok (.iconst 1, 1) := dk_4 (dk_at dksX2_ofCrop_0 23 rfl rfl)
theorem dX2_ofCrop_24 : decode cX2_ofCrop 24 = .ok (.goto 4, 3) := dk_167 0 4 (dk_at dksX2_ofCrop_1 0 rfl rfl)
theorem dX2_ofCrop_27 : decode cX2_ofCrop 27 = .ok (.iconst 0, 1) := dk_3 (dk_at dksX2_ofCrop_1 3 rfl rfl)
theorem dX2_ofCrop_28 : decode cX2_ofCrop 28 = .ok (.iconst 2, 1) := dk_5 (dk_at dksX2_ofCrop_1 4 rfl rfl)
theorem dX2_ofCrop_29 : decode cX2_ofCrop 29 = .ok (.invokevirtual 54, 3) := dk_182 0 54 (dk_at dksX2_ofCrop_1 5 rfl rfl)
theorem dX2_ofCrop_32 : decode cX2_ofCrop 32 = .ok (.ifCond .eq 7, 3) := dk_153 0 7 (dk_at dksX2_ofCrop_1 8 rfl rfl)
theorem dX2_ofCrop_35 : decode cX2_ofCrop 35 = .ok (.iconst 0, 1) := dk_3 (dk_at dksX2_ofCrop_1 11 rfl rfl)
theorem dX2_ofCrop_36 : decode cX2_ofCrop 36 = .ok (.goto 9, 3) := dk_167 0 9 (dk_at dksX2_ofCrop_1 12 rfl rfl)
theorem dX2_ofCrop_39 : decode cX2_ofCrop 39 = .ok (.aload_n 0, 1) := dk_42 (dk_at dksX2_ofCrop_1 15 rfl rfl)
theorem dX2_ofCrop_40 : decode cX2_ofCrop 40 = .ok (.iload_n 1, 1) := dk_27 (dk_at dksX2_ofCrop_1 16 rfl rfl)
theorem dX2_ofCrop_41 : decode cX2_ofCrop 41 = .ok (.iload_n 2, 1) := dk_28 (dk_at dksX2_ofCrop_1 17 rfl rfl)
theorem dX2_ofCrop_42 : decode cX2_ofCrop 42 = .ok (.invokevirtual 344, 3) := dk_182 1 88 (dk_at dksX2_ofCrop_1 18 rfl rfl)
theorem dX2_ofCrop_45 : decode cX2_ofCrop 45 = .ok (.ireturn, 1) := dk_172 (dk_at dksX2_ofCrop_1 21 rfl rfl)
abbrev cX2_ofCropNow : ByteArray := prog_13_method_39_code
def yX2_ofCropNow : MethodName := ⟨RX2, "ofCropNow", "(II)I"⟩
def dkwX2_ofCropNow_3 : List UInt8 := [46, 172]
abbrev dktX2_ofCropNow_3 : List UInt8 := dkwX2_ofCropNow_3 ++ []
def dkwX2_ofCropNow_2 : List UInt8 := [180, 0, 101, 153, 0, 7, 4, 167, 0, 4, 3, 79, 89, 8, 45, 180, 0, 120, 79, 58, 4, 25, 4, 28]
abbrev dktX2_ofCropNow_2 : List UInt8 := dkwX2_ofCropNow_2 ++ dktX2_ofCropNow_3
def dkwX2_ofCropNow_1 : List UInt8 := [4, 45, 180, 0, 117, 79, 89, 5, 45, 180, 0, 105, 79, 89, 6, 45, 180, 1, 85, 79, 89, 7, 45]
abbrev dktX2_ofCropNow_1 : List UInt8 := dkwX2_ofCropNow_1 ++ dktX2_ofCropNow_2
def dkwX2_ofCropNow_0 : List UInt8 := [42, 180, 0, 30, 27, 182, 0, 83, 192, 0, 93, 78, 16, 6, 188, 10, 89, 3, 45, 180, 0, 114, 79, 89]
abbrev dktX2_ofCropNow_0 : List UInt8 := dkwX2_ofCropNow_0 ++ dktX2_ofCropNow_1
theorem dksX2_ofCropNow_0 : cX2_ofCropNow.data.toList.drop 0 = dktX2_ofCropNow_0 := by decide +kernel
theorem dksX2_ofCropNow_1 : cX2_ofCropNow.data.toList.drop 24 = dktX2_ofCropNow_1 := dk_seg dksX2_ofCropNow_0 24 rfl rfl
theorem dksX2_ofCropNow_2 : cX2_ofCropNow.data.toList.drop 47 = dktX2_ofCropNow_2 := dk_seg dksX2_ofCropNow_1 23 rfl rfl
theorem dksX2_ofCropNow_3 : cX2_ofCropNow.data.toList.drop 71 = dktX2_ofCropNow_3 := dk_seg dksX2_ofCropNow_2 24 rfl rfl
theorem dX2_ofCropNow_0 : decode cX2_ofCropNow 0 = .ok (.aload_n 0, 1) := dk_42 (dk_at dksX2_ofCropNow_0 0 rfl rfl)
theorem dX2_ofCropNow_1 : decode cX2_ofCropNow 1 = .ok (.getfield 30, 3) := dk_180 0 30 (dk_at dksX2_ofCropNow_0 1 rfl rfl)
theorem dX2_ofCropNow_4 : decode cX2_ofCropNow 4 = .ok (.iload_n 1, 1) := dk_27 (dk_at dksX2_ofCropNow_0 4 rfl rfl)
theorem dX2_ofCropNow_5 : decode cX2_ofCropNow 5 = .ok (.invokevirtual 83, 3) := dk_182 0 83 (dk_at dksX2_ofCropNow_0 5 rfl rfl)
theorem dX2_ofCropNow_8 : decode cX2_ofCropNow 8 = .ok (.checkcast 93, 3) := dk_192 0 93 (dk_at dksX2_ofCropNow_0 8 rfl rfl)
theorem dX2_ofCropNow_11 : decode cX2_ofCropNow 11 = .ok (.astore_n 3, 1) := dk_78 (dk_at dksX2_ofCropNow_0 11 rfl rfl)
theorem dX2_ofCropNow_12 : decode cX2_ofCropNow 12 = .ok (.bipush 6, 2) := dk_16 6 (dk_at dksX2_ofCropNow_0 12 rfl rfl)
theorem dX2_ofCropNow_14 : decode cX2_ofCropNow 14 = .ok (.newarray .int, 2) := dk_188_10 (dk_at dksX2_ofCropNow_0 14 rfl rfl)
theorem dX2_ofCropNow_16 : decode cX2_ofCropNow 16 = .ok (.dup, 1) := dk_89 (dk_at dksX2_ofCropNow_0 16 rfl rfl)
theorem dX2_ofCropNow_17 : decode cX2_ofCropNow 17 = .ok (.iconst 0, 1) := dk_3 (dk_at dksX2_ofCropNow_0 17 rfl rfl)
theorem dX2_ofCropNow_18 : decode cX2_ofCropNow 18 = .ok (.aload_n 3, 1) := dk_45 (dk_at dksX2_ofCropNow_0 18 rfl rfl)
theorem dX2_ofCropNow_19 : decode cX2_ofCropNow 19 = .ok (.getfield 114, 3) := dk_180 0 114 (dk_at dksX2_ofCropNow_0 19 rfl rfl)
theorem dX2_ofCropNow_22 : decode cX2_ofCropNow 22 = .ok (.iastore, 1) := dk_79 (dk_at dksX2_ofCropNow_0 22 rfl rfl)
theorem dX2_ofCropNow_23 : decode cX2_ofCropNow 23 = .ok (.dup, 1) := dk_89 (dk_at dksX2_ofCropNow_0 23 rfl rfl)
theorem dX2_ofCropNow_24 : decode cX2_ofCropNow 24 = .ok (.iconst 1, 1) := dk_4 (dk_at dksX2_ofCropNow_1 0 rfl rfl)
theorem dX2_ofCropNow_25 : decode cX2_ofCropNow 25 = .ok (.aload_n 3, 1) := dk_45 (dk_at dksX2_ofCropNow_1 1 rfl rfl)
theorem dX2_ofCropNow_26 : decode cX2_ofCropNow 26 = .ok (.getfield 117, 3) := dk_180 0 117 (dk_at dksX2_ofCropNow_1 2 rfl rfl)
theorem dX2_ofCropNow_29 : decode cX2_ofCropNow 29 = .ok (.iastore, 1) := dk_79 (dk_at dksX2_ofCropNow_1 5 rfl rfl)
theorem dX2_ofCropNow_30 : decode cX2_ofCropNow 30 = .ok (.dup, 1) := dk_89 (dk_at dksX2_ofCropNow_1 6 rfl rfl)
theorem dX2_ofCropNow_31 : decode cX2_ofCropNow 31 = .ok (.iconst 2, 1) := dk_5 (dk_at dksX2_ofCropNow_1 7 rfl rfl)
theorem dX2_ofCropNow_32 : decode cX2_ofCropNow 32 = .ok (.aload_n 3, 1) := dk_45 (dk_at dksX2_ofCropNow_1 8 rfl rfl)
theorem dX2_ofCropNow_33 : decode cX2_ofCropNow 33 = .ok (.getfield 105, 3) := dk_180 0 105 (dk_at dksX2_ofCropNow_1 9 rfl rfl)
theorem dX2_ofCropNow_36 : decode cX2_ofCropNow 36 = .ok (.iastore, 1) := dk_79 (dk_at dksX2_ofCropNow_1 12 rfl rfl)
theorem dX2_ofCropNow_37 : decode cX2_ofCropNow 37 = .ok (.dup, 1) := dk_89 (dk_at dksX2_ofCropNow_1 13 rfl rfl)
theorem dX2_ofCropNow_38 : decode cX2_ofCropNow 38 = .ok (.iconst 3, 1) := dk_6 (dk_at dksX2_ofCropNow_1 14 rfl rfl)
theorem dX2_ofCropNow_39 : decode cX2_ofCropNow 39 = .ok (.aload_n 3, 1) := dk_45 (dk_at dksX2_ofCropNow_1 15 rfl rfl)
theorem dX2_ofCropNow_40 : decode cX2_ofCropNow 40 = .ok (.getfield 341, 3) := dk_180 1 85 (dk_at dksX2_ofCropNow_1 16 rfl rfl)
theorem dX2_ofCropNow_43 : decode cX2_ofCropNow 43 = .ok (.iastore, 1) := dk_79 (dk_at dksX2_ofCropNow_1 19 rfl rfl)
theorem dX2_ofCropNow_44 : decode cX2_ofCropNow 44 = .ok (.dup, 1) := dk_89 (dk_at dksX2_ofCropNow_1 20 rfl rfl)
theorem dX2_ofCropNow_45 : decode cX2_ofCropNow 45 = .ok (.iconst 4, 1) := dk_7 (dk_at dksX2_ofCropNow_1 21 rfl rfl)
theorem dX2_ofCropNow_46 : decode cX2_ofCropNow 46 = .ok (.aload_n 3, 1) := dk_45 (dk_at dksX2_ofCropNow_1 22 rfl rfl)
theorem dX2_ofCropNow_47 : decode cX2_ofCropNow 47 = .ok (.getfield 101, 3) := dk_180 0 101 (dk_at dksX2_ofCropNow_2 0 rfl rfl)
theorem dX2_ofCropNow_50 : decode cX2_ofCropNow 50 = .ok (.ifCond .eq 7, 3) := dk_153 0 7 (dk_at dksX2_ofCropNow_2 3 rfl rfl)
theorem dX2_ofCropNow_53 : decode cX2_ofCropNow 53 = .ok (.iconst 1, 1) := dk_4 (dk_at dksX2_ofCropNow_2 6 rfl rfl)
theorem dX2_ofCropNow_54 : decode cX2_ofCropNow 54 = .ok (.goto 4, 3) := dk_167 0 4 (dk_at dksX2_ofCropNow_2 7 rfl rfl)
theorem dX2_ofCropNow_57 : decode cX2_ofCropNow 57 = .ok (.iconst 0, 1) := dk_3 (dk_at dksX2_ofCropNow_2 10 rfl rfl)
theorem dX2_ofCropNow_58 : decode cX2_ofCropNow 58 = .ok (.iastore, 1) := dk_79 (dk_at dksX2_ofCropNow_2 11 rfl rfl)
theorem dX2_ofCropNow_59 : decode cX2_ofCropNow 59 = .ok (.dup, 1) := dk_89 (dk_at dksX2_ofCropNow_2 12 rfl rfl)
theorem dX2_ofCropNow_60 : decode cX2_ofCropNow 60 = .ok (.iconst 5, 1) := dk_8 (dk_at dksX2_ofCropNow_2 13 rfl rfl)
theorem dX2_ofCropNow_61 : decode cX2_ofCropNow 61 = .ok (.aload_n 3, 1) := dk_45 (dk_at dksX2_ofCropNow_2 14 rfl rfl)
theorem dX2_ofCropNow_62 : decode cX2_ofCropNow 62 = .ok (.getfield 120, 3) := dk_180 0 120 (dk_at dksX2_ofCropNow_2 15 rfl rfl)
theorem dX2_ofCropNow_65 : decode cX2_ofCropNow 65 = .ok (.iastore, 1) := dk_79 (dk_at dksX2_ofCropNow_2 18 rfl rfl)
theorem dX2_ofCropNow_66 : decode cX2_ofCropNow 66 = .ok (.astore 4, 2) := dk_58 4 (dk_at dksX2_ofCropNow_2 19 rfl rfl)
theorem dX2_ofCropNow_68 : decode cX2_ofCropNow 68 = .ok (.aload 4, 2) := dk_25 4 (dk_at dksX2_ofCropNow_2 21 rfl rfl)
theorem dX2_ofCropNow_70 : decode cX2_ofCropNow 70 = .ok (.iload_n 2, 1) := dk_28 (dk_at dksX2_ofCropNow_2 23 rfl rfl)
theorem dX2_ofCropNow_71 : decode cX2_ofCropNow 71 = .ok (.iaload, 1) := dk_46 (dk_at dksX2_ofCropNow_3 0 rfl rfl)
theorem dX2_ofCropNow_72 : decode cX2_ofCropNow 72 = .ok (.ireturn, 1) := dk_172 (dk_at dksX2_ofCropNow_3 1 rfl rfl)
abbrev cX2_ofLot : ByteArray := prog_13_method_42_code
def yX2_ofLot : MethodName := ⟨RX2, "ofLot", "(II)I"⟩
def dkwX2_ofLot_1 : List UInt8 := [4, 167, 0, 4, 3, 5, 182, 0, 54, 153, 0, 7, 3, 167, 0, 9, 42, 27, 28, 182, 1, 94, 172]
abbrev dktX2_ofLot_1 : List UInt8 := dkwX2_ofLot_1 ++ []
def dkwX2_ofLot_0 : List UInt8 := [42, 42, 27, 182, 0, 129, 4, 182, 0, 69, 154, 0, 26, 42, 28, 3, 16, 9, 184, 0, 62, 154, 0, 7]
abbrev dktX2_ofLot_0 : List UInt8 := dkwX2_ofLot_0 ++ dktX2_ofLot_1
theorem dksX2_ofLot_0 : cX2_ofLot.data.toList.drop 0 = dktX2_ofLot_0 := by decide +kernel
theorem dksX2_ofLot_1 : cX2_ofLot.data.toList.drop 24 = dktX2_ofLot_1 := dk_seg dksX2_ofLot_0 24 rfl rfl
theorem dX2_ofLot_0 : decode cX2_ofLot 0 = .ok (.aload_n 0, 1) := dk_42 (dk_at dksX2_ofLot_0 0 rfl rfl)
theorem dX2_ofLot_1 : decode cX2_ofLot 1 = .ok (.aload_n 0, 1) := dk_42 (dk_at dksX2_ofLot_0 1 rfl rfl)
theorem dX2_ofLot_2 : decode cX2_ofLot 2 = .ok (.iload_n 1, 1) := dk_27 (dk_at dksX2_ofLot_0 2 rfl rfl)
theorem dX2_ofLot_3 : decode cX2_ofLot 3 = .ok (.invokevirtual 129, 3) := dk_182 0 129 (dk_at dksX2_ofLot_0 3 rfl rfl)
theorem dX2_ofLot_6 : decode cX2_ofLot 6 = .ok (.iconst 1, 1) := dk_4 (dk_at dksX2_ofLot_0 6 rfl rfl)
theorem dX2_ofLot_7 : decode cX2_ofLot 7 = .ok (.invokevirtual 69, 3) := dk_182 0 69 (dk_at dksX2_ofLot_0 7 rfl rfl)
theorem dX2_ofLot_10 : decode cX2_ofLot 10 = .ok (.ifCond .ne 26, 3) := dk_154 0 26 (dk_at dksX2_ofLot_0 10 rfl rfl)
theorem dX2_ofLot_13 : decode cX2_ofLot 13 = .ok (.aload_n 0, 1) := dk_42 (dk_at dksX2_ofLot_0 13 rfl rfl)
theorem dX2_ofLot_14 : decode cX2_ofLot 14 = .ok (.iload_n 2, 1) := dk_28 (dk_at dksX2_ofLot_0 14 rfl rfl)
theorem dX2_ofLot_15 : decode cX2_ofLot 15 = .ok (.iconst 0, 1) := dk_3 (dk_at dksX2_ofLot_0 15 rfl rfl)
theorem dX2_ofLot_16 : decode cX2_ofLot 16 = .ok (.bipush 9, 2) := dk_16 9 (dk_at dksX2_ofLot_0 16 rfl rfl)
theorem dX2_ofLot_18 : decode cX2_ofLot 18 = .ok (.invokestatic 62, 3) := dk_184 0 62 (dk_at dksX2_ofLot_0 18 rfl rfl)
theorem dX2_ofLot_21 : decode cX2_ofLot 21 = .ok (.ifCond .ne 7, 3) := dk_154 0 7 (dk_at dksX2_ofLot_0 21 rfl rfl)
theorem dX2_ofLot_24 : decode cX2_ofLot 24 = .ok (.iconst 1, 1) := dk_4 (dk_at dksX2_ofLot_1 0 rfl rfl)
theorem dX2_ofLot_25 : decode cX2_ofLot 25 = .ok (.goto 4, 3) := dk_167 0 4 (dk_at dksX2_ofLot_1 1 rfl rfl)
theorem dX2_ofLot_28 : decode cX2_ofLot 28 = .ok (.iconst 0, 1) := dk_3 (dk_at dksX2_ofLot_1 4 rfl rfl)
theorem dX2_ofLot_29 : decode cX2_ofLot 29 = .ok (.iconst 2, 1) := dk_5 (dk_at dksX2_ofLot_1 5 rfl rfl)
theorem dX2_ofLot_30 : decode cX2_ofLot 30 = .ok (.invokevirtual 54, 3) := dk_182 0 54 (dk_at dksX2_ofLot_1 6 rfl rfl)
theorem dX2_ofLot_33 : decode cX2_ofLot 33 = .ok (.ifCond .eq 7, 3) := dk_153 0 7 (dk_at dksX2_ofLot_1 9 rfl rfl)
theorem dX2_ofLot_36 : decode cX2_ofLot 36 = .ok (.iconst 0, 1) := dk_3 (dk_at dksX2_ofLot_1 12 rfl rfl)
theorem dX2_ofLot_37 : decode cX2_ofLot 37 = .ok (.goto 9, 3) := dk_167 0 9 (dk_at dksX2_ofLot_1 13 rfl rfl)
theorem dX2_ofLot_40 : decode cX2_ofLot 40 = .ok (.aload_n 0, 1) := dk_42 (dk_at dksX2_ofLot_1 16 rfl rfl)
theorem dX2_ofLot_41 : decode cX2_ofLot 41 = .ok (.iload_n 1, 1) := dk_27 (dk_at dksX2_ofLot_1 17 rfl rfl)
theorem dX2_ofLot_42 : decode cX2_ofLot 42 = .ok (.iload_n 2, 1) := dk_28 (dk_at dksX2_ofLot_1 18 rfl rfl)
theorem dX2_ofLot_43 : decode cX2_ofLot 43 = .ok (.invokevirtual 350, 3) := dk_182 1 94 (dk_at dksX2_ofLot_1 19 rfl rfl)
theorem dX2_ofLot_46 : decode cX2_ofLot 46 = .ok (.ireturn, 1) := dk_172 (dk_at dksX2_ofLot_1 22 rfl rfl)
abbrev cX2_ofLotNow : ByteArray := prog_13_method_41_code
def yX2_ofLotNow : MethodName := ⟨RX2, "ofLotNow", "(II)I"⟩
def dkwX2_ofLotNow_4 : List UInt8 := [28, 46, 172]
abbrev dktX2_ofLotNow_4 : List UInt8 := dkwX2_ofLotNow_4 ++ []
def dkwX2_ofLotNow_3 : List UInt8 := [180, 0, 132, 79, 89, 16, 8, 45, 180, 0, 227, 79, 89, 16, 9, 45, 180, 0, 230, 79, 58, 4, 25, 4]
abbrev dktX2_ofLotNow_3 : List UInt8 := dkwX2_ofLotNow_3 ++ dktX2_ofLotNow_4
def dkwX2_ofLotNow_2 : List UInt8 := [180, 0, 165, 79, 89, 8, 45, 180, 0, 126, 79, 89, 16, 6, 45, 180, 0, 135, 79, 89, 16, 7, 45]
abbrev dktX2_ofLotNow_2 : List UInt8 := dkwX2_ofLotNow_2 ++ dktX2_ofLotNow_3
def dkwX2_ofLotNow_1 : List UInt8 := [4, 45, 180, 0, 220, 79, 89, 5, 45, 180, 0, 162, 79, 89, 6, 45, 180, 1, 91, 79, 89, 7, 45]
abbrev dktX2_ofLotNow_1 : List UInt8 := dkwX2_ofLotNow_1 ++ dktX2_ofLotNow_2
def dkwX2_ofLotNow_0 : List UInt8 := [42, 180, 0, 33, 27, 182, 0, 83, 192, 0, 112, 78, 16, 10, 188, 10, 89, 3, 45, 180, 0, 214, 79, 89]
abbrev dktX2_ofLotNow_0 : List UInt8 := dkwX2_ofLotNow_0 ++ dktX2_ofLotNow_1
theorem dksX2_ofLotNow_0 : cX2_ofLotNow.data.toList.drop 0 = dktX2_ofLotNow_0 := by decide +kernel
theorem dksX2_ofLotNow_1 : cX2_ofLotNow.data.toList.drop 24 = dktX2_ofLotNow_1 := dk_seg dksX2_ofLotNow_0 24 rfl rfl
theorem dksX2_ofLotNow_2 : cX2_ofLotNow.data.toList.drop 47 = dktX2_ofLotNow_2 := dk_seg dksX2_ofLotNow_1 23 rfl rfl
theorem dksX2_ofLotNow_3 : cX2_ofLotNow.data.toList.drop 70 = dktX2_ofLotNow_3 := dk_seg dksX2_ofLotNow_2 23 rfl rfl
theorem dksX2_ofLotNow_4 : cX2_ofLotNow.data.toList.drop 94 = dktX2_ofLotNow_4 := dk_seg dksX2_ofLotNow_3 24 rfl rfl
theorem dX2_ofLotNow_0 : decode cX2_ofLotNow 0 = .ok (.aload_n 0, 1) := dk_42 (dk_at dksX2_ofLotNow_0 0 rfl rfl)
theorem dX2_ofLotNow_1 : decode cX2_ofLotNow 1 = .ok (.getfield 33, 3) := dk_180 0 33 (dk_at dksX2_ofLotNow_0 1 rfl rfl)
theorem dX2_ofLotNow_4 : decode cX2_ofLotNow 4 = .ok (.iload_n 1, 1) := dk_27 (dk_at dksX2_ofLotNow_0 4 rfl rfl)
theorem dX2_ofLotNow_5 : decode cX2_ofLotNow 5 = .ok (.invokevirtual 83, 3) := dk_182 0 83 (dk_at dksX2_ofLotNow_0 5 rfl rfl)
theorem dX2_ofLotNow_8 : decode cX2_ofLotNow 8 = .ok (.checkcast 112, 3) := dk_192 0 112 (dk_at dksX2_ofLotNow_0 8 rfl rfl)
theorem dX2_ofLotNow_11 : decode cX2_ofLotNow 11 = .ok (.astore_n 3, 1) := dk_78 (dk_at dksX2_ofLotNow_0 11 rfl rfl)
theorem dX2_ofLotNow_12 : decode cX2_ofLotNow 12 = .ok (.bipush 10, 2) := dk_16 10 (dk_at dksX2_ofLotNow_0 12 rfl rfl)
theorem dX2_ofLotNow_14 : decode cX2_ofLotNow 14 = .ok (.newarray .int, 2) := dk_188_10 (dk_at dksX2_ofLotNow_0 14 rfl rfl)
theorem dX2_ofLotNow_16 : decode cX2_ofLotNow 16 = .ok (.dup, 1) := dk_89 (dk_at dksX2_ofLotNow_0 16 rfl rfl)
theorem dX2_ofLotNow_17 : decode cX2_ofLotNow 17 = .ok (.iconst 0, 1) := dk_3 (dk_at dksX2_ofLotNow_0 17 rfl rfl)
theorem dX2_ofLotNow_18 : decode cX2_ofLotNow 18 = .ok (.aload_n 3, 1) := dk_45 (dk_at dksX2_ofLotNow_0 18 rfl rfl)
theorem dX2_ofLotNow_19 : decode cX2_ofLotNow 19 = .ok (.getfield 214, 3) := dk_180 0 214 (dk_at dksX2_ofLotNow_0 19 rfl rfl)
theorem dX2_ofLotNow_22 : decode cX2_ofLotNow 22 = .ok (.iastore, 1) := dk_79 (dk_at dksX2_ofLotNow_0 22 rfl rfl)
theorem dX2_ofLotNow_23 : decode cX2_ofLotNow 23 = .ok (.dup, 1) := dk_89 (dk_at dksX2_ofLotNow_0 23 rfl rfl)
theorem dX2_ofLotNow_24 : decode cX2_ofLotNow 24 = .ok (.iconst 1, 1) := dk_4 (dk_at dksX2_ofLotNow_1 0 rfl rfl)
theorem dX2_ofLotNow_25 : decode cX2_ofLotNow 25 = .ok (.aload_n 3, 1) := dk_45 (dk_at dksX2_ofLotNow_1 1 rfl rfl)
theorem dX2_ofLotNow_26 : decode cX2_ofLotNow 26 = .ok (.getfield 220, 3) := dk_180 0 220 (dk_at dksX2_ofLotNow_1 2 rfl rfl)
theorem dX2_ofLotNow_29 : decode cX2_ofLotNow 29 = .ok (.iastore, 1) := dk_79 (dk_at dksX2_ofLotNow_1 5 rfl rfl)
theorem dX2_ofLotNow_30 : decode cX2_ofLotNow 30 = .ok (.dup, 1) := dk_89 (dk_at dksX2_ofLotNow_1 6 rfl rfl)
theorem dX2_ofLotNow_31 : decode cX2_ofLotNow 31 = .ok (.iconst 2, 1) := dk_5 (dk_at dksX2_ofLotNow_1 7 rfl rfl)
theorem dX2_ofLotNow_32 : decode cX2_ofLotNow 32 = .ok (.aload_n 3, 1) := dk_45 (dk_at dksX2_ofLotNow_1 8 rfl rfl)
theorem dX2_ofLotNow_33 : decode cX2_ofLotNow 33 = .ok (.getfield 162, 3) := dk_180 0 162 (dk_at dksX2_ofLotNow_1 9 rfl rfl)
theorem dX2_ofLotNow_36 : decode cX2_ofLotNow 36 = .ok (.iastore, 1) := dk_79 (dk_at dksX2_ofLotNow_1 12 rfl rfl)
theorem dX2_ofLotNow_37 : decode cX2_ofLotNow 37 = .ok (.dup, 1) := dk_89 (dk_at dksX2_ofLotNow_1 13 rfl rfl)
theorem dX2_ofLotNow_38 : decode cX2_ofLotNow 38 = .ok (.iconst 3, 1) := dk_6 (dk_at dksX2_ofLotNow_1 14 rfl rfl)
theorem dX2_ofLotNow_39 : decode cX2_ofLotNow 39 = .ok (.aload_n 3, 1) := dk_45 (dk_at dksX2_ofLotNow_1 15 rfl rfl)
theorem dX2_ofLotNow_40 : decode cX2_ofLotNow 40 = .ok (.getfield 347, 3) := dk_180 1 91 (dk_at dksX2_ofLotNow_1 16 rfl rfl)
theorem dX2_ofLotNow_43 : decode cX2_ofLotNow 43 = .ok (.iastore, 1) := dk_79 (dk_at dksX2_ofLotNow_1 19 rfl rfl)
theorem dX2_ofLotNow_44 : decode cX2_ofLotNow 44 = .ok (.dup, 1) := dk_89 (dk_at dksX2_ofLotNow_1 20 rfl rfl)
theorem dX2_ofLotNow_45 : decode cX2_ofLotNow 45 = .ok (.iconst 4, 1) := dk_7 (dk_at dksX2_ofLotNow_1 21 rfl rfl)
theorem dX2_ofLotNow_46 : decode cX2_ofLotNow 46 = .ok (.aload_n 3, 1) := dk_45 (dk_at dksX2_ofLotNow_1 22 rfl rfl)
theorem dX2_ofLotNow_47 : decode cX2_ofLotNow 47 = .ok (.getfield 165, 3) := dk_180 0 165 (dk_at dksX2_ofLotNow_2 0 rfl rfl)
theorem dX2_ofLotNow_50 : decode cX2_ofLotNow 50 = .ok (.iastore, 1) := dk_79 (dk_at dksX2_ofLotNow_2 3 rfl rfl)
theorem dX2_ofLotNow_51 : decode cX2_ofLotNow 51 = .ok (.dup, 1) := dk_89 (dk_at dksX2_ofLotNow_2 4 rfl rfl)
theorem dX2_ofLotNow_52 : decode cX2_ofLotNow 52 = .ok (.iconst 5, 1) := dk_8 (dk_at dksX2_ofLotNow_2 5 rfl rfl)
theorem dX2_ofLotNow_53 : decode cX2_ofLotNow 53 = .ok (.aload_n 3, 1) := dk_45 (dk_at dksX2_ofLotNow_2 6 rfl rfl)
theorem dX2_ofLotNow_54 : decode cX2_ofLotNow 54 = .ok (.getfield 126, 3) := dk_180 0 126 (dk_at dksX2_ofLotNow_2 7 rfl rfl)
theorem dX2_ofLotNow_57 : decode cX2_ofLotNow 57 = .ok (.iastore, 1) := dk_79 (dk_at dksX2_ofLotNow_2 10 rfl rfl)
theorem dX2_ofLotNow_58 : decode cX2_ofLotNow 58 = .ok (.dup, 1) := dk_89 (dk_at dksX2_ofLotNow_2 11 rfl rfl)
theorem dX2_ofLotNow_59 : decode cX2_ofLotNow 59 = .ok (.bipush 6, 2) := dk_16 6 (dk_at dksX2_ofLotNow_2 12 rfl rfl)
theorem dX2_ofLotNow_61 : decode cX2_ofLotNow 61 = .ok (.aload_n 3, 1) := dk_45 (dk_at dksX2_ofLotNow_2 14 rfl rfl)
theorem dX2_ofLotNow_62 : decode cX2_ofLotNow 62 = .ok (.getfield 135, 3) := dk_180 0 135 (dk_at dksX2_ofLotNow_2 15 rfl rfl)
theorem dX2_ofLotNow_65 : decode cX2_ofLotNow 65 = .ok (.iastore, 1) := dk_79 (dk_at dksX2_ofLotNow_2 18 rfl rfl)
theorem dX2_ofLotNow_66 : decode cX2_ofLotNow 66 = .ok (.dup, 1) := dk_89 (dk_at dksX2_ofLotNow_2 19 rfl rfl)
theorem dX2_ofLotNow_67 : decode cX2_ofLotNow 67 = .ok (.bipush 7, 2) := dk_16 7 (dk_at dksX2_ofLotNow_2 20 rfl rfl)
theorem dX2_ofLotNow_69 : decode cX2_ofLotNow 69 = .ok (.aload_n 3, 1) := dk_45 (dk_at dksX2_ofLotNow_2 22 rfl rfl)
theorem dX2_ofLotNow_70 : decode cX2_ofLotNow 70 = .ok (.getfield 132, 3) := dk_180 0 132 (dk_at dksX2_ofLotNow_3 0 rfl rfl)
theorem dX2_ofLotNow_73 : decode cX2_ofLotNow 73 = .ok (.iastore, 1) := dk_79 (dk_at dksX2_ofLotNow_3 3 rfl rfl)
theorem dX2_ofLotNow_74 : decode cX2_ofLotNow 74 = .ok (.dup, 1) := dk_89 (dk_at dksX2_ofLotNow_3 4 rfl rfl)
theorem dX2_ofLotNow_75 : decode cX2_ofLotNow 75 = .ok (.bipush 8, 2) := dk_16 8 (dk_at dksX2_ofLotNow_3 5 rfl rfl)
theorem dX2_ofLotNow_77 : decode cX2_ofLotNow 77 = .ok (.aload_n 3, 1) := dk_45 (dk_at dksX2_ofLotNow_3 7 rfl rfl)
theorem dX2_ofLotNow_78 : decode cX2_ofLotNow 78 = .ok (.getfield 227, 3) := dk_180 0 227 (dk_at dksX2_ofLotNow_3 8 rfl rfl)
theorem dX2_ofLotNow_81 : decode cX2_ofLotNow 81 = .ok (.iastore, 1) := dk_79 (dk_at dksX2_ofLotNow_3 11 rfl rfl)
theorem dX2_ofLotNow_82 : decode cX2_ofLotNow 82 = .ok (.dup, 1) := dk_89 (dk_at dksX2_ofLotNow_3 12 rfl rfl)
theorem dX2_ofLotNow_83 : decode cX2_ofLotNow 83 = .ok (.bipush 9, 2) := dk_16 9 (dk_at dksX2_ofLotNow_3 13 rfl rfl)
theorem dX2_ofLotNow_85 : decode cX2_ofLotNow 85 = .ok (.aload_n 3, 1) := dk_45 (dk_at dksX2_ofLotNow_3 15 rfl rfl)
theorem dX2_ofLotNow_86 : decode cX2_ofLotNow 86 = .ok (.getfield 230, 3) := dk_180 0 230 (dk_at dksX2_ofLotNow_3 16 rfl rfl)
theorem dX2_ofLotNow_89 : decode cX2_ofLotNow 89 = .ok (.iastore, 1) := dk_79 (dk_at dksX2_ofLotNow_3 19 rfl rfl)
theorem dX2_ofLotNow_90 : decode cX2_ofLotNow 90 = .ok (.astore 4, 2) := dk_58 4 (dk_at dksX2_ofLotNow_3 20 rfl rfl)
theorem dX2_ofLotNow_92 : decode cX2_ofLotNow 92 = .ok (.aload 4, 2) := dk_25 4 (dk_at dksX2_ofLotNow_3 22 rfl rfl)
theorem dX2_ofLotNow_94 : decode cX2_ofLotNow 94 = .ok (.iload_n 2, 1) := dk_28 (dk_at dksX2_ofLotNow_4 0 rfl rfl)
theorem dX2_ofLotNow_95 : decode cX2_ofLotNow 95 = .ok (.iaload, 1) := dk_46 (dk_at dksX2_ofLotNow_4 1 rfl rfl)
theorem dX2_ofLotNow_96 : decode cX2_ofLotNow 96 = .ok (.ireturn, 1) := dk_172 (dk_at dksX2_ofLotNow_4 2 rfl rfl)
abbrev cX2_ofGrower : ByteArray := prog_13_method_44_code
def yX2_ofGrower : MethodName := ⟨RX2, "ofGrower", "(II)I"⟩
def dkwX2_ofGrower_1 : List UInt8 := [167, 0, 4, 3, 5, 182, 0, 54, 153, 0, 7, 3, 167, 0, 9, 42, 27, 28, 182, 1, 100, 172]
abbrev dktX2_ofGrower_1 : List UInt8 := dkwX2_ofGrower_1 ++ []
def dkwX2_ofGrower_0 : List UInt8 := [42, 42, 27, 182, 0, 79, 4, 182, 0, 69, 154, 0, 25, 42, 28, 3, 7, 184, 0, 62, 154, 0, 7, 4]
abbrev dktX2_ofGrower_0 : List UInt8 := dkwX2_ofGrower_0 ++ dktX2_ofGrower_1
theorem dksX2_ofGrower_0 : cX2_ofGrower.data.toList.drop 0 = dktX2_ofGrower_0 := by decide +kernel
theorem dksX2_ofGrower_1 : cX2_ofGrower.data.toList.drop 24 = dktX2_ofGrower_1 := dk_seg dksX2_ofGrower_0 24 rfl rfl
theorem dX2_ofGrower_0 : decode cX2_ofGrower 0 = .ok (.aload_n 0, 1) := dk_42 (dk_at dksX2_ofGrower_0 0 rfl rfl)
theorem dX2_ofGrower_1 : decode cX2_ofGrower 1 = .ok (.aload_n 0, 1) := dk_42 (dk_at dksX2_ofGrower_0 1 rfl rfl)
theorem dX2_ofGrower_2 : decode cX2_ofGrower 2 = .ok (.iload_n 1, 1) := dk_27 (dk_at dksX2_ofGrower_0 2 rfl rfl)
theorem dX2_ofGrower_3 : decode cX2_ofGrower 3 = .ok (.invokevirtual 79, 3) := dk_182 0 79 (dk_at dksX2_ofGrower_0 3 rfl rfl)
theorem dX2_ofGrower_6 : decode cX2_ofGrower 6 = .ok (.iconst 1, 1) := dk_4 (dk_at dksX2_ofGrower_0 6 rfl rfl)
theorem dX2_ofGrower_7 : decode cX2_ofGrower 7 = .ok (.invokevirtual 69, 3) := dk_182 0 69 (dk_at dksX2_ofGrower_0 7 rfl rfl)
theorem dX2_ofGrower_10 : decode cX2_ofGrower 10 = .ok (.ifCond .ne 25, 3) := dk_154 0 25 (dk_at dksX2_ofGrower_0 10 rfl rfl)
theorem dX2_ofGrower_13 : decode cX2_ofGrower 13 = .ok (.aload_n 0, 1) := dk_42 (dk_at dksX2_ofGrower_0 13 rfl rfl)
theorem dX2_ofGrower_14 : decode cX2_ofGrower 14 = .ok (.iload_n 2, 1) := dk_28 (dk_at dksX2_ofGrower_0 14 rfl rfl)
theorem dX2_ofGrower_15 : decode cX2_ofGrower 15 = .ok (.iconst 0, 1) := dk_3 (dk_at dksX2_ofGrower_0 15 rfl rfl)
theorem dX2_ofGrower_16 : decode cX2_ofGrower 16 = .ok (.iconst 4, 1) := dk_7 (dk_at dksX2_ofGrower_0 16 rfl rfl)
theorem dX2_ofGrower_17 : decode cX2_ofGrower 17 = .ok (.invokestatic 62, 3) := dk_184 0 62 (dk_at dksX2_ofGrower_0 17 rfl rfl)
theorem dX2_ofGrower_20 : decode cX2_ofGrower 20 = .ok (.ifCond .ne 7, 3) := dk_154 0 7 (dk_at dksX2_ofGrower_0 20 rfl rfl)
theorem dX2_ofGrower_23 : decode cX2_ofGrower 23 = .ok (.iconst 1, 1) := dk_4 (dk_at dksX2_ofGrower_0 23 rfl rfl)
theorem dX2_ofGrower_24 : decode cX2_ofGrower 24 = .ok (.goto 4, 3) := dk_167 0 4 (dk_at dksX2_ofGrower_1 0 rfl rfl)
theorem dX2_ofGrower_27 : decode cX2_ofGrower 27 = .ok (.iconst 0, 1) := dk_3 (dk_at dksX2_ofGrower_1 3 rfl rfl)
theorem dX2_ofGrower_28 : decode cX2_ofGrower 28 = .ok (.iconst 2, 1) := dk_5 (dk_at dksX2_ofGrower_1 4 rfl rfl)
theorem dX2_ofGrower_29 : decode cX2_ofGrower 29 = .ok (.invokevirtual 54, 3) := dk_182 0 54 (dk_at dksX2_ofGrower_1 5 rfl rfl)
theorem dX2_ofGrower_32 : decode cX2_ofGrower 32 = .ok (.ifCond .eq 7, 3) := dk_153 0 7 (dk_at dksX2_ofGrower_1 8 rfl rfl)
theorem dX2_ofGrower_35 : decode cX2_ofGrower 35 = .ok (.iconst 0, 1) := dk_3 (dk_at dksX2_ofGrower_1 11 rfl rfl)
theorem dX2_ofGrower_36 : decode cX2_ofGrower 36 = .ok (.goto 9, 3) := dk_167 0 9 (dk_at dksX2_ofGrower_1 12 rfl rfl)
theorem dX2_ofGrower_39 : decode cX2_ofGrower 39 = .ok (.aload_n 0, 1) := dk_42 (dk_at dksX2_ofGrower_1 15 rfl rfl)
theorem dX2_ofGrower_40 : decode cX2_ofGrower 40 = .ok (.iload_n 1, 1) := dk_27 (dk_at dksX2_ofGrower_1 16 rfl rfl)
theorem dX2_ofGrower_41 : decode cX2_ofGrower 41 = .ok (.iload_n 2, 1) := dk_28 (dk_at dksX2_ofGrower_1 17 rfl rfl)
theorem dX2_ofGrower_42 : decode cX2_ofGrower 42 = .ok (.invokevirtual 356, 3) := dk_182 1 100 (dk_at dksX2_ofGrower_1 18 rfl rfl)
theorem dX2_ofGrower_45 : decode cX2_ofGrower 45 = .ok (.ireturn, 1) := dk_172 (dk_at dksX2_ofGrower_1 21 rfl rfl)
abbrev cX2_ofGrowerNow : ByteArray := prog_13_method_43_code
def yX2_ofGrowerNow : MethodName := ⟨RX2, "ofGrowerNow", "(II)I"⟩
def dkwX2_ofGrowerNow_2 : List UInt8 := [182, 0, 217, 182, 1, 97, 79, 58, 4, 25, 4, 28, 46, 172]
abbrev dktX2_ofGrowerNow_2 : List UInt8 := dkwX2_ofGrowerNow_2 ++ []
def dkwX2_ofGrowerNow_1 : List UInt8 := [45, 180, 0, 87, 79, 89, 5, 45, 180, 0, 237, 79, 89, 6, 45, 180, 1, 59, 79, 89, 7, 45, 42]
abbrev dktX2_ofGrowerNow_1 : List UInt8 := dkwX2_ofGrowerNow_1 ++ dktX2_ofGrowerNow_2
def dkwX2_ofGrowerNow_0 : List UInt8 := [42, 180, 0, 26, 27, 182, 0, 83, 192, 0, 72, 78, 8, 188, 10, 89, 3, 45, 180, 0, 159, 79, 89, 4]
abbrev dktX2_ofGrowerNow_0 : List UInt8 := dkwX2_ofGrowerNow_0 ++ dktX2_ofGrowerNow_1
theorem dksX2_ofGrowerNow_0 : cX2_ofGrowerNow.data.toList.drop 0 = dktX2_ofGrowerNow_0 := by decide +kernel
theorem dksX2_ofGrowerNow_1 : cX2_ofGrowerNow.data.toList.drop 24 = dktX2_ofGrowerNow_1 := dk_seg dksX2_ofGrowerNow_0 24 rfl rfl
theorem dksX2_ofGrowerNow_2 : cX2_ofGrowerNow.data.toList.drop 47 = dktX2_ofGrowerNow_2 := dk_seg dksX2_ofGrowerNow_1 23 rfl rfl
theorem dX2_ofGrowerNow_0 : decode cX2_ofGrowerNow 0 = .ok (.aload_n 0, 1) := dk_42 (dk_at dksX2_ofGrowerNow_0 0 rfl rfl)
theorem dX2_ofGrowerNow_1 : decode cX2_ofGrowerNow 1 = .ok (.getfield 26, 3) := dk_180 0 26 (dk_at dksX2_ofGrowerNow_0 1 rfl rfl)
theorem dX2_ofGrowerNow_4 : decode cX2_ofGrowerNow 4 = .ok (.iload_n 1, 1) := dk_27 (dk_at dksX2_ofGrowerNow_0 4 rfl rfl)
theorem dX2_ofGrowerNow_5 : decode cX2_ofGrowerNow 5 = .ok (.invokevirtual 83, 3) := dk_182 0 83 (dk_at dksX2_ofGrowerNow_0 5 rfl rfl)
theorem dX2_ofGrowerNow_8 : decode cX2_ofGrowerNow 8 = .ok (.checkcast 72, 3) := dk_192 0 72 (dk_at dksX2_ofGrowerNow_0 8 rfl rfl)
theorem dX2_ofGrowerNow_11 : decode cX2_ofGrowerNow 11 = .ok (.astore_n 3, 1) := dk_78 (dk_at dksX2_ofGrowerNow_0 11 rfl rfl)
theorem dX2_ofGrowerNow_12 : decode cX2_ofGrowerNow 12 = .ok (.iconst 5, 1) := dk_8 (dk_at dksX2_ofGrowerNow_0 12 rfl rfl)
theorem dX2_ofGrowerNow_13 : decode cX2_ofGrowerNow 13 = .ok (.newarray .int, 2) := dk_188_10 (dk_at dksX2_ofGrowerNow_0 13 rfl rfl)
theorem dX2_ofGrowerNow_15 : decode cX2_ofGrowerNow 15 = .ok (.dup, 1) := dk_89 (dk_at dksX2_ofGrowerNow_0 15 rfl rfl)
theorem dX2_ofGrowerNow_16 : decode cX2_ofGrowerNow 16 = .ok (.iconst 0, 1) := dk_3 (dk_at dksX2_ofGrowerNow_0 16 rfl rfl)
theorem dX2_ofGrowerNow_17 : decode cX2_ofGrowerNow 17 = .ok (.aload_n 3, 1) := dk_45 (dk_at dksX2_ofGrowerNow_0 17 rfl rfl)
theorem dX2_ofGrowerNow_18 : decode cX2_ofGrowerNow 18 = .ok (.getfield 159, 3) := dk_180 0 159 (dk_at dksX2_ofGrowerNow_0 18 rfl rfl)
theorem dX2_ofGrowerNow_21 : decode cX2_ofGrowerNow 21 = .ok (.iastore, 1) := dk_79 (dk_at dksX2_ofGrowerNow_0 21 rfl rfl)
theorem dX2_ofGrowerNow_22 : decode cX2_ofGrowerNow 22 = .ok (.dup, 1) := dk_89 (dk_at dksX2_ofGrowerNow_0 22 rfl rfl)
theorem dX2_ofGrowerNow_23 : decode cX2_ofGrowerNow 23 = .ok (.iconst 1, 1) := dk_4 (dk_at dksX2_ofGrowerNow_0 23 rfl rfl)
theorem dX2_ofGrowerNow_24 : decode cX2_ofGrowerNow 24 = .ok (.aload_n 3, 1) := dk_45 (dk_at dksX2_ofGrowerNow_1 0 rfl rfl)
theorem dX2_ofGrowerNow_25 : decode cX2_ofGrowerNow 25 = .ok (.getfield 87, 3) := dk_180 0 87 (dk_at dksX2_ofGrowerNow_1 1 rfl rfl)
theorem dX2_ofGrowerNow_28 : decode cX2_ofGrowerNow 28 = .ok (.iastore, 1) := dk_79 (dk_at dksX2_ofGrowerNow_1 4 rfl rfl)
theorem dX2_ofGrowerNow_29 : decode cX2_ofGrowerNow 29 = .ok (.dup, 1) := dk_89 (dk_at dksX2_ofGrowerNow_1 5 rfl rfl)
theorem dX2_ofGrowerNow_30 : decode cX2_ofGrowerNow 30 = .ok (.iconst 2, 1) := dk_5 (dk_at dksX2_ofGrowerNow_1 6 rfl rfl)
theorem dX2_ofGrowerNow_31 : decode cX2_ofGrowerNow 31 = .ok (.aload_n 3, 1) := dk_45 (dk_at dksX2_ofGrowerNow_1 7 rfl rfl)
theorem dX2_ofGrowerNow_32 : decode cX2_ofGrowerNow 32 = .ok (.getfield 237, 3) := dk_180 0 237 (dk_at dksX2_ofGrowerNow_1 8 rfl rfl)
theorem dX2_ofGrowerNow_35 : decode cX2_ofGrowerNow 35 = .ok (.iastore, 1) := dk_79 (dk_at dksX2_ofGrowerNow_1 11 rfl rfl)
theorem dX2_ofGrowerNow_36 : decode cX2_ofGrowerNow 36 = .ok (.dup, 1) := dk_89 (dk_at dksX2_ofGrowerNow_1 12 rfl rfl)
theorem dX2_ofGrowerNow_37 : decode cX2_ofGrowerNow 37 = .ok (.iconst 3, 1) := dk_6 (dk_at dksX2_ofGrowerNow_1 13 rfl rfl)
theorem dX2_ofGrowerNow_38 : decode cX2_ofGrowerNow 38 = .ok (.aload_n 3, 1) := dk_45 (dk_at dksX2_ofGrowerNow_1 14 rfl rfl)
theorem dX2_ofGrowerNow_39 : decode cX2_ofGrowerNow 39 = .ok (.getfield 315, 3) := dk_180 1 59 (dk_at dksX2_ofGrowerNow_1 15 rfl rfl)
theorem dX2_ofGrowerNow_42 : decode cX2_ofGrowerNow 42 = .ok (.iastore, 1) := dk_79 (dk_at dksX2_ofGrowerNow_1 18 rfl rfl)
theorem dX2_ofGrowerNow_43 : decode cX2_ofGrowerNow 43 = .ok (.dup, 1) := dk_89 (dk_at dksX2_ofGrowerNow_1 19 rfl rfl)
theorem dX2_ofGrowerNow_44 : decode cX2_ofGrowerNow 44 = .ok (.iconst 4, 1) := dk_7 (dk_at dksX2_ofGrowerNow_1 20 rfl rfl)
theorem dX2_ofGrowerNow_45 : decode cX2_ofGrowerNow 45 = .ok (.aload_n 3, 1) := dk_45 (dk_at dksX2_ofGrowerNow_1 21 rfl rfl)
theorem dX2_ofGrowerNow_46 : decode cX2_ofGrowerNow 46 = .ok (.aload_n 0, 1) := dk_42 (dk_at dksX2_ofGrowerNow_1 22 rfl rfl)
theorem dX2_ofGrowerNow_47 : decode cX2_ofGrowerNow 47 = .ok (.invokevirtual 217, 3) := dk_182 0 217 (dk_at dksX2_ofGrowerNow_2 0 rfl rfl)
theorem dX2_ofGrowerNow_50 : decode cX2_ofGrowerNow 50 = .ok (.invokevirtual 353, 3) := dk_182 1 97 (dk_at dksX2_ofGrowerNow_2 3 rfl rfl)
theorem dX2_ofGrowerNow_53 : decode cX2_ofGrowerNow 53 = .ok (.iastore, 1) := dk_79 (dk_at dksX2_ofGrowerNow_2 6 rfl rfl)
theorem dX2_ofGrowerNow_54 : decode cX2_ofGrowerNow 54 = .ok (.astore 4, 2) := dk_58 4 (dk_at dksX2_ofGrowerNow_2 7 rfl rfl)
theorem dX2_ofGrowerNow_56 : decode cX2_ofGrowerNow 56 = .ok (.aload 4, 2) := dk_25 4 (dk_at dksX2_ofGrowerNow_2 9 rfl rfl)
theorem dX2_ofGrowerNow_58 : decode cX2_ofGrowerNow 58 = .ok (.iload_n 2, 1) := dk_28 (dk_at dksX2_ofGrowerNow_2 11 rfl rfl)
theorem dX2_ofGrowerNow_59 : decode cX2_ofGrowerNow 59 = .ok (.iaload, 1) := dk_46 (dk_at dksX2_ofGrowerNow_2 12 rfl rfl)
theorem dX2_ofGrowerNow_60 : decode cX2_ofGrowerNow 60 = .ok (.ireturn, 1) := dk_172 (dk_at dksX2_ofGrowerNow_2 13 rfl rfl)
abbrev cX2_ofBuyer : ByteArray := prog_13_method_46_code
def yX2_ofBuyer : MethodName := ⟨RX2, "ofBuyer", "(II)I"⟩
def dkwX2_ofBuyer_1 : List UInt8 := [4, 167, 0, 4, 3, 5, 182, 0, 54, 153, 0, 7, 3, 167, 0, 9, 42, 27, 28, 182, 1, 109, 172]
abbrev dktX2_ofBuyer_1 : List UInt8 := dkwX2_ofBuyer_1 ++ []
def dkwX2_ofBuyer_0 : List UInt8 := [42, 42, 27, 182, 0, 245, 4, 182, 0, 69, 154, 0, 26, 42, 28, 3, 16, 8, 184, 0, 62, 154, 0, 7]
abbrev dktX2_ofBuyer_0 : List UInt8 := dkwX2_ofBuyer_0 ++ dktX2_ofBuyer_1
theorem dksX2_ofBuyer_0 : cX2_ofBuyer.data.toList.drop 0 = dktX2_ofBuyer_0 := by decide +kernel
theorem dksX2_ofBuyer_1 : cX2_ofBuyer.data.toList.drop 24 = dktX2_ofBuyer_1 := dk_seg dksX2_ofBuyer_0 24 rfl rfl
theorem dX2_ofBuyer_0 : decode cX2_ofBuyer 0 = .ok (.aload_n 0, 1) := dk_42 (dk_at dksX2_ofBuyer_0 0 rfl rfl)
theorem dX2_ofBuyer_1 : decode cX2_ofBuyer 1 = .ok (.aload_n 0, 1) := dk_42 (dk_at dksX2_ofBuyer_0 1 rfl rfl)
theorem dX2_ofBuyer_2 : decode cX2_ofBuyer 2 = .ok (.iload_n 1, 1) := dk_27 (dk_at dksX2_ofBuyer_0 2 rfl rfl)
theorem dX2_ofBuyer_3 : decode cX2_ofBuyer 3 = .ok (.invokevirtual 245, 3) := dk_182 0 245 (dk_at dksX2_ofBuyer_0 3 rfl rfl)
theorem dX2_ofBuyer_6 : decode cX2_ofBuyer 6 = .ok (.iconst 1, 1) := dk_4 (dk_at dksX2_ofBuyer_0 6 rfl rfl)
theorem dX2_ofBuyer_7 : decode cX2_ofBuyer 7 = .ok (.invokevirtual 69, 3) := dk_182 0 69 (dk_at dksX2_ofBuyer_0 7 rfl rfl)
theorem dX2_ofBuyer_10 : decode cX2_ofBuyer 10 = .ok (.ifCond .ne 26, 3) := dk_154 0 26 (dk_at dksX2_ofBuyer_0 10 rfl rfl)
theorem dX2_ofBuyer_13 : decode cX2_ofBuyer 13 = .ok (.aload_n 0, 1) := dk_42 (dk_at dksX2_ofBuyer_0 13 rfl rfl)
theorem dX2_ofBuyer_14 : decode cX2_ofBuyer 14 = .ok (.iload_n 2, 1) := dk_28 (dk_at dksX2_ofBuyer_0 14 rfl rfl)
theorem dX2_ofBuyer_15 : decode cX2_ofBuyer 15 = .ok (.iconst 0, 1) := dk_3 (dk_at dksX2_ofBuyer_0 15 rfl rfl)
theorem dX2_ofBuyer_16 : decode cX2_ofBuyer 16 = .ok (.bipush 8, 2) := dk_16 8 (dk_at dksX2_ofBuyer_0 16 rfl rfl)
theorem dX2_ofBuyer_18 : decode cX2_ofBuyer 18 = .ok (.invokestatic 62, 3) := dk_184 0 62 (dk_at dksX2_ofBuyer_0 18 rfl rfl)
theorem dX2_ofBuyer_21 : decode cX2_ofBuyer 21 = .ok (.ifCond .ne 7, 3) := dk_154 0 7 (dk_at dksX2_ofBuyer_0 21 rfl rfl)
theorem dX2_ofBuyer_24 : decode cX2_ofBuyer 24 = .ok (.iconst 1, 1) := dk_4 (dk_at dksX2_ofBuyer_1 0 rfl rfl)
theorem dX2_ofBuyer_25 : decode cX2_ofBuyer 25 = .ok (.goto 4, 3) := dk_167 0 4 (dk_at dksX2_ofBuyer_1 1 rfl rfl)
theorem dX2_ofBuyer_28 : decode cX2_ofBuyer 28 = .ok (.iconst 0, 1) := dk_3 (dk_at dksX2_ofBuyer_1 4 rfl rfl)
theorem dX2_ofBuyer_29 : decode cX2_ofBuyer 29 = .ok (.iconst 2, 1) := dk_5 (dk_at dksX2_ofBuyer_1 5 rfl rfl)
theorem dX2_ofBuyer_30 : decode cX2_ofBuyer 30 = .ok (.invokevirtual 54, 3) := dk_182 0 54 (dk_at dksX2_ofBuyer_1 6 rfl rfl)
theorem dX2_ofBuyer_33 : decode cX2_ofBuyer 33 = .ok (.ifCond .eq 7, 3) := dk_153 0 7 (dk_at dksX2_ofBuyer_1 9 rfl rfl)
theorem dX2_ofBuyer_36 : decode cX2_ofBuyer 36 = .ok (.iconst 0, 1) := dk_3 (dk_at dksX2_ofBuyer_1 12 rfl rfl)
theorem dX2_ofBuyer_37 : decode cX2_ofBuyer 37 = .ok (.goto 9, 3) := dk_167 0 9 (dk_at dksX2_ofBuyer_1 13 rfl rfl)
theorem dX2_ofBuyer_40 : decode cX2_ofBuyer 40 = .ok (.aload_n 0, 1) := dk_42 (dk_at dksX2_ofBuyer_1 16 rfl rfl)
theorem dX2_ofBuyer_41 : decode cX2_ofBuyer 41 = .ok (.iload_n 1, 1) := dk_27 (dk_at dksX2_ofBuyer_1 17 rfl rfl)
theorem dX2_ofBuyer_42 : decode cX2_ofBuyer 42 = .ok (.iload_n 2, 1) := dk_28 (dk_at dksX2_ofBuyer_1 18 rfl rfl)
theorem dX2_ofBuyer_43 : decode cX2_ofBuyer 43 = .ok (.invokevirtual 365, 3) := dk_182 1 109 (dk_at dksX2_ofBuyer_1 19 rfl rfl)
theorem dX2_ofBuyer_46 : decode cX2_ofBuyer 46 = .ok (.ireturn, 1) := dk_172 (dk_at dksX2_ofBuyer_1 22 rfl rfl)
abbrev cX2_ofBuyerNow : ByteArray := prog_13_method_45_code
def yX2_ofBuyerNow : MethodName := ⟨RX2, "ofBuyerNow", "(II)I"⟩
def dkwX2_ofBuyerNow_3 : List UInt8 := [79, 89, 16, 7, 45, 180, 1, 54, 79, 89, 16, 8, 45, 180, 1, 106, 79, 58, 4, 25, 4, 28, 46, 172]
abbrev dktX2_ofBuyerNow_3 : List UInt8 := dkwX2_ofBuyerNow_3 ++ []
def dkwX2_ofBuyerNow_2 : List UInt8 := [180, 0, 210, 3, 46, 79, 89, 8, 45, 180, 0, 210, 4, 46, 79, 89, 16, 6, 45, 180, 0, 210, 5, 46]
abbrev dktX2_ofBuyerNow_2 : List UInt8 := dkwX2_ofBuyerNow_2 ++ dktX2_ofBuyerNow_3
def dkwX2_ofBuyerNow_1 : List UInt8 := [4, 45, 180, 1, 103, 79, 89, 5, 45, 180, 0, 248, 79, 89, 6, 45, 180, 0, 199, 79, 89, 7, 45]
abbrev dktX2_ofBuyerNow_1 : List UInt8 := dkwX2_ofBuyerNow_1 ++ dktX2_ofBuyerNow_2
def dkwX2_ofBuyerNow_0 : List UInt8 := [42, 180, 0, 39, 27, 182, 0, 83, 192, 0, 197, 78, 16, 9, 188, 10, 89, 3, 45, 180, 1, 49, 79, 89]
abbrev dktX2_ofBuyerNow_0 : List UInt8 := dkwX2_ofBuyerNow_0 ++ dktX2_ofBuyerNow_1
theorem dksX2_ofBuyerNow_0 : cX2_ofBuyerNow.data.toList.drop 0 = dktX2_ofBuyerNow_0 := by decide +kernel
theorem dksX2_ofBuyerNow_1 : cX2_ofBuyerNow.data.toList.drop 24 = dktX2_ofBuyerNow_1 := dk_seg dksX2_ofBuyerNow_0 24 rfl rfl
theorem dksX2_ofBuyerNow_2 : cX2_ofBuyerNow.data.toList.drop 47 = dktX2_ofBuyerNow_2 := dk_seg dksX2_ofBuyerNow_1 23 rfl rfl
theorem dksX2_ofBuyerNow_3 : cX2_ofBuyerNow.data.toList.drop 71 = dktX2_ofBuyerNow_3 := dk_seg dksX2_ofBuyerNow_2 24 rfl rfl
theorem dX2_ofBuyerNow_0 : decode cX2_ofBuyerNow 0 = .ok (.aload_n 0, 1) := dk_42 (dk_at dksX2_ofBuyerNow_0 0 rfl rfl)
theorem dX2_ofBuyerNow_1 : decode cX2_ofBuyerNow 1 = .ok (.getfield 39, 3) := dk_180 0 39 (dk_at dksX2_ofBuyerNow_0 1 rfl rfl)
theorem dX2_ofBuyerNow_4 : decode cX2_ofBuyerNow 4 = .ok (.iload_n 1, 1) := dk_27 (dk_at dksX2_ofBuyerNow_0 4 rfl rfl)
theorem dX2_ofBuyerNow_5 : decode cX2_ofBuyerNow 5 = .ok (.invokevirtual 83, 3) := dk_182 0 83 (dk_at dksX2_ofBuyerNow_0 5 rfl rfl)
theorem dX2_ofBuyerNow_8 : decode cX2_ofBuyerNow 8 = .ok (.checkcast 197, 3) := dk_192 0 197 (dk_at dksX2_ofBuyerNow_0 8 rfl rfl)
theorem dX2_ofBuyerNow_11 : decode cX2_ofBuyerNow 11 = .ok (.astore_n 3, 1) := dk_78 (dk_at dksX2_ofBuyerNow_0 11 rfl rfl)
theorem dX2_ofBuyerNow_12 : decode cX2_ofBuyerNow 12 = .ok (.bipush 9, 2) := dk_16 9 (dk_at dksX2_ofBuyerNow_0 12 rfl rfl)
theorem dX2_ofBuyerNow_14 : decode cX2_ofBuyerNow 14 = .ok (.newarray .int, 2) := dk_188_10 (dk_at dksX2_ofBuyerNow_0 14 rfl rfl)
theorem dX2_ofBuyerNow_16 : decode cX2_ofBuyerNow 16 = .ok (.dup, 1) := dk_89 (dk_at dksX2_ofBuyerNow_0 16 rfl rfl)
theorem dX2_ofBuyerNow_17 : decode cX2_ofBuyerNow 17 = .ok (.iconst 0, 1) := dk_3 (dk_at dksX2_ofBuyerNow_0 17 rfl rfl)
theorem dX2_ofBuyerNow_18 : decode cX2_ofBuyerNow 18 = .ok (.aload_n 3, 1) := dk_45 (dk_at dksX2_ofBuyerNow_0 18 rfl rfl)
theorem dX2_ofBuyerNow_19 : decode cX2_ofBuyerNow 19 = .ok (.getfield 305, 3) := dk_180 1 49 (dk_at dksX2_ofBuyerNow_0 19 rfl rfl)
theorem dX2_ofBuyerNow_22 : decode cX2_ofBuyerNow 22 = .ok (.iastore, 1) := dk_79 (dk_at dksX2_ofBuyerNow_0 22 rfl rfl)
theorem dX2_ofBuyerNow_23 : decode cX2_ofBuyerNow 23 = .ok (.dup, 1) := dk_89 (dk_at dksX2_ofBuyerNow_0 23 rfl rfl)
theorem dX2_ofBuyerNow_24 : decode cX2_ofBuyerNow 24 = .ok (.iconst 1, 1) := dk_4 (dk_at dksX2_ofBuyerNow_1 0 rfl rfl)
theorem dX2_ofBuyerNow_25 : decode cX2_ofBuyerNow 25 = .ok (.aload_n 3, 1) := dk_45 (dk_at dksX2_ofBuyerNow_1 1 rfl rfl)
theorem dX2_ofBuyerNow_26 : decode cX2_ofBuyerNow 26 = .ok (.getfield 359, 3) := dk_180 1 103 (dk_at dksX2_ofBuyerNow_1 2 rfl rfl)
theorem dX2_ofBuyerNow_29 : decode cX2_ofBuyerNow 29 = .ok (.iastore, 1) := dk_79 (dk_at dksX2_ofBuyerNow_1 5 rfl rfl)
theorem dX2_ofBuyerNow_30 : decode cX2_ofBuyerNow 30 = .ok (.dup, 1) := dk_89 (dk_at dksX2_ofBuyerNow_1 6 rfl rfl)
theorem dX2_ofBuyerNow_31 : decode cX2_ofBuyerNow 31 = .ok (.iconst 2, 1) := dk_5 (dk_at dksX2_ofBuyerNow_1 7 rfl rfl)
theorem dX2_ofBuyerNow_32 : decode cX2_ofBuyerNow 32 = .ok (.aload_n 3, 1) := dk_45 (dk_at dksX2_ofBuyerNow_1 8 rfl rfl)
theorem dX2_ofBuyerNow_33 : decode cX2_ofBuyerNow 33 = .ok (.getfield 248, 3) := dk_180 0 248 (dk_at dksX2_ofBuyerNow_1 9 rfl rfl)
theorem dX2_ofBuyerNow_36 : decode cX2_ofBuyerNow 36 = .ok (.iastore, 1) := dk_79 (dk_at dksX2_ofBuyerNow_1 12 rfl rfl)
theorem dX2_ofBuyerNow_37 : decode cX2_ofBuyerNow 37 = .ok (.dup, 1) := dk_89 (dk_at dksX2_ofBuyerNow_1 13 rfl rfl)
theorem dX2_ofBuyerNow_38 : decode cX2_ofBuyerNow 38 = .ok (.iconst 3, 1) := dk_6 (dk_at dksX2_ofBuyerNow_1 14 rfl rfl)
theorem dX2_ofBuyerNow_39 : decode cX2_ofBuyerNow 39 = .ok (.aload_n 3, 1) := dk_45 (dk_at dksX2_ofBuyerNow_1 15 rfl rfl)
theorem dX2_ofBuyerNow_40 : decode cX2_ofBuyerNow 40 = .ok (.getfield 199, 3) := dk_180 0 199 (dk_at dksX2_ofBuyerNow_1 16 rfl rfl)
theorem dX2_ofBuyerNow_43 : decode cX2_ofBuyerNow 43 = .ok (.iastore, 1) := dk_79 (dk_at dksX2_ofBuyerNow_1 19 rfl rfl)
theorem dX2_ofBuyerNow_44 : decode cX2_ofBuyerNow 44 = .ok (.dup, 1) := dk_89 (dk_at dksX2_ofBuyerNow_1 20 rfl rfl)
theorem dX2_ofBuyerNow_45 : decode cX2_ofBuyerNow 45 = .ok (.iconst 4, 1) := dk_7 (dk_at dksX2_ofBuyerNow_1 21 rfl rfl)
theorem dX2_ofBuyerNow_46 : decode cX2_ofBuyerNow 46 = .ok (.aload_n 3, 1) := dk_45 (dk_at dksX2_ofBuyerNow_1 22 rfl rfl)
theorem dX2_ofBuyerNow_47 : decode cX2_ofBuyerNow 47 = .ok (.getfield 210, 3) := dk_180 0 210 (dk_at dksX2_ofBuyerNow_2 0 rfl rfl)
theorem dX2_ofBuyerNow_50 : decode cX2_ofBuyerNow 50 = .ok (.iconst 0, 1) := dk_3 (dk_at dksX2_ofBuyerNow_2 3 rfl rfl)
theorem dX2_ofBuyerNow_51 : decode cX2_ofBuyerNow 51 = .ok (.iaload, 1) := dk_46 (dk_at dksX2_ofBuyerNow_2 4 rfl rfl)
theorem dX2_ofBuyerNow_52 : decode cX2_ofBuyerNow 52 = .ok (.iastore, 1) := dk_79 (dk_at dksX2_ofBuyerNow_2 5 rfl rfl)
theorem dX2_ofBuyerNow_53 : decode cX2_ofBuyerNow 53 = .ok (.dup, 1) := dk_89 (dk_at dksX2_ofBuyerNow_2 6 rfl rfl)
theorem dX2_ofBuyerNow_54 : decode cX2_ofBuyerNow 54 = .ok (.iconst 5, 1) := dk_8 (dk_at dksX2_ofBuyerNow_2 7 rfl rfl)
theorem dX2_ofBuyerNow_55 : decode cX2_ofBuyerNow 55 = .ok (.aload_n 3, 1) := dk_45 (dk_at dksX2_ofBuyerNow_2 8 rfl rfl)
theorem dX2_ofBuyerNow_56 : decode cX2_ofBuyerNow 56 = .ok (.getfield 210, 3) := dk_180 0 210 (dk_at dksX2_ofBuyerNow_2 9 rfl rfl)
theorem dX2_ofBuyerNow_59 : decode cX2_ofBuyerNow 59 = .ok (.iconst 1, 1) := dk_4 (dk_at dksX2_ofBuyerNow_2 12 rfl rfl)
theorem dX2_ofBuyerNow_60 : decode cX2_ofBuyerNow 60 = .ok (.iaload, 1) := dk_46 (dk_at dksX2_ofBuyerNow_2 13 rfl rfl)
theorem dX2_ofBuyerNow_61 : decode cX2_ofBuyerNow 61 = .ok (.iastore, 1) := dk_79 (dk_at dksX2_ofBuyerNow_2 14 rfl rfl)
theorem dX2_ofBuyerNow_62 : decode cX2_ofBuyerNow 62 = .ok (.dup, 1) := dk_89 (dk_at dksX2_ofBuyerNow_2 15 rfl rfl)
theorem dX2_ofBuyerNow_63 : decode cX2_ofBuyerNow 63 = .ok (.bipush 6, 2) := dk_16 6 (dk_at dksX2_ofBuyerNow_2 16 rfl rfl)
theorem dX2_ofBuyerNow_65 : decode cX2_ofBuyerNow 65 = .ok (.aload_n 3, 1) := dk_45 (dk_at dksX2_ofBuyerNow_2 18 rfl rfl)
theorem dX2_ofBuyerNow_66 : decode cX2_ofBuyerNow 66 = .ok (.getfield 210, 3) := dk_180 0 210 (dk_at dksX2_ofBuyerNow_2 19 rfl rfl)
theorem dX2_ofBuyerNow_69 : decode cX2_ofBuyerNow 69 = .ok (.iconst 2, 1) := dk_5 (dk_at dksX2_ofBuyerNow_2 22 rfl rfl)
theorem dX2_ofBuyerNow_70 : decode cX2_ofBuyerNow 70 = .ok (.iaload, 1) := dk_46 (dk_at dksX2_ofBuyerNow_2 23 rfl rfl)
theorem dX2_ofBuyerNow_71 : decode cX2_ofBuyerNow 71 = .ok (.iastore, 1) := dk_79 (dk_at dksX2_ofBuyerNow_3 0 rfl rfl)
theorem dX2_ofBuyerNow_72 : decode cX2_ofBuyerNow 72 = .ok (.dup, 1) := dk_89 (dk_at dksX2_ofBuyerNow_3 1 rfl rfl)
theorem dX2_ofBuyerNow_73 : decode cX2_ofBuyerNow 73 = .ok (.bipush 7, 2) := dk_16 7 (dk_at dksX2_ofBuyerNow_3 2 rfl rfl)
theorem dX2_ofBuyerNow_75 : decode cX2_ofBuyerNow 75 = .ok (.aload_n 3, 1) := dk_45 (dk_at dksX2_ofBuyerNow_3 4 rfl rfl)
theorem dX2_ofBuyerNow_76 : decode cX2_ofBuyerNow 76 = .ok (.getfield 310, 3) := dk_180 1 54 (dk_at dksX2_ofBuyerNow_3 5 rfl rfl)
theorem dX2_ofBuyerNow_79 : decode cX2_ofBuyerNow 79 = .ok (.iastore, 1) := dk_79 (dk_at dksX2_ofBuyerNow_3 8 rfl rfl)
theorem dX2_ofBuyerNow_80 : decode cX2_ofBuyerNow 80 = .ok (.dup, 1) := dk_89 (dk_at dksX2_ofBuyerNow_3 9 rfl rfl)
theorem dX2_ofBuyerNow_81 : decode cX2_ofBuyerNow 81 = .ok (.bipush 8, 2) := dk_16 8 (dk_at dksX2_ofBuyerNow_3 10 rfl rfl)
theorem dX2_ofBuyerNow_83 : decode cX2_ofBuyerNow 83 = .ok (.aload_n 3, 1) := dk_45 (dk_at dksX2_ofBuyerNow_3 12 rfl rfl)
theorem dX2_ofBuyerNow_84 : decode cX2_ofBuyerNow 84 = .ok (.getfield 362, 3) := dk_180 1 106 (dk_at dksX2_ofBuyerNow_3 13 rfl rfl)
theorem dX2_ofBuyerNow_87 : decode cX2_ofBuyerNow 87 = .ok (.iastore, 1) := dk_79 (dk_at dksX2_ofBuyerNow_3 16 rfl rfl)
theorem dX2_ofBuyerNow_88 : decode cX2_ofBuyerNow 88 = .ok (.astore 4, 2) := dk_58 4 (dk_at dksX2_ofBuyerNow_3 17 rfl rfl)
theorem dX2_ofBuyerNow_90 : decode cX2_ofBuyerNow 90 = .ok (.aload 4, 2) := dk_25 4 (dk_at dksX2_ofBuyerNow_3 19 rfl rfl)
theorem dX2_ofBuyerNow_92 : decode cX2_ofBuyerNow 92 = .ok (.iload_n 2, 1) := dk_28 (dk_at dksX2_ofBuyerNow_3 21 rfl rfl)
theorem dX2_ofBuyerNow_93 : decode cX2_ofBuyerNow 93 = .ok (.iaload, 1) := dk_46 (dk_at dksX2_ofBuyerNow_3 22 rfl rfl)
theorem dX2_ofBuyerNow_94 : decode cX2_ofBuyerNow 94 = .ok (.ireturn, 1) := dk_172 (dk_at dksX2_ofBuyerNow_3 23 rfl rfl)
abbrev cX2_wants : ByteArray := prog_13_method_47_code
def yX2_wants : MethodName := ⟨RX2, "wants", "(I)I"⟩
def dkwX2_wants_2 : List UInt8 := [172]
abbrev dktX2_wants_2 : List UInt8 := dkwX2_wants_2 ++ []
def dkwX2_wants_1 : List UInt8 := [182, 0, 69, 153, 0, 7, 3, 167, 0, 17, 42, 180, 0, 42, 27, 182, 0, 83, 192, 0, 251, 180, 1, 29]
abbrev dktX2_wants_1 : List UInt8 := dkwX2_wants_1 ++ dktX2_wants_2
def dkwX2_wants_0 : List UInt8 := [42, 27, 3, 42, 180, 0, 42, 182, 0, 58, 4, 100, 184, 0, 62, 154, 0, 7, 4, 167, 0, 4, 3, 4]
abbrev dktX2_wants_0 : List UInt8 := dkwX2_wants_0 ++ dktX2_wants_1
theorem dksX2_wants_0 : cX2_wants.data.toList.drop 0 = dktX2_wants_0 := by decide +kernel
theorem dksX2_wants_1 : cX2_wants.data.toList.drop 24 = dktX2_wants_1 := dk_seg dksX2_wants_0 24 rfl rfl
theorem dksX2_wants_2 : cX2_wants.data.toList.drop 48 = dktX2_wants_2 := dk_seg dksX2_wants_1 24 rfl rfl
theorem dX2_wants_0 : decode cX2_wants 0 = .ok (.aload_n 0, 1) := dk_42 (dk_at dksX2_wants_0 0 rfl rfl)
theorem dX2_wants_1 : decode cX2_wants 1 = .ok (.iload_n 1, 1) := dk_27 (dk_at dksX2_wants_0 1 rfl rfl)
theorem dX2_wants_2 : decode cX2_wants 2 = .ok (.iconst 0, 1) := dk_3 (dk_at dksX2_wants_0 2 rfl rfl)
theorem dX2_wants_3 : decode cX2_wants 3 = .ok (.aload_n 0, 1) := dk_42 (dk_at dksX2_wants_0 3 rfl rfl)
theorem dX2_wants_4 : decode cX2_wants 4 = .ok (.getfield 42, 3) := dk_180 0 42 (dk_at dksX2_wants_0 4 rfl rfl)
theorem dX2_wants_7 : decode cX2_wants 7 = .ok (.invokevirtual 58, 3) := dk_182 0 58 (dk_at dksX2_wants_0 7 rfl rfl)
theorem dX2_wants_10 : decode cX2_wants 10 = .ok (.iconst 1, 1) := dk_4 (dk_at dksX2_wants_0 10 rfl rfl)
theorem dX2_wants_11 : decode cX2_wants 11 = .ok (.isub, 1) := dk_100 (dk_at dksX2_wants_0 11 rfl rfl)
theorem dX2_wants_12 : decode cX2_wants 12 = .ok (.invokestatic 62, 3) := dk_184 0 62 (dk_at dksX2_wants_0 12 rfl rfl)
theorem dX2_wants_15 : decode cX2_wants 15 = .ok (.ifCond .ne 7, 3) := dk_154 0 7 (dk_at dksX2_wants_0 15 rfl rfl)
theorem dX2_wants_18 : decode cX2_wants 18 = .ok (.iconst 1, 1) := dk_4 (dk_at dksX2_wants_0 18 rfl rfl)
theorem dX2_wants_19 : decode cX2_wants 19 = .ok (.goto 4, 3) := dk_167 0 4 (dk_at dksX2_wants_0 19 rfl rfl)
theorem dX2_wants_22 : decode cX2_wants 22 = .ok (.iconst 0, 1) := dk_3 (dk_at dksX2_wants_0 22 rfl rfl)
theorem dX2_wants_23 : decode cX2_wants 23 = .ok (.iconst 1, 1) := dk_4 (dk_at dksX2_wants_0 23 rfl rfl)
theorem dX2_wants_24 : decode cX2_wants 24 = .ok (.invokevirtual 69, 3) := dk_182 0 69 (dk_at dksX2_wants_1 0 rfl rfl)
theorem dX2_wants_27 : decode cX2_wants 27 = .ok (.ifCond .eq 7, 3) := dk_153 0 7 (dk_at dksX2_wants_1 3 rfl rfl)
theorem dX2_wants_30 : decode cX2_wants 30 = .ok (.iconst 0, 1) := dk_3 (dk_at dksX2_wants_1 6 rfl rfl)
theorem dX2_wants_31 : decode cX2_wants 31 = .ok (.goto 17, 3) := dk_167 0 17 (dk_at dksX2_wants_1 7 rfl rfl)
theorem dX2_wants_34 : decode cX2_wants 34 = .ok (.aload_n 0, 1) := dk_42 (dk_at dksX2_wants_1 10 rfl rfl)
theorem dX2_wants_35 : decode cX2_wants 35 = .ok (.getfield 42, 3) := dk_180 0 42 (dk_at dksX2_wants_1 11 rfl rfl)
theorem dX2_wants_38 : decode cX2_wants 38 = .ok (.iload_n 1, 1) := dk_27 (dk_at dksX2_wants_1 14 rfl rfl)
theorem dX2_wants_39 : decode cX2_wants 39 = .ok (.invokevirtual 83, 3) := dk_182 0 83 (dk_at dksX2_wants_1 15 rfl rfl)
theorem dX2_wants_42 : decode cX2_wants 42 = .ok (.checkcast 251, 3) := dk_192 0 251 (dk_at dksX2_wants_1 18 rfl rfl)
theorem dX2_wants_45 : decode cX2_wants 45 = .ok (.getfield 285, 3) := dk_180 1 29 (dk_at dksX2_wants_1 21 rfl rfl)
theorem dX2_wants_48 : decode cX2_wants 48 = .ok (.ireturn, 1) := dk_172 (dk_at dksX2_wants_2 0 rfl rfl)
abbrev cX2_sale : ByteArray := prog_13_method_49_code
def yX2_sale : MethodName := ⟨RX2, "sale", "(II)I"⟩
def dkwX2_sale_2 : List UInt8 := [182, 0, 54, 153, 0, 7, 3, 167, 0, 9, 42, 27, 28, 182, 1, 113, 172]
abbrev dktX2_sale_2 : List UInt8 := dkwX2_sale_2 ++ []
def dkwX2_sale_1 : List UInt8 := [182, 0, 69, 154, 0, 25, 42, 28, 3, 7, 184, 0, 62, 154, 0, 7, 4, 167, 0, 4, 3, 5]
abbrev dktX2_sale_1 : List UInt8 := dkwX2_sale_1 ++ dktX2_sale_2
def dkwX2_sale_0 : List UInt8 := [42, 27, 3, 42, 180, 0, 48, 182, 0, 58, 4, 100, 184, 0, 62, 154, 0, 7, 4, 167, 0, 4, 3, 4]
abbrev dktX2_sale_0 : List UInt8 := dkwX2_sale_0 ++ dktX2_sale_1
theorem dksX2_sale_0 : cX2_sale.data.toList.drop 0 = dktX2_sale_0 := by decide +kernel
theorem dksX2_sale_1 : cX2_sale.data.toList.drop 24 = dktX2_sale_1 := dk_seg dksX2_sale_0 24 rfl rfl
theorem dksX2_sale_2 : cX2_sale.data.toList.drop 46 = dktX2_sale_2 := dk_seg dksX2_sale_1 22 rfl rfl
theorem dX2_sale_0 : decode cX2_sale 0 = .ok (.aload_n 0, 1) := dk_42 (dk_at dksX2_sale_0 0 rfl rfl)
theorem dX2_sale_1 : decode cX2_sale 1 = .ok (.iload_n 1, 1) := dk_27 (dk_at dksX2_sale_0 1 rfl rfl)
theorem dX2_sale_2 : decode cX2_sale 2 = .ok (.iconst 0, 1) := dk_3 (dk_at dksX2_sale_0 2 rfl rfl)
theorem dX2_sale_3 : decode cX2_sale 3 = .ok (.aload_n 0, 1) := dk_42 (dk_at dksX2_sale_0 3 rfl rfl)
theorem dX2_sale_4 : decode cX2_sale 4 = .ok (.getfield 48, 3) := dk_180 0 48 (dk_at dksX2_sale_0 4 rfl rfl)
theorem dX2_sale_7 : decode cX2_sale 7 = .ok (.invokevirtual 58, 3) := dk_182 0 58 (dk_at dksX2_sale_0 7 rfl rfl)
theorem dX2_sale_10 : decode cX2_sale 10 = .ok (.iconst 1, 1) := dk_4 (dk_at dksX2_sale_0 10 rfl rfl)
theorem dX2_sale_11 : decode cX2_sale 11 = .ok (.isub, 1) := dk_100 (dk_at dksX2_sale_0 11 rfl rfl)
theorem dX2_sale_12 : decode cX2_sale 12 = .ok (.invokestatic 62, 3) := dk_184 0 62 (dk_at dksX2_sale_0 12 rfl rfl)
theorem dX2_sale_15 : decode cX2_sale 15 = .ok (.ifCond .ne 7, 3) := dk_154 0 7 (dk_at dksX2_sale_0 15 rfl rfl)
theorem dX2_sale_18 : decode cX2_sale 18 = .ok (.iconst 1, 1) := dk_4 (dk_at dksX2_sale_0 18 rfl rfl)
theorem dX2_sale_19 : decode cX2_sale 19 = .ok (.goto 4, 3) := dk_167 0 4 (dk_at dksX2_sale_0 19 rfl rfl)
theorem dX2_sale_22 : decode cX2_sale 22 = .ok (.iconst 0, 1) := dk_3 (dk_at dksX2_sale_0 22 rfl rfl)
theorem dX2_sale_23 : decode cX2_sale 23 = .ok (.iconst 1, 1) := dk_4 (dk_at dksX2_sale_0 23 rfl rfl)
theorem dX2_sale_24 : decode cX2_sale 24 = .ok (.invokevirtual 69, 3) := dk_182 0 69 (dk_at dksX2_sale_1 0 rfl rfl)
theorem dX2_sale_27 : decode cX2_sale 27 = .ok (.ifCond .ne 25, 3) := dk_154 0 25 (dk_at dksX2_sale_1 3 rfl rfl)
theorem dX2_sale_30 : decode cX2_sale 30 = .ok (.aload_n 0, 1) := dk_42 (dk_at dksX2_sale_1 6 rfl rfl)
theorem dX2_sale_31 : decode cX2_sale 31 = .ok (.iload_n 2, 1) := dk_28 (dk_at dksX2_sale_1 7 rfl rfl)
theorem dX2_sale_32 : decode cX2_sale 32 = .ok (.iconst 0, 1) := dk_3 (dk_at dksX2_sale_1 8 rfl rfl)
theorem dX2_sale_33 : decode cX2_sale 33 = .ok (.iconst 4, 1) := dk_7 (dk_at dksX2_sale_1 9 rfl rfl)
theorem dX2_sale_34 : decode cX2_sale 34 = .ok (.invokestatic 62, 3) := dk_184 0 62 (dk_at dksX2_sale_1 10 rfl rfl)
theorem dX2_sale_37 : decode cX2_sale 37 = .ok (.ifCond .ne 7, 3) := dk_154 0 7 (dk_at dksX2_sale_1 13 rfl rfl)
theorem dX2_sale_40 : decode cX2_sale 40 = .ok (.iconst 1, 1) := dk_4 (dk_at dksX2_sale_1 16 rfl rfl)
theorem dX2_sale_41 : decode cX2_sale 41 = .ok (.goto 4, 3) := dk_167 0 4 (dk_at dksX2_sale_1 17 rfl rfl)
theorem dX2_sale_44 : decode cX2_sale 44 = .ok (.iconst 0, 1) := dk_3 (dk_at dksX2_sale_1 20 rfl rfl)
theorem dX2_sale_45 : decode cX2_sale 45 = .ok (.iconst 2, 1) := dk_5 (dk_at dksX2_sale_1 21 rfl rfl)
theorem dX2_sale_46 : decode cX2_sale 46 = .ok (.invokevirtual 54, 3) := dk_182 0 54 (dk_at dksX2_sale_2 0 rfl rfl)
theorem dX2_sale_49 : decode cX2_sale 49 = .ok (.ifCond .eq 7, 3) := dk_153 0 7 (dk_at dksX2_sale_2 3 rfl rfl)
theorem dX2_sale_52 : decode cX2_sale 52 = .ok (.iconst 0, 1) := dk_3 (dk_at dksX2_sale_2 6 rfl rfl)
theorem dX2_sale_53 : decode cX2_sale 53 = .ok (.goto 9, 3) := dk_167 0 9 (dk_at dksX2_sale_2 7 rfl rfl)
theorem dX2_sale_56 : decode cX2_sale 56 = .ok (.aload_n 0, 1) := dk_42 (dk_at dksX2_sale_2 10 rfl rfl)
theorem dX2_sale_57 : decode cX2_sale 57 = .ok (.iload_n 1, 1) := dk_27 (dk_at dksX2_sale_2 11 rfl rfl)
theorem dX2_sale_58 : decode cX2_sale 58 = .ok (.iload_n 2, 1) := dk_28 (dk_at dksX2_sale_2 12 rfl rfl)
theorem dX2_sale_59 : decode cX2_sale 59 = .ok (.invokevirtual 369, 3) := dk_182 1 113 (dk_at dksX2_sale_2 13 rfl rfl)
theorem dX2_sale_62 : decode cX2_sale 62 = .ok (.ireturn, 1) := dk_172 (dk_at dksX2_sale_2 16 rfl rfl)
abbrev cX2_saleNow : ByteArray := prog_13_method_48_code
def yX2_saleNow : MethodName := ⟨RX2, "saleNow", "(II)I"⟩
def dkwX2_saleNow_2 : List UInt8 := [6, 45, 180, 1, 112, 79, 89, 7, 45, 180, 1, 69, 79, 58, 4, 25, 4, 28, 46, 172]
abbrev dktX2_saleNow_2 : List UInt8 := dkwX2_saleNow_2 ++ []
def dkwX2_saleNow_1 : List UInt8 := [188, 10, 89, 3, 45, 180, 1, 45, 79, 89, 4, 45, 180, 1, 48, 79, 89, 5, 45, 180, 1, 62, 79, 89]
abbrev dktX2_saleNow_1 : List UInt8 := dkwX2_saleNow_1 ++ dktX2_saleNow_2
def dkwX2_saleNow_0 : List UInt8 := [42, 180, 0, 48, 42, 180, 0, 48, 182, 0, 58, 4, 100, 27, 100, 182, 0, 83, 192, 1, 36, 78, 8]
abbrev dktX2_saleNow_0 : List UInt8 := dkwX2_saleNow_0 ++ dktX2_saleNow_1
theorem dksX2_saleNow_0 : cX2_saleNow.data.toList.drop 0 = dktX2_saleNow_0 := by decide +kernel
theorem dksX2_saleNow_1 : cX2_saleNow.data.toList.drop 23 = dktX2_saleNow_1 := dk_seg dksX2_saleNow_0 23 rfl rfl
theorem dksX2_saleNow_2 : cX2_saleNow.data.toList.drop 47 = dktX2_saleNow_2 := dk_seg dksX2_saleNow_1 24 rfl rfl
theorem dX2_saleNow_0 : decode cX2_saleNow 0 = .ok (.aload_n 0, 1) := dk_42 (dk_at dksX2_saleNow_0 0 rfl rfl)
theorem dX2_saleNow_1 : decode cX2_saleNow 1 = .ok (.getfield 48, 3) := dk_180 0 48 (dk_at dksX2_saleNow_0 1 rfl rfl)
theorem dX2_saleNow_4 : decode cX2_saleNow 4 = .ok (.aload_n 0, 1) := dk_42 (dk_at dksX2_saleNow_0 4 rfl rfl)
theorem dX2_saleNow_5 : decode cX2_saleNow 5 = .ok (.getfield 48, 3) := dk_180 0 48 (dk_at dksX2_saleNow_0 5 rfl rfl)
theorem dX2_saleNow_8 : decode cX2_saleNow 8 = .ok (.invokevirtual 58, 3) := dk_182 0 58 (dk_at dksX2_saleNow_0 8 rfl rfl)
theorem dX2_saleNow_11 : decode cX2_saleNow 11 = .ok (.iconst 1, 1) := dk_4 (dk_at dksX2_saleNow_0 11 rfl rfl)
theorem dX2_saleNow_12 : decode cX2_saleNow 12 = .ok (.isub, 1) := dk_100 (dk_at dksX2_saleNow_0 12 rfl rfl)
theorem dX2_saleNow_13 : decode cX2_saleNow 13 = .ok (.iload_n 1, 1) := dk_27 (dk_at dksX2_saleNow_0 13 rfl rfl)
theorem dX2_saleNow_14 : decode cX2_saleNow 14 = .ok (.isub, 1) := dk_100 (dk_at dksX2_saleNow_0 14 rfl rfl)
theorem dX2_saleNow_15 : decode cX2_saleNow 15 = .ok (.invokevirtual 83, 3) := dk_182 0 83 (dk_at dksX2_saleNow_0 15 rfl rfl)
theorem dX2_saleNow_18 : decode cX2_saleNow 18 = .ok (.checkcast 292, 3) := dk_192 1 36 (dk_at dksX2_saleNow_0 18 rfl rfl)
theorem dX2_saleNow_21 : decode cX2_saleNow 21 = .ok (.astore_n 3, 1) := dk_78 (dk_at dksX2_saleNow_0 21 rfl rfl)
theorem dX2_saleNow_22 : decode cX2_saleNow 22 = .ok (.iconst 5, 1) := dk_8 (dk_at dksX2_saleNow_0 22 rfl rfl)
theorem dX2_saleNow_23 : decode cX2_saleNow 23 = .ok (.newarray .int, 2) := dk_188_10 (dk_at dksX2_saleNow_1 0 rfl rfl)
theorem dX2_saleNow_25 : decode cX2_saleNow 25 = .ok (.dup, 1) := dk_89 (dk_at dksX2_saleNow_1 2 rfl rfl)
theorem dX2_saleNow_26 : decode cX2_saleNow 26 = .ok (.iconst 0, 1) := dk_3 (dk_at dksX2_saleNow_1 3 rfl rfl)
theorem dX2_saleNow_27 : decode cX2_saleNow 27 = .ok (.aload_n 3, 1) := dk_45 (dk_at dksX2_saleNow_1 4 rfl rfl)
theorem dX2_saleNow_28 : decode cX2_saleNow 28 = .ok (.getfield 301, 3) := dk_180 1 45 (dk_at dksX2_saleNow_1 5 rfl rfl)
theorem dX2_saleNow_31 : decode cX2_saleNow 31 = .ok (.iastore, 1) := dk_79 (dk_at dksX2_saleNow_1 8 rfl rfl)
theorem dX2_saleNow_32 : decode cX2_saleNow 32 = .ok (.dup, 1) := dk_89 (dk_at dksX2_saleNow_1 9 rfl rfl)
theorem dX2_saleNow_33 : decode cX2_saleNow 33 = .ok (.iconst 1, 1) := dk_4 (dk_at dksX2_saleNow_1 10 rfl rfl)
theorem dX2_saleNow_34 : decode cX2_saleNow 34 = .ok (.aload_n 3, 1) := dk_45 (dk_at dksX2_saleNow_1 11 rfl rfl)
theorem dX2_saleNow_35 : decode cX2_saleNow 35 = .ok (.getfield 304, 3) := dk_180 1 48 (dk_at dksX2_saleNow_1 12 rfl rfl)
theorem dX2_saleNow_38 : decode cX2_saleNow 38 = .ok (.iastore, 1) := dk_79 (dk_at dksX2_saleNow_1 15 rfl rfl)
theorem dX2_saleNow_39 : decode cX2_saleNow 39 = .ok (.dup, 1) := dk_89 (dk_at dksX2_saleNow_1 16 rfl rfl)
theorem dX2_saleNow_40 : decode cX2_saleNow 40 = .ok (.iconst 2, 1) := dk_5 (dk_at dksX2_saleNow_1 17 rfl rfl)
theorem dX2_saleNow_41 : decode cX2_saleNow 41 = .ok (.aload_n 3, 1) := dk_45 (dk_at dksX2_saleNow_1 18 rfl rfl)
theorem dX2_saleNow_42 : decode cX2_saleNow 42 = .ok (.getfield 318, 3) := dk_180 1 62 (dk_at dksX2_saleNow_1 19 rfl rfl)
theorem dX2_saleNow_45 : decode cX2_saleNow 45 = .ok (.iastore, 1) := dk_79 (dk_at dksX2_saleNow_1 22 rfl rfl)
theorem dX2_saleNow_46 : decode cX2_saleNow 46 = .ok (.dup, 1) := dk_89 (dk_at dksX2_saleNow_1 23 rfl rfl)
theorem dX2_saleNow_47 : decode cX2_saleNow 47 = .ok (.iconst 3, 1) := dk_6 (dk_at dksX2_saleNow_2 0 rfl rfl)
theorem dX2_saleNow_48 : decode cX2_saleNow 48 = .ok (.aload_n 3, 1) := dk_45 (dk_at dksX2_saleNow_2 1 rfl rfl)
theorem dX2_saleNow_49 : decode cX2_saleNow 49 = .ok (.getfield 368, 3) := dk_180 1 112 (dk_at dksX2_saleNow_2 2 rfl rfl)
theorem dX2_saleNow_52 : decode cX2_saleNow 52 = .ok (.iastore, 1) := dk_79 (dk_at dksX2_saleNow_2 5 rfl rfl)
theorem dX2_saleNow_53 : decode cX2_saleNow 53 = .ok (.dup, 1) := dk_89 (dk_at dksX2_saleNow_2 6 rfl rfl)
theorem dX2_saleNow_54 : decode cX2_saleNow 54 = .ok (.iconst 4, 1) := dk_7 (dk_at dksX2_saleNow_2 7 rfl rfl)
theorem dX2_saleNow_55 : decode cX2_saleNow 55 = .ok (.aload_n 3, 1) := dk_45 (dk_at dksX2_saleNow_2 8 rfl rfl)
theorem dX2_saleNow_56 : decode cX2_saleNow 56 = .ok (.getfield 325, 3) := dk_180 1 69 (dk_at dksX2_saleNow_2 9 rfl rfl)
theorem dX2_saleNow_59 : decode cX2_saleNow 59 = .ok (.iastore, 1) := dk_79 (dk_at dksX2_saleNow_2 12 rfl rfl)
theorem dX2_saleNow_60 : decode cX2_saleNow 60 = .ok (.astore 4, 2) := dk_58 4 (dk_at dksX2_saleNow_2 13 rfl rfl)
theorem dX2_saleNow_62 : decode cX2_saleNow 62 = .ok (.aload 4, 2) := dk_25 4 (dk_at dksX2_saleNow_2 15 rfl rfl)
theorem dX2_saleNow_64 : decode cX2_saleNow 64 = .ok (.iload_n 2, 1) := dk_28 (dk_at dksX2_saleNow_2 17 rfl rfl)
theorem dX2_saleNow_65 : decode cX2_saleNow 65 = .ok (.iaload, 1) := dk_46 (dk_at dksX2_saleNow_2 18 rfl rfl)
theorem dX2_saleNow_66 : decode cX2_saleNow 66 = .ok (.ireturn, 1) := dk_172 (dk_at dksX2_saleNow_2 19 rfl rfl)
abbrev cX2_row : ByteArray := prog_13_method_51_code
def yX2_row : MethodName := ⟨RX2, "row", "(I)I"⟩
def dkwX2_row_1 : List UInt8 := [182, 1, 116, 172]
abbrev dktX2_row_1 : List UInt8 := dkwX2_row_1 ++ []
def dkwX2_row_0 : List UInt8 := [42, 27, 156, 0, 7, 4, 167, 0, 4, 3, 4, 182, 0, 69, 153, 0, 7, 3, 167, 0, 8, 42, 27]
abbrev dktX2_row_0 : List UInt8 := dkwX2_row_0 ++ dktX2_row_1
theorem dksX2_row_0 : cX2_row.data.toList.drop 0 = dktX2_row_0 := by decide +kernel
theorem dksX2_row_1 : cX2_row.data.toList.drop 23 = dktX2_row_1 := dk_seg dksX2_row_0 23 rfl rfl
theorem dX2_row_0 : decode cX2_row 0 = .ok (.aload_n 0, 1) := dk_42 (dk_at dksX2_row_0 0 rfl rfl)
theorem dX2_row_1 : decode cX2_row 1 = .ok (.iload_n 1, 1) := dk_27 (dk_at dksX2_row_0 1 rfl rfl)
theorem dX2_row_2 : decode cX2_row 2 = .ok (.ifCond .ge 7, 3) := dk_156 0 7 (dk_at dksX2_row_0 2 rfl rfl)
theorem dX2_row_5 : decode cX2_row 5 = .ok (.iconst 1, 1) := dk_4 (dk_at dksX2_row_0 5 rfl rfl)
theorem dX2_row_6 : decode cX2_row 6 = .ok (.goto 4, 3) := dk_167 0 4 (dk_at dksX2_row_0 6 rfl rfl)
theorem dX2_row_9 : decode cX2_row 9 = .ok (.iconst 0, 1) := dk_3 (dk_at dksX2_row_0 9 rfl rfl)
theorem dX2_row_10 : decode cX2_row 10 = .ok (.iconst 1, 1) := dk_4 (dk_at dksX2_row_0 10 rfl rfl)
theorem dX2_row_11 : decode cX2_row 11 = .ok (.invokevirtual 69, 3) := dk_182 0 69 (dk_at dksX2_row_0 11 rfl rfl)
theorem dX2_row_14 : decode cX2_row 14 = .ok (.ifCond .eq 7, 3) := dk_153 0 7 (dk_at dksX2_row_0 14 rfl rfl)
theorem dX2_row_17 : decode cX2_row 17 = .ok (.iconst 0, 1) := dk_3 (dk_at dksX2_row_0 17 rfl rfl)
theorem dX2_row_18 : decode cX2_row 18 = .ok (.goto 8, 3) := dk_167 0 8 (dk_at dksX2_row_0 18 rfl rfl)
theorem dX2_row_21 : decode cX2_row 21 = .ok (.aload_n 0, 1) := dk_42 (dk_at dksX2_row_0 21 rfl rfl)
theorem dX2_row_22 : decode cX2_row 22 = .ok (.iload_n 1, 1) := dk_27 (dk_at dksX2_row_0 22 rfl rfl)
theorem dX2_row_23 : decode cX2_row 23 = .ok (.invokevirtual 372, 3) := dk_182 1 116 (dk_at dksX2_row_1 0 rfl rfl)
theorem dX2_row_26 : decode cX2_row 26 = .ok (.ireturn, 1) := dk_172 (dk_at dksX2_row_1 3 rfl rfl)
abbrev cX2_rowNow : ByteArray := prog_13_method_50_code
def yX2_rowNow : MethodName := ⟨RX2, "rowNow", "(I)I"⟩
def dkwX2_rowNow_1 : List UInt8 := [182, 1, 0, 167, 0, 4, 2, 172]
abbrev dktX2_rowNow_1 : List UInt8 := dkwX2_rowNow_1 ++ []
def dkwX2_rowNow_0 : List UInt8 := [27, 42, 180, 0, 36, 182, 0, 58, 162, 0, 20, 42, 180, 0, 36, 27, 182, 0, 83, 192, 0, 191]
abbrev dktX2_rowNow_0 : List UInt8 := dkwX2_rowNow_0 ++ dktX2_rowNow_1
theorem dksX2_rowNow_0 : cX2_rowNow.data.toList.drop 0 = dktX2_rowNow_0 := by decide +kernel
theorem dksX2_rowNow_1 : cX2_rowNow.data.toList.drop 22 = dktX2_rowNow_1 := dk_seg dksX2_rowNow_0 22 rfl rfl
theorem dX2_rowNow_0 : decode cX2_rowNow 0 = .ok (.iload_n 1, 1) := dk_27 (dk_at dksX2_rowNow_0 0 rfl rfl)
theorem dX2_rowNow_1 : decode cX2_rowNow 1 = .ok (.aload_n 0, 1) := dk_42 (dk_at dksX2_rowNow_0 1 rfl rfl)
theorem dX2_rowNow_2 : decode cX2_rowNow 2 = .ok (.getfield 36, 3) := dk_180 0 36 (dk_at dksX2_rowNow_0 2 rfl rfl)
theorem dX2_rowNow_5 : decode cX2_rowNow 5 = .ok (.invokevirtual 58, 3) := dk_182 0 58 (dk_at dksX2_rowNow_0 5 rfl rfl)
theorem dX2_rowNow_8 : decode cX2_rowNow 8 = .ok (.if_icmp .ge 20, 3) := dk_162 0 20 (dk_at dksX2_rowNow_0 8 rfl rfl)
theorem dX2_rowNow_11 : decode cX2_rowNow 11 = .ok (.aload_n 0, 1) := dk_42 (dk_at dksX2_rowNow_0 11 rfl rfl)
theorem dX2_rowNow_12 : decode cX2_rowNow 12 = .ok (.getfield 36, 3) := dk_180 0 36 (dk_at dksX2_rowNow_0 12 rfl rfl)
theorem dX2_rowNow_15 : decode cX2_rowNow 15 = .ok (.iload_n 1, 1) := dk_27 (dk_at dksX2_rowNow_0 15 rfl rfl)
theorem dX2_rowNow_16 : decode cX2_rowNow 16 = .ok (.invokevirtual 83, 3) := dk_182 0 83 (dk_at dksX2_rowNow_0 16 rfl rfl)
theorem dX2_rowNow_19 : decode cX2_rowNow 19 = .ok (.checkcast 191, 3) := dk_192 0 191 (dk_at dksX2_rowNow_0 19 rfl rfl)
theorem dX2_rowNow_22 : decode cX2_rowNow 22 = .ok (.invokevirtual 256, 3) := dk_182 1 0 (dk_at dksX2_rowNow_1 0 rfl rfl)
theorem dX2_rowNow_25 : decode cX2_rowNow 25 = .ok (.goto 4, 3) := dk_167 0 4 (dk_at dksX2_rowNow_1 3 rfl rfl)
theorem dX2_rowNow_28 : decode cX2_rowNow 28 = .ok (.iconst (-1), 1) := dk_2 (dk_at dksX2_rowNow_1 6 rfl rfl)
theorem dX2_rowNow_29 : decode cX2_rowNow 29 = .ok (.ireturn, 1) := dk_172 (dk_at dksX2_rowNow_1 7 rfl rfl)
abbrev cX2_many : ByteArray := prog_13_method_53_code
def yX2_many : MethodName := ⟨RX2, "many", "(I)I"⟩
def dkwX2_many_1 : List UInt8 := [167, 0, 8, 42, 27, 182, 1, 119, 172]
abbrev dktX2_many_1 : List UInt8 := dkwX2_many_1 ++ []
def dkwX2_many_0 : List UInt8 := [42, 27, 3, 16, 15, 184, 0, 62, 154, 0, 7, 4, 167, 0, 4, 3, 4, 182, 0, 69, 153, 0, 7, 3]
abbrev dktX2_many_0 : List UInt8 := dkwX2_many_0 ++ dktX2_many_1
theorem dksX2_many_0 : cX2_many.data.toList.drop 0 = dktX2_many_0 := by decide +kernel
theorem dksX2_many_1 : cX2_many.data.toList.drop 24 = dktX2_many_1 := dk_seg dksX2_many_0 24 rfl rfl
theorem dX2_many_0 : decode cX2_many 0 = .ok (.aload_n 0, 1) := dk_42 (dk_at dksX2_many_0 0 rfl rfl)
theorem dX2_many_1 : decode cX2_many 1 = .ok (.iload_n 1, 1) := dk_27 (dk_at dksX2_many_0 1 rfl rfl)
theorem dX2_many_2 : decode cX2_many 2 = .ok (.iconst 0, 1) := dk_3 (dk_at dksX2_many_0 2 rfl rfl)
theorem dX2_many_3 : decode cX2_many 3 = .ok (.bipush 15, 2) := dk_16 15 (dk_at dksX2_many_0 3 rfl rfl)
theorem dX2_many_5 : decode cX2_many 5 = .ok (.invokestatic 62, 3) := dk_184 0 62 (dk_at dksX2_many_0 5 rfl rfl)
theorem dX2_many_8 : decode cX2_many 8 = .ok (.ifCond .ne 7, 3) := dk_154 0 7 (dk_at dksX2_many_0 8 rfl rfl)
theorem dX2_many_11 : decode cX2_many 11 = .ok (.iconst 1, 1) := dk_4 (dk_at dksX2_many_0 11 rfl rfl)
theorem dX2_many_12 : decode cX2_many 12 = .ok (.goto 4, 3) := dk_167 0 4 (dk_at dksX2_many_0 12 rfl rfl)
theorem dX2_many_15 : decode cX2_many 15 = .ok (.iconst 0, 1) := dk_3 (dk_at dksX2_many_0 15 rfl rfl)
theorem dX2_many_16 : decode cX2_many 16 = .ok (.iconst 1, 1) := dk_4 (dk_at dksX2_many_0 16 rfl rfl)
theorem dX2_many_17 : decode cX2_many 17 = .ok (.invokevirtual 69, 3) := dk_182 0 69 (dk_at dksX2_many_0 17 rfl rfl)
theorem dX2_many_20 : decode cX2_many 20 = .ok (.ifCond .eq 7, 3) := dk_153 0 7 (dk_at dksX2_many_0 20 rfl rfl)
theorem dX2_many_23 : decode cX2_many 23 = .ok (.iconst 0, 1) := dk_3 (dk_at dksX2_many_0 23 rfl rfl)
theorem dX2_many_24 : decode cX2_many 24 = .ok (.goto 8, 3) := dk_167 0 8 (dk_at dksX2_many_1 0 rfl rfl)
theorem dX2_many_27 : decode cX2_many 27 = .ok (.aload_n 0, 1) := dk_42 (dk_at dksX2_many_1 3 rfl rfl)
theorem dX2_many_28 : decode cX2_many 28 = .ok (.iload_n 1, 1) := dk_27 (dk_at dksX2_many_1 4 rfl rfl)
theorem dX2_many_29 : decode cX2_many 29 = .ok (.invokevirtual 375, 3) := dk_182 1 119 (dk_at dksX2_many_1 5 rfl rfl)
theorem dX2_many_32 : decode cX2_many 32 = .ok (.ireturn, 1) := dk_172 (dk_at dksX2_many_1 8 rfl rfl)
abbrev cX2_manyNow : ByteArray := prog_13_method_52_code
def yX2_manyNow : MethodName := ⟨RX2, "manyNow", "(I)I"⟩
def dkwX2_manyNow_8 : List UInt8 := [4, 46, 79, 89, 16, 14, 42, 180, 0, 19, 5, 46, 79, 89, 16, 15, 28, 79, 78, 45, 27, 46, 172]
abbrev dktX2_manyNow_8 : List UInt8 := dkwX2_manyNow_8 ++ []
def dkwX2_manyNow_7 : List UInt8 := [16, 11, 42, 180, 1, 63, 79, 89, 16, 12, 42, 180, 0, 19, 3, 46, 79, 89, 16, 13, 42, 180, 0, 19]
abbrev dktX2_manyNow_7 : List UInt8 := dkwX2_manyNow_7 ++ dktX2_manyNow_8
def dkwX2_manyNow_6 : List UInt8 := [16, 8, 42, 180, 0, 13, 79, 89, 16, 9, 42, 180, 1, 55, 79, 89, 16, 10, 42, 180, 0, 206, 79, 89]
abbrev dktX2_manyNow_6 : List UInt8 := dkwX2_manyNow_6 ++ dktX2_manyNow_7
def dkwX2_manyNow_5 : List UInt8 := [89, 16, 6, 42, 180, 0, 36, 182, 0, 58, 79, 89, 16, 7, 42, 180, 0, 45, 182, 0, 58, 79, 89]
abbrev dktX2_manyNow_5 : List UInt8 := dkwX2_manyNow_5 ++ dktX2_manyNow_6
def dkwX2_manyNow_4 : List UInt8 := [182, 0, 58, 79, 89, 7, 42, 180, 0, 39, 182, 0, 58, 79, 89, 8, 42, 180, 0, 42, 182, 0, 58, 79]
abbrev dktX2_manyNow_4 : List UInt8 := dkwX2_manyNow_4 ++ dktX2_manyNow_5
def dkwX2_manyNow_3 : List UInt8 := [180, 0, 26, 182, 0, 58, 79, 89, 5, 42, 180, 0, 30, 182, 0, 58, 79, 89, 6, 42, 180, 0, 33]
abbrev dktX2_manyNow_3 : List UInt8 := dkwX2_manyNow_3 ++ dktX2_manyNow_4
def dkwX2_manyNow_2 : List UInt8 := [25, 4, 180, 0, 178, 61, 167, 255, 216, 16, 16, 188, 10, 89, 3, 42, 180, 0, 66, 79, 89, 4, 42]
abbrev dktX2_manyNow_2 : List UInt8 := dkwX2_manyNow_2 ++ dktX2_manyNow_3
def dkwX2_manyNow_1 : List UInt8 := [185, 0, 151, 1, 0, 192, 0, 176, 58, 4, 28, 2, 159, 0, 12, 25, 4, 180, 0, 178, 28, 162, 0, 9]
abbrev dktX2_manyNow_1 : List UInt8 := dkwX2_manyNow_1 ++ dktX2_manyNow_2
def dkwX2_manyNow_0 : List UInt8 := [2, 61, 42, 180, 0, 45, 182, 0, 141, 78, 45, 185, 0, 145, 1, 0, 153, 0, 37, 45]
abbrev dktX2_manyNow_0 : List UInt8 := dkwX2_manyNow_0 ++ dktX2_manyNow_1
theorem dksX2_manyNow_0 : cX2_manyNow.data.toList.drop 0 = dktX2_manyNow_0 := by decide +kernel
theorem dksX2_manyNow_1 : cX2_manyNow.data.toList.drop 20 = dktX2_manyNow_1 := dk_seg dksX2_manyNow_0 20 rfl rfl
theorem dksX2_manyNow_2 : cX2_manyNow.data.toList.drop 44 = dktX2_manyNow_2 := dk_seg dksX2_manyNow_1 24 rfl rfl
theorem dksX2_manyNow_3 : cX2_manyNow.data.toList.drop 67 = dktX2_manyNow_3 := dk_seg dksX2_manyNow_2 23 rfl rfl
theorem dksX2_manyNow_4 : cX2_manyNow.data.toList.drop 90 = dktX2_manyNow_4 := dk_seg dksX2_manyNow_3 23 rfl rfl
theorem dksX2_manyNow_5 : cX2_manyNow.data.toList.drop 114 = dktX2_manyNow_5 := dk_seg dksX2_manyNow_4 24 rfl rfl
theorem dksX2_manyNow_6 : cX2_manyNow.data.toList.drop 137 = dktX2_manyNow_6 := dk_seg dksX2_manyNow_5 23 rfl rfl
theorem dksX2_manyNow_7 : cX2_manyNow.data.toList.drop 161 = dktX2_manyNow_7 := dk_seg dksX2_manyNow_6 24 rfl rfl
theorem dksX2_manyNow_8 : cX2_manyNow.data.toList.drop 185 = dktX2_manyNow_8 := dk_seg dksX2_manyNow_7 24 rfl rfl
theorem dX2_manyNow_0 : decode cX2_manyNow 0 = .ok (.iconst (-1), 1) := dk_2 (dk_at dksX2_manyNow_0 0 rfl rfl)
theorem dX2_manyNow_1 : decode cX2_manyNow 1 = .ok (.istore_n 2, 1) := dk_61 (dk_at dksX2_manyNow_0 1 rfl rfl)
theorem dX2_manyNow_2 : decode cX2_manyNow 2 = .ok (.aload_n 0, 1) := dk_42 (dk_at dksX2_manyNow_0 2 rfl rfl)
theorem dX2_manyNow_3 : decode cX2_manyNow 3 = .ok (.getfield 45, 3) := dk_180 0 45 (dk_at dksX2_manyNow_0 3 rfl rfl)
theorem dX2_manyNow_6 : decode cX2_manyNow 6 = .ok (.invokevirtual 141, 3) := dk_182 0 141 (dk_at dksX2_manyNow_0 6 rfl rfl)
theorem dX2_manyNow_9 : decode cX2_manyNow 9 = .ok (.astore_n 3, 1) := dk_78 (dk_at dksX2_manyNow_0 9 rfl rfl)
theorem dX2_manyNow_10 : decode cX2_manyNow 10 = .ok (.aload_n 3, 1) := dk_45 (dk_at dksX2_manyNow_0 10 rfl rfl)
theorem dX2_manyNow_11 : decode cX2_manyNow 11 = .ok (.invokeinterface 145 1, 5) := by decide +kernel
theorem dX2_manyNow_16 : decode cX2_manyNow 16 = .ok (.ifCond .eq 37, 3) := dk_153 0 37 (dk_at dksX2_manyNow_0 16 rfl rfl)
theorem dX2_manyNow_19 : decode cX2_manyNow 19 = .ok (.aload_n 3, 1) := dk_45 (dk_at dksX2_manyNow_0 19 rfl rfl)
theorem dX2_manyNow_20 : decode cX2_manyNow 20 = .ok (.invokeinterface 151 1, 5) := by decide +kernel
theorem dX2_manyNow_25 : decode cX2_manyNow 25 = .ok (.checkcast 176, 3) := dk_192 0 176 (dk_at dksX2_manyNow_1 5 rfl rfl)
theorem dX2_manyNow_28 : decode cX2_manyNow 28 = .ok (.astore 4, 2) := dk_58 4 (dk_at dksX2_manyNow_1 8 rfl rfl)
theorem dX2_manyNow_30 : decode cX2_manyNow 30 = .ok (.iload_n 2, 1) := dk_28 (dk_at dksX2_manyNow_1 10 rfl rfl)
theorem dX2_manyNow_31 : decode cX2_manyNow 31 = .ok (.iconst (-1), 1) := dk_2 (dk_at dksX2_manyNow_1 11 rfl rfl)
theorem dX2_manyNow_32 : decode cX2_manyNow 32 = .ok (.if_icmp .eq 12, 3) := dk_159 0 12 (dk_at dksX2_manyNow_1 12 rfl rfl)
theorem dX2_manyNow_35 : decode cX2_manyNow 35 = .ok (.aload 4, 2) := dk_25 4 (dk_at dksX2_manyNow_1 15 rfl rfl)
theorem dX2_manyNow_37 : decode cX2_manyNow 37 = .ok (.getfield 178, 3) := dk_180 0 178 (dk_at dksX2_manyNow_1 17 rfl rfl)
theorem dX2_manyNow_40 : decode cX2_manyNow 40 = .ok (.iload_n 2, 1) := dk_28 (dk_at dksX2_manyNow_1 20 rfl rfl)
theorem dX2_manyNow_41 : decode cX2_manyNow 41 = .ok (.if_icmp .ge 9, 3) := dk_162 0 9 (dk_at dksX2_manyNow_1 21 rfl rfl)
theorem dX2_manyNow_44 : decode cX2_manyNow 44 = .ok (.aload 4, 2) := dk_25 4 (dk_at dksX2_manyNow_2 0 rfl rfl)
theorem dX2_manyNow_46 : decode cX2_manyNow 46 = .ok (.getfield 178, 3) := dk_180 0 178 (dk_at dksX2_manyNow_2 2 rfl rfl)
theorem dX2_manyNow_49 : decode cX2_manyNow 49 = .ok (.istore_n 2, 1) := dk_61 (dk_at dksX2_manyNow_2 5 rfl rfl)
theorem dX2_manyNow_50 : decode cX2_manyNow 50 = .ok (.goto (-40), 3) := dk_167 255 216 (dk_at dksX2_manyNow_2 6 rfl rfl)
theorem dX2_manyNow_53 : decode cX2_manyNow 53 = .ok (.bipush 16, 2) := dk_16 16 (dk_at dksX2_manyNow_2 9 rfl rfl)
theorem dX2_manyNow_55 : decode cX2_manyNow 55 = .ok (.newarray .int, 2) := dk_188_10 (dk_at dksX2_manyNow_2 11 rfl rfl)
theorem dX2_manyNow_57 : decode cX2_manyNow 57 = .ok (.dup, 1) := dk_89 (dk_at dksX2_manyNow_2 13 rfl rfl)
theorem dX2_manyNow_58 : decode cX2_manyNow 58 = .ok (.iconst 0, 1) := dk_3 (dk_at dksX2_manyNow_2 14 rfl rfl)
theorem dX2_manyNow_59 : decode cX2_manyNow 59 = .ok (.aload_n 0, 1) := dk_42 (dk_at dksX2_manyNow_2 15 rfl rfl)
theorem dX2_manyNow_60 : decode cX2_manyNow 60 = .ok (.getfield 66, 3) := dk_180 0 66 (dk_at dksX2_manyNow_2 16 rfl rfl)
theorem dX2_manyNow_63 : decode cX2_manyNow 63 = .ok (.iastore, 1) := dk_79 (dk_at dksX2_manyNow_2 19 rfl rfl)
theorem dX2_manyNow_64 : decode cX2_manyNow 64 = .ok (.dup, 1) := dk_89 (dk_at dksX2_manyNow_2 20 rfl rfl)
theorem dX2_manyNow_65 : decode cX2_manyNow 65 = .ok (.iconst 1, 1) := dk_4 (dk_at dksX2_manyNow_2 21 rfl rfl)
theorem dX2_manyNow_66 : decode cX2_manyNow 66 = .ok (.aload_n 0, 1) := dk_42 (dk_at dksX2_manyNow_2 22 rfl rfl)
theorem dX2_manyNow_67 : decode cX2_manyNow 67 = .ok (.getfield 26, 3) := dk_180 0 26 (dk_at dksX2_manyNow_3 0 rfl rfl)
theorem dX2_manyNow_70 : decode cX2_manyNow 70 = .ok (.invokevirtual 58, 3) := dk_182 0 58 (dk_at dksX2_manyNow_3 3 rfl rfl)
theorem dX2_manyNow_73 : decode cX2_manyNow 73 = .ok (.iastore, 1) := dk_79 (dk_at dksX2_manyNow_3 6 rfl rfl)
theorem dX2_manyNow_74 : decode cX2_manyNow 74 = .ok (.dup, 1) := dk_89 (dk_at dksX2_manyNow_3 7 rfl rfl)
theorem dX2_manyNow_75 : decode cX2_manyNow 75 = .ok (.iconst 2, 1) := dk_5 (dk_at dksX2_manyNow_3 8 rfl rfl)
theorem dX2_manyNow_76 : decode cX2_manyNow 76 = .ok (.aload_n 0, 1) := dk_42 (dk_at dksX2_manyNow_3 9 rfl rfl)
theorem dX2_manyNow_77 : decode cX2_manyNow 77 = .ok (.getfield 30, 3) := dk_180 0 30 (dk_at dksX2_manyNow_3 10 rfl rfl)
theorem dX2_manyNow_80 : decode cX2_manyNow 80 = .ok (.invokevirtual 58, 3) := dk_182 0 58 (dk_at dksX2_manyNow_3 13 rfl rfl)
theorem dX2_manyNow_83 : decode cX2_manyNow 83 = .ok (.iastore, 1) := dk_79 (dk_at dksX2_manyNow_3 16 rfl rfl)
theorem dX2_manyNow_84 : decode cX2_manyNow 84 = .ok (.dup, 1) := dk_89 (dk_at dksX2_manyNow_3 17 rfl rfl)
theorem dX2_manyNow_85 : decode cX2_manyNow 85 = .ok (.iconst 3, 1) := dk_6 (dk_at dksX2_manyNow_3 18 rfl rfl)
theorem dX2_manyNow_86 : decode cX2_manyNow 86 = .ok (.aload_n 0, 1) := dk_42 (dk_at dksX2_manyNow_3 19 rfl rfl)
theorem dX2_manyNow_87 : decode cX2_manyNow 87 = .ok (.getfield 33, 3) := dk_180 0 33 (dk_at dksX2_manyNow_3 20 rfl rfl)
theorem dX2_manyNow_90 : decode cX2_manyNow 90 = .ok (.invokevirtual 58, 3) := dk_182 0 58 (dk_at dksX2_manyNow_4 0 rfl rfl)
theorem dX2_manyNow_93 : decode cX2_manyNow 93 = .ok (.iastore, 1) := dk_79 (dk_at dksX2_manyNow_4 3 rfl rfl)
theorem dX2_manyNow_94 : decode cX2_manyNow 94 = .ok (.dup, 1) := dk_89 (dk_at dksX2_manyNow_4 4 rfl rfl)
theorem dX2_manyNow_95 : decode cX2_manyNow 95 = .ok (.iconst 4, 1) := dk_7 (dk_at dksX2_manyNow_4 5 rfl rfl)
theorem dX2_manyNow_96 : decode cX2_manyNow 96 = .ok (.aload_n 0, 1) := dk_42 (dk_at dksX2_manyNow_4 6 rfl rfl)
theorem dX2_manyNow_97 : decode cX2_manyNow 97 = .ok (.getfield 39, 3) := dk_180 0 39 (dk_at dksX2_manyNow_4 7 rfl rfl)
theorem dX2_manyNow_100 : decode cX2_manyNow 100 = .ok (.invokevirtual 58, 3) := dk_182 0 58 (dk_at dksX2_manyNow_4 10 rfl rfl)
theorem dX2_manyNow_103 : decode cX2_manyNow 103 = .ok (.iastore, 1) := dk_79 (dk_at dksX2_manyNow_4 13 rfl rfl)
theorem dX2_manyNow_104 : decode cX2_manyNow 104 = .ok (.dup, 1) := dk_89 (dk_at dksX2_manyNow_4 14 rfl rfl)
theorem dX2_manyNow_105 : decode cX2_manyNow 105 = .ok (.iconst 5, 1) := dk_8 (dk_at dksX2_manyNow_4 15 rfl rfl)
theorem dX2_manyNow_106 : decode cX2_manyNow 106 = .ok (.aload_n 0, 1) := dk_42 (dk_at dksX2_manyNow_4 16 rfl rfl)
theorem dX2_manyNow_107 : decode cX2_manyNow 107 = .ok (.getfield 42, 3) := dk_180 0 42 (dk_at dksX2_manyNow_4 17 rfl rfl)
theorem dX2_manyNow_110 : decode cX2_manyNow 110 = .ok (.invokevirtual 58, 3) := dk_182 0 58 (dk_at dksX2_manyNow_4 20 rfl rfl)
theorem dX2_manyNow_113 : decode cX2_manyNow 113 = .ok (.iastore, 1) := dk_79 (dk_at dksX2_manyNow_4 23 rfl rfl)
theorem dX2_manyNow_114 : decode cX2_manyNow 114 = .ok (.dup, 1) := dk_89 (dk_at dksX2_manyNow_5 0 rfl rfl)
theorem dX2_manyNow_115 : decode cX2_manyNow 115 = .ok (.bipush 6, 2) := dk_16 6 (dk_at dksX2_manyNow_5 1 rfl rfl)
theorem dX2_manyNow_117 : decode cX2_manyNow 117 = .ok (.aload_n 0, 1) := dk_42 (dk_at dksX2_manyNow_5 3 rfl rfl)
theorem dX2_manyNow_118 : decode cX2_manyNow 118 = .ok (.getfield 36, 3) := dk_180 0 36 (dk_at dksX2_manyNow_5 4 rfl rfl)
theorem dX2_manyNow_121 : decode cX2_manyNow 121 = .ok (.invokevirtual 58, 3) := dk_182 0 58 (dk_at dksX2_manyNow_5 7 rfl rfl)
theorem dX2_manyNow_124 : decode cX2_manyNow 124 = .ok (.iastore, 1) := dk_79 (dk_at dksX2_manyNow_5 10 rfl rfl)
theorem dX2_manyNow_125 : decode cX2_manyNow 125 = .ok (.dup, 1) := dk_89 (dk_at dksX2_manyNow_5 11 rfl rfl)
theorem dX2_manyNow_126 : decode cX2_manyNow 126 = .ok (.bipush 7, 2) := dk_16 7 (dk_at dksX2_manyNow_5 12 rfl rfl)
theorem dX2_manyNow_128 : decode cX2_manyNow 128 = .ok (.aload_n 0, 1) := dk_42 (dk_at dksX2_manyNow_5 14 rfl rfl)
theorem dX2_manyNow_129 : decode cX2_manyNow 129 = .ok (.getfield 45, 3) := dk_180 0 45 (dk_at dksX2_manyNow_5 15 rfl rfl)
theorem dX2_manyNow_132 : decode cX2_manyNow 132 = .ok (.invokevirtual 58, 3) := dk_182 0 58 (dk_at dksX2_manyNow_5 18 rfl rfl)
theorem dX2_manyNow_135 : decode cX2_manyNow 135 = .ok (.iastore, 1) := dk_79 (dk_at dksX2_manyNow_5 21 rfl rfl)
theorem dX2_manyNow_136 : decode cX2_manyNow 136 = .ok (.dup, 1) := dk_89 (dk_at dksX2_manyNow_5 22 rfl rfl)
theorem dX2_manyNow_137 : decode cX2_manyNow 137 = .ok (.bipush 8, 2) := dk_16 8 (dk_at dksX2_manyNow_6 0 rfl rfl)
theorem dX2_manyNow_139 : decode cX2_manyNow 139 = .ok (.aload_n 0, 1) := dk_42 (dk_at dksX2_manyNow_6 2 rfl rfl)
theorem dX2_manyNow_140 : decode cX2_manyNow 140 = .ok (.getfield 13, 3) := dk_180 0 13 (dk_at dksX2_manyNow_6 3 rfl rfl)
theorem dX2_manyNow_143 : decode cX2_manyNow 143 = .ok (.iastore, 1) := dk_79 (dk_at dksX2_manyNow_6 6 rfl rfl)
theorem dX2_manyNow_144 : decode cX2_manyNow 144 = .ok (.dup, 1) := dk_89 (dk_at dksX2_manyNow_6 7 rfl rfl)
theorem dX2_manyNow_145 : decode cX2_manyNow 145 = .ok (.bipush 9, 2) := dk_16 9 (dk_at dksX2_manyNow_6 8 rfl rfl)
theorem dX2_manyNow_147 : decode cX2_manyNow 147 = .ok (.aload_n 0, 1) := dk_42 (dk_at dksX2_manyNow_6 10 rfl rfl)
theorem dX2_manyNow_148 : decode cX2_manyNow 148 = .ok (.getfield 311, 3) := dk_180 1 55 (dk_at dksX2_manyNow_6 11 rfl rfl)
theorem dX2_manyNow_151 : decode cX2_manyNow 151 = .ok (.iastore, 1) := dk_79 (dk_at dksX2_manyNow_6 14 rfl rfl)
theorem dX2_manyNow_152 : decode cX2_manyNow 152 = .ok (.dup, 1) := dk_89 (dk_at dksX2_manyNow_6 15 rfl rfl)
theorem dX2_manyNow_153 : decode cX2_manyNow 153 = .ok (.bipush 10, 2) := dk_16 10 (dk_at dksX2_manyNow_6 16 rfl rfl)
theorem dX2_manyNow_155 : decode cX2_manyNow 155 = .ok (.aload_n 0, 1) := dk_42 (dk_at dksX2_manyNow_6 18 rfl rfl)
theorem dX2_manyNow_156 : decode cX2_manyNow 156 = .ok (.getfield 206, 3) := dk_180 0 206 (dk_at dksX2_manyNow_6 19 rfl rfl)
theorem dX2_manyNow_159 : decode cX2_manyNow 159 = .ok (.iastore, 1) := dk_79 (dk_at dksX2_manyNow_6 22 rfl rfl)
theorem dX2_manyNow_160 : decode cX2_manyNow 160 = .ok (.dup, 1) := dk_89 (dk_at dksX2_manyNow_6 23 rfl rfl)
theorem dX2_manyNow_161 : decode cX2_manyNow 161 = .ok (.bipush 11, 2) := dk_16 11 (dk_at dksX2_manyNow_7 0 rfl rfl)
theorem dX2_manyNow_163 : decode cX2_manyNow 163 = .ok (.aload_n 0, 1) := dk_42 (dk_at dksX2_manyNow_7 2 rfl rfl)
theorem dX2_manyNow_164 : decode cX2_manyNow 164 = .ok (.getfield 319, 3) := dk_180 1 63 (dk_at dksX2_manyNow_7 3 rfl rfl)
theorem dX2_manyNow_167 : decode cX2_manyNow 167 = .ok (.iastore, 1) := dk_79 (dk_at dksX2_manyNow_7 6 rfl rfl)
theorem dX2_manyNow_168 : decode cX2_manyNow 168 = .ok (.dup, 1) := dk_89 (dk_at dksX2_manyNow_7 7 rfl rfl)
theorem dX2_manyNow_169 : decode cX2_manyNow 169 = .ok (.bipush 12, 2) := dk_16 12 (dk_at dksX2_manyNow_7 8 rfl rfl)
theorem dX2_manyNow_171 : decode cX2_manyNow 171 = .ok (.aload_n 0, 1) := dk_42 (dk_at dksX2_manyNow_7 10 rfl rfl)
theorem dX2_manyNow_172 : decode cX2_manyNow 172 = .ok (.getfield 19, 3) := dk_180 0 19 (dk_at dksX2_manyNow_7 11 rfl rfl)
theorem dX2_manyNow_175 : decode cX2_manyNow 175 = .ok (.iconst 0, 1) := dk_3 (dk_at dksX2_manyNow_7 14 rfl rfl)
theorem dX2_manyNow_176 : decode cX2_manyNow 176 = .ok (.iaload, 1) := dk_46 (dk_at dksX2_manyNow_7 15 rfl rfl)
theorem dX2_manyNow_177 : decode cX2_manyNow 177 = .ok (.iastore, 1) := dk_79 (dk_at dksX2_manyNow_7 16 rfl rfl)
theorem dX2_manyNow_178 : decode cX2_manyNow 178 = .ok (.dup, 1) := dk_89 (dk_at dksX2_manyNow_7 17 rfl rfl)
theorem dX2_manyNow_179 : decode cX2_manyNow 179 = .ok (.bipush 13, 2) := dk_16 13 (dk_at dksX2_manyNow_7 18 rfl rfl)
theorem dX2_manyNow_181 : decode cX2_manyNow 181 = .ok (.aload_n 0, 1) := dk_42 (dk_at dksX2_manyNow_7 20 rfl rfl)
theorem dX2_manyNow_182 : decode cX2_manyNow 182 = .ok (.getfield 19, 3) := dk_180 0 19 (dk_at dksX2_manyNow_7 21 rfl rfl)
theorem dX2_manyNow_185 : decode cX2_manyNow 185 = .ok (.iconst 1, 1) := dk_4 (dk_at dksX2_manyNow_8 0 rfl rfl)
theorem dX2_manyNow_186 : decode cX2_manyNow 186 = .ok (.iaload, 1) := dk_46 (dk_at dksX2_manyNow_8 1 rfl rfl)
theorem dX2_manyNow_187 : decode cX2_manyNow 187 = .ok (.iastore, 1) := dk_79 (dk_at dksX2_manyNow_8 2 rfl rfl)
theorem dX2_manyNow_188 : decode cX2_manyNow 188 = .ok (.dup, 1) := dk_89 (dk_at dksX2_manyNow_8 3 rfl rfl)
theorem dX2_manyNow_189 : decode cX2_manyNow 189 = .ok (.bipush 14, 2) := dk_16 14 (dk_at dksX2_manyNow_8 4 rfl rfl)
theorem dX2_manyNow_191 : decode cX2_manyNow 191 = .ok (.aload_n 0, 1) := dk_42 (dk_at dksX2_manyNow_8 6 rfl rfl)
theorem dX2_manyNow_192 : decode cX2_manyNow 192 = .ok (.getfield 19, 3) := dk_180 0 19 (dk_at dksX2_manyNow_8 7 rfl rfl)
theorem dX2_manyNow_195 : decode cX2_manyNow 195 = .ok (.iconst 2, 1) := dk_5 (dk_at dksX2_manyNow_8 10 rfl rfl)
theorem dX2_manyNow_196 : decode cX2_manyNow 196 = .ok (.iaload, 1) := dk_46 (dk_at dksX2_manyNow_8 11 rfl rfl)
theorem dX2_manyNow_197 : decode cX2_manyNow 197 = .ok (.iastore, 1) := dk_79 (dk_at dksX2_manyNow_8 12 rfl rfl)
theorem dX2_manyNow_198 : decode cX2_manyNow 198 = .ok (.dup, 1) := dk_89 (dk_at dksX2_manyNow_8 13 rfl rfl)
theorem dX2_manyNow_199 : decode cX2_manyNow 199 = .ok (.bipush 15, 2) := dk_16 15 (dk_at dksX2_manyNow_8 14 rfl rfl)
theorem dX2_manyNow_201 : decode cX2_manyNow 201 = .ok (.iload_n 2, 1) := dk_28 (dk_at dksX2_manyNow_8 16 rfl rfl)
theorem dX2_manyNow_202 : decode cX2_manyNow 202 = .ok (.iastore, 1) := dk_79 (dk_at dksX2_manyNow_8 17 rfl rfl)
theorem dX2_manyNow_203 : decode cX2_manyNow 203 = .ok (.astore_n 3, 1) := dk_78 (dk_at dksX2_manyNow_8 18 rfl rfl)
theorem dX2_manyNow_204 : decode cX2_manyNow 204 = .ok (.aload_n 3, 1) := dk_45 (dk_at dksX2_manyNow_8 19 rfl rfl)
theorem dX2_manyNow_205 : decode cX2_manyNow 205 = .ok (.iload_n 1, 1) := dk_27 (dk_at dksX2_manyNow_8 20 rfl rfl)
theorem dX2_manyNow_206 : decode cX2_manyNow 206 = .ok (.iaload, 1) := dk_46 (dk_at dksX2_manyNow_8 21 rfl rfl)
theorem dX2_manyNow_207 : decode cX2_manyNow 207 = .ok (.ireturn, 1) := dk_172 (dk_at dksX2_manyNow_8 22 rfl rfl)
abbrev cX2_meanPrice : ByteArray := prog_13_method_54_code
def yX2_meanPrice : MethodName := ⟨RX2, "meanPrice", "()D"⟩
def dkwX2_meanPrice_1 : List UInt8 := [180, 1, 63, 135, 111, 175]
abbrev dktX2_meanPrice_1 : List UInt8 := dkwX2_meanPrice_1 ++ []
def dkwX2_meanPrice_0 : List UInt8 := [42, 3, 181, 0, 51, 42, 180, 1, 63, 154, 0, 7, 14, 167, 0, 14, 42, 180, 1, 66, 135, 42]
abbrev dktX2_meanPrice_0 : List UInt8 := dkwX2_meanPrice_0 ++ dktX2_meanPrice_1
theorem dksX2_meanPrice_0 : cX2_meanPrice.data.toList.drop 0 = dktX2_meanPrice_0 := by decide +kernel
theorem dksX2_meanPrice_1 : cX2_meanPrice.data.toList.drop 22 = dktX2_meanPrice_1 := dk_seg dksX2_meanPrice_0 22 rfl rfl
theorem dX2_meanPrice_0 : decode cX2_meanPrice 0 = .ok (.aload_n 0, 1) := dk_42 (dk_at dksX2_meanPrice_0 0 rfl rfl)
theorem dX2_meanPrice_1 : decode cX2_meanPrice 1 = .ok (.iconst 0, 1) := dk_3 (dk_at dksX2_meanPrice_0 1 rfl rfl)
theorem dX2_meanPrice_2 : decode cX2_meanPrice 2 = .ok (.putfield 51, 3) := dk_181 0 51 (dk_at dksX2_meanPrice_0 2 rfl rfl)
theorem dX2_meanPrice_5 : decode cX2_meanPrice 5 = .ok (.aload_n 0, 1) := dk_42 (dk_at dksX2_meanPrice_0 5 rfl rfl)
theorem dX2_meanPrice_6 : decode cX2_meanPrice 6 = .ok (.getfield 319, 3) := dk_180 1 63 (dk_at dksX2_meanPrice_0 6 rfl rfl)
theorem dX2_meanPrice_9 : decode cX2_meanPrice 9 = .ok (.ifCond .ne 7, 3) := dk_154 0 7 (dk_at dksX2_meanPrice_0 9 rfl rfl)
theorem dX2_meanPrice_12 : decode cX2_meanPrice 12 = .ok (.dconst 0, 1) := dk_14 (dk_at dksX2_meanPrice_0 12 rfl rfl)
theorem dX2_meanPrice_13 : decode cX2_meanPrice 13 = .ok (.goto 14, 3) := dk_167 0 14 (dk_at dksX2_meanPrice_0 13 rfl rfl)
theorem dX2_meanPrice_16 : decode cX2_meanPrice 16 = .ok (.aload_n 0, 1) := dk_42 (dk_at dksX2_meanPrice_0 16 rfl rfl)
theorem dX2_meanPrice_17 : decode cX2_meanPrice 17 = .ok (.getfield 322, 3) := dk_180 1 66 (dk_at dksX2_meanPrice_0 17 rfl rfl)
theorem dX2_meanPrice_20 : decode cX2_meanPrice 20 = .ok (.i2d, 1) := dk_135 (dk_at dksX2_meanPrice_0 20 rfl rfl)
theorem dX2_meanPrice_21 : decode cX2_meanPrice 21 = .ok (.aload_n 0, 1) := dk_42 (dk_at dksX2_meanPrice_0 21 rfl rfl)
theorem dX2_meanPrice_22 : decode cX2_meanPrice 22 = .ok (.getfield 319, 3) := dk_180 1 63 (dk_at dksX2_meanPrice_1 0 rfl rfl)
theorem dX2_meanPrice_25 : decode cX2_meanPrice 25 = .ok (.i2d, 1) := dk_135 (dk_at dksX2_meanPrice_1 3 rfl rfl)
theorem dX2_meanPrice_26 : decode cX2_meanPrice 26 = .ok (.ddiv, 1) := dk_111 (dk_at dksX2_meanPrice_1 4 rfl rfl)
theorem dX2_meanPrice_27 : decode cX2_meanPrice 27 = .ok (.dreturn, 1) := dk_175 (dk_at dksX2_meanPrice_1 5 rfl rfl)
abbrev cX2_wouldFetch : ByteArray := prog_13_method_56_code
def yX2_wouldFetch : MethodName := ⟨RX2, "wouldFetch", "(I)I"⟩
def dkwX2_wouldFetch_0 : List UInt8 := [42, 42, 27, 182, 0, 129, 4, 182, 0, 69, 153, 0, 7, 3, 167, 0, 8, 42, 27, 182, 1, 122, 172]
abbrev dktX2_wouldFetch_0 : List UInt8 := dkwX2_wouldFetch_0 ++ []
theorem dksX2_wouldFetch_0 : cX2_wouldFetch.data.toList.drop 0 = dktX2_wouldFetch_0 := by decide +kernel
theorem dX2_wouldFetch_0 : decode cX2_wouldFetch 0 = .ok (.aload_n 0, 1) := dk_42 (dk_at dksX2_wouldFetch_0 0 rfl rfl)
theorem dX2_wouldFetch_1 : decode cX2_wouldFetch 1 = .ok (.aload_n 0, 1) := dk_42 (dk_at dksX2_wouldFetch_0 1 rfl rfl)
theorem dX2_wouldFetch_2 : decode cX2_wouldFetch 2 = .ok (.iload_n 1, 1) := dk_27 (dk_at dksX2_wouldFetch_0 2 rfl rfl)
theorem dX2_wouldFetch_3 : decode cX2_wouldFetch 3 = .ok (.invokevirtual 129, 3) := dk_182 0 129 (dk_at dksX2_wouldFetch_0 3 rfl rfl)
theorem dX2_wouldFetch_6 : decode cX2_wouldFetch 6 = .ok (.iconst 1, 1) := dk_4 (dk_at dksX2_wouldFetch_0 6 rfl rfl)
theorem dX2_wouldFetch_7 : decode cX2_wouldFetch 7 = .ok (.invokevirtual 69, 3) := dk_182 0 69 (dk_at dksX2_wouldFetch_0 7 rfl rfl)
theorem dX2_wouldFetch_10 : decode cX2_wouldFetch 10 = .ok (.ifCond .eq 7, 3) := dk_153 0 7 (dk_at dksX2_wouldFetch_0 10 rfl rfl)
theorem dX2_wouldFetch_13 : decode cX2_wouldFetch 13 = .ok (.iconst 0, 1) := dk_3 (dk_at dksX2_wouldFetch_0 13 rfl rfl)
theorem dX2_wouldFetch_14 : decode cX2_wouldFetch 14 = .ok (.goto 8, 3) := dk_167 0 8 (dk_at dksX2_wouldFetch_0 14 rfl rfl)
theorem dX2_wouldFetch_17 : decode cX2_wouldFetch 17 = .ok (.aload_n 0, 1) := dk_42 (dk_at dksX2_wouldFetch_0 17 rfl rfl)
theorem dX2_wouldFetch_18 : decode cX2_wouldFetch 18 = .ok (.iload_n 1, 1) := dk_27 (dk_at dksX2_wouldFetch_0 18 rfl rfl)
theorem dX2_wouldFetch_19 : decode cX2_wouldFetch 19 = .ok (.invokevirtual 378, 3) := dk_182 1 122 (dk_at dksX2_wouldFetch_0 19 rfl rfl)
theorem dX2_wouldFetch_22 : decode cX2_wouldFetch 22 = .ok (.ireturn, 1) := dk_172 (dk_at dksX2_wouldFetch_0 22 rfl rfl)
abbrev cX2_wouldFetchNow : ByteArray := prog_13_method_55_code
def yX2_wouldFetchNow : MethodName := ⟨RX2, "wouldFetchNow", "(I)I"⟩
def dkwX2_wouldFetchNow_2 : List UInt8 := [44, 180, 1, 22, 167, 0, 4, 2, 172]
abbrev dktX2_wouldFetchNow_2 : List UInt8 := dkwX2_wouldFetchNow_2 ++ []
def dkwX2_wouldFetchNow_1 : List UInt8 := [180, 0, 33, 27, 182, 0, 83, 192, 0, 112, 180, 0, 165, 4, 182, 1, 8, 44, 182, 1, 12, 153, 0, 10]
abbrev dktX2_wouldFetchNow_1 : List UInt8 := dkwX2_wouldFetchNow_1 ++ dktX2_wouldFetchNow_2
def dkwX2_wouldFetchNow_0 : List UInt8 := [187, 1, 3, 89, 42, 183, 1, 5, 77, 44, 42, 180, 0, 33, 27, 182, 0, 83, 192, 0, 112, 42]
abbrev dktX2_wouldFetchNow_0 : List UInt8 := dkwX2_wouldFetchNow_0 ++ dktX2_wouldFetchNow_1
theorem dksX2_wouldFetchNow_0 : cX2_wouldFetchNow.data.toList.drop 0 = dktX2_wouldFetchNow_0 := by decide +kernel
theorem dksX2_wouldFetchNow_1 : cX2_wouldFetchNow.data.toList.drop 22 = dktX2_wouldFetchNow_1 := dk_seg dksX2_wouldFetchNow_0 22 rfl rfl
theorem dksX2_wouldFetchNow_2 : cX2_wouldFetchNow.data.toList.drop 46 = dktX2_wouldFetchNow_2 := dk_seg dksX2_wouldFetchNow_1 24 rfl rfl
theorem dX2_wouldFetchNow_0 : decode cX2_wouldFetchNow 0 = .ok (.new 259, 3) := dk_187 1 3 (dk_at dksX2_wouldFetchNow_0 0 rfl rfl)
theorem dX2_wouldFetchNow_3 : decode cX2_wouldFetchNow 3 = .ok (.dup, 1) := dk_89 (dk_at dksX2_wouldFetchNow_0 3 rfl rfl)
theorem dX2_wouldFetchNow_4 : decode cX2_wouldFetchNow 4 = .ok (.aload_n 0, 1) := dk_42 (dk_at dksX2_wouldFetchNow_0 4 rfl rfl)
theorem dX2_wouldFetchNow_5 : decode cX2_wouldFetchNow 5 = .ok (.invokespecial 261, 3) := dk_183 1 5 (dk_at dksX2_wouldFetchNow_0 5 rfl rfl)
theorem dX2_wouldFetchNow_8 : decode cX2_wouldFetchNow 8 = .ok (.astore_n 2, 1) := dk_77 (dk_at dksX2_wouldFetchNow_0 8 rfl rfl)
theorem dX2_wouldFetchNow_9 : decode cX2_wouldFetchNow 9 = .ok (.aload_n 2, 1) := dk_44 (dk_at dksX2_wouldFetchNow_0 9 rfl rfl)
theorem dX2_wouldFetchNow_10 : decode cX2_wouldFetchNow 10 = .ok (.aload_n 0, 1) := dk_42 (dk_at dksX2_wouldFetchNow_0 10 rfl rfl)
theorem dX2_wouldFetchNow_11 : decode cX2_wouldFetchNow 11 = .ok (.getfield 33, 3) := dk_180 0 33 (dk_at dksX2_wouldFetchNow_0 11 rfl rfl)
theorem dX2_wouldFetchNow_14 : decode cX2_wouldFetchNow 14 = .ok (.iload_n 1, 1) := dk_27 (dk_at dksX2_wouldFetchNow_0 14 rfl rfl)
theorem dX2_wouldFetchNow_15 : decode cX2_wouldFetchNow 15 = .ok (.invokevirtual 83, 3) := dk_182 0 83 (dk_at dksX2_wouldFetchNow_0 15 rfl rfl)
theorem dX2_wouldFetchNow_18 : decode cX2_wouldFetchNow 18 = .ok (.checkcast 112, 3) := dk_192 0 112 (dk_at dksX2_wouldFetchNow_0 18 rfl rfl)
theorem dX2_wouldFetchNow_21 : decode cX2_wouldFetchNow 21 = .ok (.aload_n 0, 1) := dk_42 (dk_at dksX2_wouldFetchNow_0 21 rfl rfl)
theorem dX2_wouldFetchNow_22 : decode cX2_wouldFetchNow 22 = .ok (.getfield 33, 3) := dk_180 0 33 (dk_at dksX2_wouldFetchNow_1 0 rfl rfl)
theorem dX2_wouldFetchNow_25 : decode cX2_wouldFetchNow 25 = .ok (.iload_n 1, 1) := dk_27 (dk_at dksX2_wouldFetchNow_1 3 rfl rfl)
theorem dX2_wouldFetchNow_26 : decode cX2_wouldFetchNow 26 = .ok (.invokevirtual 83, 3) := dk_182 0 83 (dk_at dksX2_wouldFetchNow_1 4 rfl rfl)
theorem dX2_wouldFetchNow_29 : decode cX2_wouldFetchNow 29 = .ok (.checkcast 112, 3) := dk_192 0 112 (dk_at dksX2_wouldFetchNow_1 7 rfl rfl)
theorem dX2_wouldFetchNow_32 : decode cX2_wouldFetchNow 32 = .ok (.getfield 165, 3) := dk_180 0 165 (dk_at dksX2_wouldFetchNow_1 10 rfl rfl)
theorem dX2_wouldFetchNow_35 : decode cX2_wouldFetchNow 35 = .ok (.iconst 1, 1) := dk_4 (dk_at dksX2_wouldFetchNow_1 13 rfl rfl)
theorem dX2_wouldFetchNow_36 : decode cX2_wouldFetchNow 36 = .ok (.invokevirtual 264, 3) := dk_182 1 8 (dk_at dksX2_wouldFetchNow_1 14 rfl rfl)
theorem dX2_wouldFetchNow_39 : decode cX2_wouldFetchNow 39 = .ok (.aload_n 2, 1) := dk_44 (dk_at dksX2_wouldFetchNow_1 17 rfl rfl)
theorem dX2_wouldFetchNow_40 : decode cX2_wouldFetchNow 40 = .ok (.invokevirtual 268, 3) := dk_182 1 12 (dk_at dksX2_wouldFetchNow_1 18 rfl rfl)
theorem dX2_wouldFetchNow_43 : decode cX2_wouldFetchNow 43 = .ok (.ifCond .eq 10, 3) := dk_153 0 10 (dk_at dksX2_wouldFetchNow_1 21 rfl rfl)
theorem dX2_wouldFetchNow_46 : decode cX2_wouldFetchNow 46 = .ok (.aload_n 2, 1) := dk_44 (dk_at dksX2_wouldFetchNow_2 0 rfl rfl)
theorem dX2_wouldFetchNow_47 : decode cX2_wouldFetchNow 47 = .ok (.getfield 278, 3) := dk_180 1 22 (dk_at dksX2_wouldFetchNow_2 1 rfl rfl)
theorem dX2_wouldFetchNow_50 : decode cX2_wouldFetchNow 50 = .ok (.goto 4, 3) := dk_167 0 4 (dk_at dksX2_wouldFetchNow_2 4 rfl rfl)
theorem dX2_wouldFetchNow_53 : decode cX2_wouldFetchNow 53 = .ok (.iconst (-1), 1) := dk_2 (dk_at dksX2_wouldFetchNow_2 7 rfl rfl)
theorem dX2_wouldFetchNow_54 : decode cX2_wouldFetchNow 54 = .ok (.ireturn, 1) := dk_172 (dk_at dksX2_wouldFetchNow_2 8 rfl rfl)
abbrev cX2_bestMinimum : ByteArray := prog_13_method_58_code
def yX2_bestMinimum : MethodName := ⟨RX2, "bestMinimum", "(I)I"⟩
def dkwX2_bestMinimum_0 : List UInt8 := [42, 42, 27, 182, 0, 129, 4, 182, 0, 69, 153, 0, 7, 3, 167, 0, 8, 42, 27, 182, 1, 128, 172]
abbrev dktX2_bestMinimum_0 : List UInt8 := dkwX2_bestMinimum_0 ++ []
theorem dksX2_bestMinimum_0 : cX2_bestMinimum.data.toList.drop 0 = dktX2_bestMinimum_0 := by decide +kernel
theorem dX2_bestMinimum_0 : decode cX2_bestMinimum 0 = .ok (.aload_n 0, 1) := dk_42 (dk_at dksX2_bestMinimum_0 0 rfl rfl)
theorem dX2_bestMinimum_1 : decode cX2_bestMinimum 1 = .ok (.aload_n 0, 1) := dk_42 (dk_at dksX2_bestMinimum_0 1 rfl rfl)
theorem dX2_bestMinimum_2 : decode cX2_bestMinimum 2 = .ok (.iload_n 1, 1) := dk_27 (dk_at dksX2_bestMinimum_0 2 rfl rfl)
theorem dX2_bestMinimum_3 : decode cX2_bestMinimum 3 = .ok (.invokevirtual 129, 3) := dk_182 0 129 (dk_at dksX2_bestMinimum_0 3 rfl rfl)
theorem dX2_bestMinimum_6 : decode cX2_bestMinimum 6 = .ok (.iconst 1, 1) := dk_4 (dk_at dksX2_bestMinimum_0 6 rfl rfl)
theorem dX2_bestMinimum_7 : decode cX2_bestMinimum 7 = .ok (.invokevirtual 69, 3) := dk_182 0 69 (dk_at dksX2_bestMinimum_0 7 rfl rfl)
theorem dX2_bestMinimum_10 : decode cX2_bestMinimum 10 = .ok (.ifCond .eq 7, 3) := dk_153 0 7 (dk_at dksX2_bestMinimum_0 10 rfl rfl)
theorem dX2_bestMinimum_13 : decode cX2_bestMinimum 13 = .ok (.iconst 0, 1) := dk_3 (dk_at dksX2_bestMinimum_0 13 rfl rfl)
theorem dX2_bestMinimum_14 : decode cX2_bestMinimum 14 = .ok (.goto 8, 3) := dk_167 0 8 (dk_at dksX2_bestMinimum_0 14 rfl rfl)
theorem dX2_bestMinimum_17 : decode cX2_bestMinimum 17 = .ok (.aload_n 0, 1) := dk_42 (dk_at dksX2_bestMinimum_0 17 rfl rfl)
theorem dX2_bestMinimum_18 : decode cX2_bestMinimum 18 = .ok (.iload_n 1, 1) := dk_27 (dk_at dksX2_bestMinimum_0 18 rfl rfl)
theorem dX2_bestMinimum_19 : decode cX2_bestMinimum 19 = .ok (.invokevirtual 384, 3) := dk_182 1 128 (dk_at dksX2_bestMinimum_0 19 rfl rfl)
theorem dX2_bestMinimum_22 : decode cX2_bestMinimum 22 = .ok (.ireturn, 1) := dk_172 (dk_at dksX2_bestMinimum_0 22 rfl rfl)
abbrev cX2_bestMinimumNow : ByteArray := prog_13_method_57_code
def yX2_bestMinimumNow : MethodName := ⟨RX2, "bestMinimumNow", "(I)I"⟩
def dkwX2_bestMinimumNow_4 : List UInt8 := [132, 5, 1, 167, 255, 176, 29, 172]
abbrev dktX2_bestMinimumNow_4 : List UInt8 := dkwX2_bestMinimumNow_4 ++ []
def dkwX2_bestMinimumNow_3 : List UInt8 := [96, 54, 6, 167, 255, 240, 21, 6, 21, 4, 162, 0, 6, 167, 0, 10, 21, 6, 54, 4, 21, 5, 62]
abbrev dktX2_bestMinimumNow_3 : List UInt8 := dkwX2_bestMinimumNow_3 ++ dktX2_bestMinimumNow_4
def dkwX2_bestMinimumNow_2 : List UInt8 := [180, 0, 165, 21, 5, 182, 1, 8, 3, 54, 6, 44, 182, 1, 12, 153, 0, 15, 21, 6, 44, 182, 1, 125]
abbrev dktX2_bestMinimumNow_2 : List UInt8 := dkwX2_bestMinimumNow_2 ++ dktX2_bestMinimumNow_3
def dkwX2_bestMinimumNow_1 : List UInt8 := [44, 42, 180, 0, 33, 27, 182, 0, 83, 192, 0, 112, 42, 180, 0, 33, 27, 182, 0, 83, 192, 0, 112]
abbrev dktX2_bestMinimumNow_1 : List UInt8 := dkwX2_bestMinimumNow_1 ++ dktX2_bestMinimumNow_2
def dkwX2_bestMinimumNow_0 : List UInt8 := [187, 1, 3, 89, 42, 183, 1, 5, 77, 3, 62, 2, 54, 4, 4, 54, 5, 21, 5, 16, 99, 163, 0, 79]
abbrev dktX2_bestMinimumNow_0 : List UInt8 := dkwX2_bestMinimumNow_0 ++ dktX2_bestMinimumNow_1
theorem dksX2_bestMinimumNow_0 : cX2_bestMinimumNow.data.toList.drop 0 = dktX2_bestMinimumNow_0 := by decide +kernel
theorem dksX2_bestMinimumNow_1 : cX2_bestMinimumNow.data.toList.drop 24 = dktX2_bestMinimumNow_1 := dk_seg dksX2_bestMinimumNow_0 24 rfl rfl
theorem dksX2_bestMinimumNow_2 : cX2_bestMinimumNow.data.toList.drop 47 = dktX2_bestMinimumNow_2 := dk_seg dksX2_bestMinimumNow_1 23 rfl rfl
theorem dksX2_bestMinimumNow_3 : cX2_bestMinimumNow.data.toList.drop 71 = dktX2_bestMinimumNow_3 := dk_seg dksX2_bestMinimumNow_2 24 rfl rfl
theorem dksX2_bestMinimumNow_4 : cX2_bestMinimumNow.data.toList.drop 94 = dktX2_bestMinimumNow_4 := dk_seg dksX2_bestMinimumNow_3 23 rfl rfl
theorem dX2_bestMinimumNow_0 : decode cX2_bestMinimumNow 0 = .ok (.new 259, 3) := dk_187 1 3 (dk_at dksX2_bestMinimumNow_0 0 rfl rfl)
theorem dX2_bestMinimumNow_3 : decode cX2_bestMinimumNow 3 = .ok (.dup, 1) := dk_89 (dk_at dksX2_bestMinimumNow_0 3 rfl rfl)
theorem dX2_bestMinimumNow_4 : decode cX2_bestMinimumNow 4 = .ok (.aload_n 0, 1) := dk_42 (dk_at dksX2_bestMinimumNow_0 4 rfl rfl)
theorem dX2_bestMinimumNow_5 : decode cX2_bestMinimumNow 5 = .ok (.invokespecial 261, 3) := dk_183 1 5 (dk_at dksX2_bestMinimumNow_0 5 rfl rfl)
theorem dX2_bestMinimumNow_8 : decode cX2_bestMinimumNow 8 = .ok (.astore_n 2, 1) := dk_77 (dk_at dksX2_bestMinimumNow_0 8 rfl rfl)
theorem dX2_bestMinimumNow_9 : decode cX2_bestMinimumNow 9 = .ok (.iconst 0, 1) := dk_3 (dk_at dksX2_bestMinimumNow_0 9 rfl rfl)
theorem dX2_bestMinimumNow_10 : decode cX2_bestMinimumNow 10 = .ok (.istore_n 3, 1) := dk_62 (dk_at dksX2_bestMinimumNow_0 10 rfl rfl)
theorem dX2_bestMinimumNow_11 : decode cX2_bestMinimumNow 11 = .ok (.iconst (-1), 1) := dk_2 (dk_at dksX2_bestMinimumNow_0 11 rfl rfl)
theorem dX2_bestMinimumNow_12 : decode cX2_bestMinimumNow 12 = .ok (.istore 4, 2) := dk_54 4 (dk_at dksX2_bestMinimumNow_0 12 rfl rfl)
theorem dX2_bestMinimumNow_14 : decode cX2_bestMinimumNow 14 = .ok (.iconst 1, 1) := dk_4 (dk_at dksX2_bestMinimumNow_0 14 rfl rfl)
theorem dX2_bestMinimumNow_15 : decode cX2_bestMinimumNow 15 = .ok (.istore 5, 2) := dk_54 5 (dk_at dksX2_bestMinimumNow_0 15 rfl rfl)
theorem dX2_bestMinimumNow_17 : decode cX2_bestMinimumNow 17 = .ok (.iload 5, 2) := dk_21 5 (dk_at dksX2_bestMinimumNow_0 17 rfl rfl)
theorem dX2_bestMinimumNow_19 : decode cX2_bestMinimumNow 19 = .ok (.bipush 99, 2) := dk_16 99 (dk_at dksX2_bestMinimumNow_0 19 rfl rfl)
theorem dX2_bestMinimumNow_21 : decode cX2_bestMinimumNow 21 = .ok (.if_icmp .gt 79, 3) := dk_163 0 79 (dk_at dksX2_bestMinimumNow_0 21 rfl rfl)
theorem dX2_bestMinimumNow_24 : decode cX2_bestMinimumNow 24 = .ok (.aload_n 2, 1) := dk_44 (dk_at dksX2_bestMinimumNow_1 0 rfl rfl)
theorem dX2_bestMinimumNow_25 : decode cX2_bestMinimumNow 25 = .ok (.aload_n 0, 1) := dk_42 (dk_at dksX2_bestMinimumNow_1 1 rfl rfl)
theorem dX2_bestMinimumNow_26 : decode cX2_bestMinimumNow 26 = .ok (.getfield 33, 3) := dk_180 0 33 (dk_at dksX2_bestMinimumNow_1 2 rfl rfl)
theorem dX2_bestMinimumNow_29 : decode cX2_bestMinimumNow 29 = .ok (.iload_n 1, 1) := dk_27 (dk_at dksX2_bestMinimumNow_1 5 rfl rfl)
theorem dX2_bestMinimumNow_30 : decode cX2_bestMinimumNow 30 = .ok (.invokevirtual 83, 3) := dk_182 0 83 (dk_at dksX2_bestMinimumNow_1 6 rfl rfl)
theorem dX2_bestMinimumNow_33 : decode cX2_bestMinimumNow 33 = .ok (.checkcast 112, 3) := dk_192 0 112 (dk_at dksX2_bestMinimumNow_1 9 rfl rfl)
theorem dX2_bestMinimumNow_36 : decode cX2_bestMinimumNow 36 = .ok (.aload_n 0, 1) := dk_42 (dk_at dksX2_bestMinimumNow_1 12 rfl rfl)
theorem dX2_bestMinimumNow_37 : decode cX2_bestMinimumNow 37 = .ok (.getfield 33, 3) := dk_180 0 33 (dk_at dksX2_bestMinimumNow_1 13 rfl rfl)
theorem dX2_bestMinimumNow_40 : decode cX2_bestMinimumNow 40 = .ok (.iload_n 1, 1) := dk_27 (dk_at dksX2_bestMinimumNow_1 16 rfl rfl)
theorem dX2_bestMinimumNow_41 : decode cX2_bestMinimumNow 41 = .ok (.invokevirtual 83, 3) := dk_182 0 83 (dk_at dksX2_bestMinimumNow_1 17 rfl rfl)
theorem dX2_bestMinimumNow_44 : decode cX2_bestMinimumNow 44 = .ok (.checkcast 112, 3) := dk_192 0 112 (dk_at dksX2_bestMinimumNow_1 20 rfl rfl)
theorem dX2_bestMinimumNow_47 : decode cX2_bestMinimumNow 47 = .ok (.getfield 165, 3) := dk_180 0 165 (dk_at dksX2_bestMinimumNow_2 0 rfl rfl)
theorem dX2_bestMinimumNow_50 : decode cX2_bestMinimumNow 50 = .ok (.iload 5, 2) := dk_21 5 (dk_at dksX2_bestMinimumNow_2 3 rfl rfl)
theorem dX2_bestMinimumNow_52 : decode cX2_bestMinimumNow 52 = .ok (.invokevirtual 264, 3) := dk_182 1 8 (dk_at dksX2_bestMinimumNow_2 5 rfl rfl)
theorem dX2_bestMinimumNow_55 : decode cX2_bestMinimumNow 55 = .ok (.iconst 0, 1) := dk_3 (dk_at dksX2_bestMinimumNow_2 8 rfl rfl)
theorem dX2_bestMinimumNow_56 : decode cX2_bestMinimumNow 56 = .ok (.istore 6, 2) := dk_54 6 (dk_at dksX2_bestMinimumNow_2 9 rfl rfl)
theorem dX2_bestMinimumNow_58 : decode cX2_bestMinimumNow 58 = .ok (.aload_n 2, 1) := dk_44 (dk_at dksX2_bestMinimumNow_2 11 rfl rfl)
theorem dX2_bestMinimumNow_59 : decode cX2_bestMinimumNow 59 = .ok (.invokevirtual 268, 3) := dk_182 1 12 (dk_at dksX2_bestMinimumNow_2 12 rfl rfl)
theorem dX2_bestMinimumNow_62 : decode cX2_bestMinimumNow 62 = .ok (.ifCond .eq 15, 3) := dk_153 0 15 (dk_at dksX2_bestMinimumNow_2 15 rfl rfl)
theorem dX2_bestMinimumNow_65 : decode cX2_bestMinimumNow 65 = .ok (.iload 6, 2) := dk_21 6 (dk_at dksX2_bestMinimumNow_2 18 rfl rfl)
theorem dX2_bestMinimumNow_67 : decode cX2_bestMinimumNow 67 = .ok (.aload_n 2, 1) := dk_44 (dk_at dksX2_bestMinimumNow_2 20 rfl rfl)
theorem dX2_bestMinimumNow_68 : decode cX2_bestMinimumNow 68 = .ok (.invokevirtual 381, 3) := dk_182 1 125 (dk_at dksX2_bestMinimumNow_2 21 rfl rfl)
theorem dX2_bestMinimumNow_71 : decode cX2_bestMinimumNow 71 = .ok (.iadd, 1) := dk_96 (dk_at dksX2_bestMinimumNow_3 0 rfl rfl)
theorem dX2_bestMinimumNow_72 : decode cX2_bestMinimumNow 72 = .ok (.istore 6, 2) := dk_54 6 (dk_at dksX2_bestMinimumNow_3 1 rfl rfl)
theorem dX2_bestMinimumNow_74 : decode cX2_bestMinimumNow 74 = .ok (.goto (-16), 3) := dk_167 255 240 (dk_at dksX2_bestMinimumNow_3 3 rfl rfl)
theorem dX2_bestMinimumNow_77 : decode cX2_bestMinimumNow 77 = .ok (.iload 6, 2) := dk_21 6 (dk_at dksX2_bestMinimumNow_3 6 rfl rfl)
theorem dX2_bestMinimumNow_79 : decode cX2_bestMinimumNow 79 = .ok (.iload 4, 2) := dk_21 4 (dk_at dksX2_bestMinimumNow_3 8 rfl rfl)
theorem dX2_bestMinimumNow_81 : decode cX2_bestMinimumNow 81 = .ok (.if_icmp .ge 6, 3) := dk_162 0 6 (dk_at dksX2_bestMinimumNow_3 10 rfl rfl)
theorem dX2_bestMinimumNow_84 : decode cX2_bestMinimumNow 84 = .ok (.goto 10, 3) := dk_167 0 10 (dk_at dksX2_bestMinimumNow_3 13 rfl rfl)
theorem dX2_bestMinimumNow_87 : decode cX2_bestMinimumNow 87 = .ok (.iload 6, 2) := dk_21 6 (dk_at dksX2_bestMinimumNow_3 16 rfl rfl)
theorem dX2_bestMinimumNow_89 : decode cX2_bestMinimumNow 89 = .ok (.istore 4, 2) := dk_54 4 (dk_at dksX2_bestMinimumNow_3 18 rfl rfl)
theorem dX2_bestMinimumNow_91 : decode cX2_bestMinimumNow 91 = .ok (.iload 5, 2) := dk_21 5 (dk_at dksX2_bestMinimumNow_3 20 rfl rfl)
theorem dX2_bestMinimumNow_93 : decode cX2_bestMinimumNow 93 = .ok (.istore_n 3, 1) := dk_62 (dk_at dksX2_bestMinimumNow_3 22 rfl rfl)
theorem dX2_bestMinimumNow_94 : decode cX2_bestMinimumNow 94 = .ok (.iinc 5 1, 3) := dk_132 5 1 (dk_at dksX2_bestMinimumNow_4 0 rfl rfl)
theorem dX2_bestMinimumNow_97 : decode cX2_bestMinimumNow 97 = .ok (.goto (-80), 3) := dk_167 255 176 (dk_at dksX2_bestMinimumNow_4 3 rfl rfl)
theorem dX2_bestMinimumNow_100 : decode cX2_bestMinimumNow 100 = .ok (.iload_n 3, 1) := dk_29 (dk_at dksX2_bestMinimumNow_4 6 rfl rfl)
theorem dX2_bestMinimumNow_101 : decode cX2_bestMinimumNow 101 = .ok (.ireturn, 1) := dk_172 (dk_at dksX2_bestMinimumNow_4 7 rfl rfl)
abbrev cX2_readyIn : ByteArray := prog_13_method_59_code
def yX2_readyIn : MethodName := ⟨RX2, "readyIn", "(I)I"⟩
def dkwX2_readyIn_1 : List UInt8 := [182, 0, 83, 192, 0, 93, 42, 180, 0, 9, 182, 1, 131, 172]
abbrev dktX2_readyIn_1 : List UInt8 := dkwX2_readyIn_1 ++ []
def dkwX2_readyIn_0 : List UInt8 := [42, 42, 27, 182, 0, 98, 4, 182, 0, 69, 153, 0, 7, 3, 167, 0, 21, 42, 180, 0, 30, 27]
abbrev dktX2_readyIn_0 : List UInt8 := dkwX2_readyIn_0 ++ dktX2_readyIn_1
theorem dksX2_readyIn_0 : cX2_readyIn.data.toList.drop 0 = dktX2_readyIn_0 := by decide +kernel
theorem dksX2_readyIn_1 : cX2_readyIn.data.toList.drop 22 = dktX2_readyIn_1 := dk_seg dksX2_readyIn_0 22 rfl rfl
theorem dX2_readyIn_0 : decode cX2_readyIn 0 = .ok (.aload_n 0, 1) := dk_42 (dk_at dksX2_readyIn_0 0 rfl rfl)
theorem dX2_readyIn_1 : decode cX2_readyIn 1 = .ok (.aload_n 0, 1) := dk_42 (dk_at dksX2_readyIn_0 1 rfl rfl)
theorem dX2_readyIn_2 : decode cX2_readyIn 2 = .ok (.iload_n 1, 1) := dk_27 (dk_at dksX2_readyIn_0 2 rfl rfl)
theorem dX2_readyIn_3 : decode cX2_readyIn 3 = .ok (.invokevirtual 98, 3) := dk_182 0 98 (dk_at dksX2_readyIn_0 3 rfl rfl)
theorem dX2_readyIn_6 : decode cX2_readyIn 6 = .ok (.iconst 1, 1) := dk_4 (dk_at dksX2_readyIn_0 6 rfl rfl)
theorem dX2_readyIn_7 : decode cX2_readyIn 7 = .ok (.invokevirtual 69, 3) := dk_182 0 69 (dk_at dksX2_readyIn_0 7 rfl rfl)
theorem dX2_readyIn_10 : decode cX2_readyIn 10 = .ok (.ifCond .eq 7, 3) := dk_153 0 7 (dk_at dksX2_readyIn_0 10 rfl rfl)
theorem dX2_readyIn_13 : decode cX2_readyIn 13 = .ok (.iconst 0, 1) := dk_3 (dk_at dksX2_readyIn_0 13 rfl rfl)
theorem dX2_readyIn_14 : decode cX2_readyIn 14 = .ok (.goto 21, 3) := dk_167 0 21 (dk_at dksX2_readyIn_0 14 rfl rfl)
theorem dX2_readyIn_17 : decode cX2_readyIn 17 = .ok (.aload_n 0, 1) := dk_42 (dk_at dksX2_readyIn_0 17 rfl rfl)
theorem dX2_readyIn_18 : decode cX2_readyIn 18 = .ok (.getfield 30, 3) := dk_180 0 30 (dk_at dksX2_readyIn_0 18 rfl rfl)
theorem dX2_readyIn_21 : decode cX2_readyIn 21 = .ok (.iload_n 1, 1) := dk_27 (dk_at dksX2_readyIn_0 21 rfl rfl)
theorem dX2_readyIn_22 : decode cX2_readyIn 22 = .ok (.invokevirtual 83, 3) := dk_182 0 83 (dk_at dksX2_readyIn_1 0 rfl rfl)
theorem dX2_readyIn_25 : decode cX2_readyIn 25 = .ok (.checkcast 93, 3) := dk_192 0 93 (dk_at dksX2_readyIn_1 3 rfl rfl)
theorem dX2_readyIn_28 : decode cX2_readyIn 28 = .ok (.aload_n 0, 1) := dk_42 (dk_at dksX2_readyIn_1 6 rfl rfl)
theorem dX2_readyIn_29 : decode cX2_readyIn 29 = .ok (.getfield 9, 3) := dk_180 0 9 (dk_at dksX2_readyIn_1 7 rfl rfl)
theorem dX2_readyIn_32 : decode cX2_readyIn 32 = .ok (.invokevirtual 387, 3) := dk_182 1 131 (dk_at dksX2_readyIn_1 10 rfl rfl)
theorem dX2_readyIn_35 : decode cX2_readyIn 35 = .ok (.ireturn, 1) := dk_172 (dk_at dksX2_readyIn_1 13 rfl rfl)
abbrev cX2_lampsFor : ByteArray := prog_13_method_61_code
def yX2_lampsFor : MethodName := ⟨RX2, "lampsFor", "(II)I"⟩
def dkwX2_lampsFor_1 : List UInt8 := [4, 167, 0, 4, 3, 5, 182, 0, 54, 153, 0, 7, 3, 167, 0, 9, 42, 27, 28, 182, 1, 137, 172]
abbrev dktX2_lampsFor_1 : List UInt8 := dkwX2_lampsFor_1 ++ []
def dkwX2_lampsFor_0 : List UInt8 := [42, 27, 184, 0, 90, 4, 182, 0, 69, 154, 0, 27, 42, 28, 4, 17, 0, 200, 184, 0, 62, 154, 0, 7]
abbrev dktX2_lampsFor_0 : List UInt8 := dkwX2_lampsFor_0 ++ dktX2_lampsFor_1
theorem dksX2_lampsFor_0 : cX2_lampsFor.data.toList.drop 0 = dktX2_lampsFor_0 := by decide +kernel
theorem dksX2_lampsFor_1 : cX2_lampsFor.data.toList.drop 24 = dktX2_lampsFor_1 := dk_seg dksX2_lampsFor_0 24 rfl rfl
theorem dX2_lampsFor_0 : decode cX2_lampsFor 0 = .ok (.aload_n 0, 1) := dk_42 (dk_at dksX2_lampsFor_0 0 rfl rfl)
theorem dX2_lampsFor_1 : decode cX2_lampsFor 1 = .ok (.iload_n 1, 1) := dk_27 (dk_at dksX2_lampsFor_0 1 rfl rfl)
theorem dX2_lampsFor_2 : decode cX2_lampsFor 2 = .ok (.invokestatic 90, 3) := dk_184 0 90 (dk_at dksX2_lampsFor_0 2 rfl rfl)
theorem dX2_lampsFor_5 : decode cX2_lampsFor 5 = .ok (.iconst 1, 1) := dk_4 (dk_at dksX2_lampsFor_0 5 rfl rfl)
theorem dX2_lampsFor_6 : decode cX2_lampsFor 6 = .ok (.invokevirtual 69, 3) := dk_182 0 69 (dk_at dksX2_lampsFor_0 6 rfl rfl)
theorem dX2_lampsFor_9 : decode cX2_lampsFor 9 = .ok (.ifCond .ne 27, 3) := dk_154 0 27 (dk_at dksX2_lampsFor_0 9 rfl rfl)
theorem dX2_lampsFor_12 : decode cX2_lampsFor 12 = .ok (.aload_n 0, 1) := dk_42 (dk_at dksX2_lampsFor_0 12 rfl rfl)
theorem dX2_lampsFor_13 : decode cX2_lampsFor 13 = .ok (.iload_n 2, 1) := dk_28 (dk_at dksX2_lampsFor_0 13 rfl rfl)
theorem dX2_lampsFor_14 : decode cX2_lampsFor 14 = .ok (.iconst 1, 1) := dk_4 (dk_at dksX2_lampsFor_0 14 rfl rfl)
theorem dX2_lampsFor_15 : decode cX2_lampsFor 15 = .ok (.sipush 200, 3) := dk_17 0 200 (dk_at dksX2_lampsFor_0 15 rfl rfl)
theorem dX2_lampsFor_18 : decode cX2_lampsFor 18 = .ok (.invokestatic 62, 3) := dk_184 0 62 (dk_at dksX2_lampsFor_0 18 rfl rfl)
theorem dX2_lampsFor_21 : decode cX2_lampsFor 21 = .ok (.ifCond .ne 7, 3) := dk_154 0 7 (dk_at dksX2_lampsFor_0 21 rfl rfl)
theorem dX2_lampsFor_24 : decode cX2_lampsFor 24 = .ok (.iconst 1, 1) := dk_4 (dk_at dksX2_lampsFor_1 0 rfl rfl)
theorem dX2_lampsFor_25 : decode cX2_lampsFor 25 = .ok (.goto 4, 3) := dk_167 0 4 (dk_at dksX2_lampsFor_1 1 rfl rfl)
theorem dX2_lampsFor_28 : decode cX2_lampsFor 28 = .ok (.iconst 0, 1) := dk_3 (dk_at dksX2_lampsFor_1 4 rfl rfl)
theorem dX2_lampsFor_29 : decode cX2_lampsFor 29 = .ok (.iconst 2, 1) := dk_5 (dk_at dksX2_lampsFor_1 5 rfl rfl)
theorem dX2_lampsFor_30 : decode cX2_lampsFor 30 = .ok (.invokevirtual 54, 3) := dk_182 0 54 (dk_at dksX2_lampsFor_1 6 rfl rfl)
theorem dX2_lampsFor_33 : decode cX2_lampsFor 33 = .ok (.ifCond .eq 7, 3) := dk_153 0 7 (dk_at dksX2_lampsFor_1 9 rfl rfl)
theorem dX2_lampsFor_36 : decode cX2_lampsFor 36 = .ok (.iconst 0, 1) := dk_3 (dk_at dksX2_lampsFor_1 12 rfl rfl)
theorem dX2_lampsFor_37 : decode cX2_lampsFor 37 = .ok (.goto 9, 3) := dk_167 0 9 (dk_at dksX2_lampsFor_1 13 rfl rfl)
theorem dX2_lampsFor_40 : decode cX2_lampsFor 40 = .ok (.aload_n 0, 1) := dk_42 (dk_at dksX2_lampsFor_1 16 rfl rfl)
theorem dX2_lampsFor_41 : decode cX2_lampsFor 41 = .ok (.iload_n 1, 1) := dk_27 (dk_at dksX2_lampsFor_1 17 rfl rfl)
theorem dX2_lampsFor_42 : decode cX2_lampsFor 42 = .ok (.iload_n 2, 1) := dk_28 (dk_at dksX2_lampsFor_1 18 rfl rfl)
theorem dX2_lampsFor_43 : decode cX2_lampsFor 43 = .ok (.invokevirtual 393, 3) := dk_182 1 137 (dk_at dksX2_lampsFor_1 19 rfl rfl)
theorem dX2_lampsFor_46 : decode cX2_lampsFor 46 = .ok (.ireturn, 1) := dk_172 (dk_at dksX2_lampsFor_1 22 rfl rfl)
abbrev cX2_lampsForNow : ByteArray := prog_13_method_60_code
def yX2_lampsForNow : MethodName := ⟨RX2, "lampsForNow", "(II)I"⟩
def dkwX2_lampsForNow_1 : List UInt8 := [172, 132, 3, 1, 167, 255, 230, 2, 172]
abbrev dktX2_lampsForNow_1 : List UInt8 := dkwX2_lampsForNow_1 ++ []
def dkwX2_lampsForNow_0 : List UInt8 := [3, 62, 29, 6, 163, 0, 27, 42, 180, 0, 9, 29, 96, 28, 104, 178, 1, 134, 27, 46, 161, 0, 5, 29]
abbrev dktX2_lampsForNow_0 : List UInt8 := dkwX2_lampsForNow_0 ++ dktX2_lampsForNow_1
theorem dksX2_lampsForNow_0 : cX2_lampsForNow.data.toList.drop 0 = dktX2_lampsForNow_0 := by decide +kernel
theorem dksX2_lampsForNow_1 : cX2_lampsForNow.data.toList.drop 24 = dktX2_lampsForNow_1 := dk_seg dksX2_lampsForNow_0 24 rfl rfl
theorem dX2_lampsForNow_0 : decode cX2_lampsForNow 0 = .ok (.iconst 0, 1) := dk_3 (dk_at dksX2_lampsForNow_0 0 rfl rfl)
theorem dX2_lampsForNow_1 : decode cX2_lampsForNow 1 = .ok (.istore_n 3, 1) := dk_62 (dk_at dksX2_lampsForNow_0 1 rfl rfl)
theorem dX2_lampsForNow_2 : decode cX2_lampsForNow 2 = .ok (.iload_n 3, 1) := dk_29 (dk_at dksX2_lampsForNow_0 2 rfl rfl)
theorem dX2_lampsForNow_3 : decode cX2_lampsForNow 3 = .ok (.iconst 3, 1) := dk_6 (dk_at dksX2_lampsForNow_0 3 rfl rfl)
theorem dX2_lampsForNow_4 : decode cX2_lampsForNow 4 = .ok (.if_icmp .gt 27, 3) := dk_163 0 27 (dk_at dksX2_lampsForNow_0 4 rfl rfl)
theorem dX2_lampsForNow_7 : decode cX2_lampsForNow 7 = .ok (.aload_n 0, 1) := dk_42 (dk_at dksX2_lampsForNow_0 7 rfl rfl)
theorem dX2_lampsForNow_8 : decode cX2_lampsForNow 8 = .ok (.getfield 9, 3) := dk_180 0 9 (dk_at dksX2_lampsForNow_0 8 rfl rfl)
theorem dX2_lampsForNow_11 : decode cX2_lampsForNow 11 = .ok (.iload_n 3, 1) := dk_29 (dk_at dksX2_lampsForNow_0 11 rfl rfl)
theorem dX2_lampsForNow_12 : decode cX2_lampsForNow 12 = .ok (.iadd, 1) := dk_96 (dk_at dksX2_lampsForNow_0 12 rfl rfl)
theorem dX2_lampsForNow_13 : decode cX2_lampsForNow 13 = .ok (.iload_n 2, 1) := dk_28 (dk_at dksX2_lampsForNow_0 13 rfl rfl)
theorem dX2_lampsForNow_14 : decode cX2_lampsForNow 14 = .ok (.imul, 1) := dk_104 (dk_at dksX2_lampsForNow_0 14 rfl rfl)
theorem dX2_lampsForNow_15 : decode cX2_lampsForNow 15 = .ok (.getstatic 390, 3) := dk_178 1 134 (dk_at dksX2_lampsForNow_0 15 rfl rfl)
theorem dX2_lampsForNow_18 : decode cX2_lampsForNow 18 = .ok (.iload_n 1, 1) := dk_27 (dk_at dksX2_lampsForNow_0 18 rfl rfl)
theorem dX2_lampsForNow_19 : decode cX2_lampsForNow 19 = .ok (.iaload, 1) := dk_46 (dk_at dksX2_lampsForNow_0 19 rfl rfl)
theorem dX2_lampsForNow_20 : decode cX2_lampsForNow 20 = .ok (.if_icmp .lt 5, 3) := dk_161 0 5 (dk_at dksX2_lampsForNow_0 20 rfl rfl)
theorem dX2_lampsForNow_23 : decode cX2_lampsForNow 23 = .ok (.iload_n 3, 1) := dk_29 (dk_at dksX2_lampsForNow_0 23 rfl rfl)
theorem dX2_lampsForNow_24 : decode cX2_lampsForNow 24 = .ok (.ireturn, 1) := dk_172 (dk_at dksX2_lampsForNow_1 0 rfl rfl)
theorem dX2_lampsForNow_25 : decode cX2_lampsForNow 25 = .ok (.iinc 3 1, 3) := dk_132 3 1 (dk_at dksX2_lampsForNow_1 1 rfl rfl)
theorem dX2_lampsForNow_28 : decode cX2_lampsForNow 28 = .ok (.goto (-26), 3) := dk_167 255 230 (dk_at dksX2_lampsForNow_1 4 rfl rfl)
theorem dX2_lampsForNow_31 : decode cX2_lampsForNow 31 = .ok (.iconst (-1), 1) := dk_2 (dk_at dksX2_lampsForNow_1 7 rfl rfl)
theorem dX2_lampsForNow_32 : decode cX2_lampsForNow 32 = .ok (.ireturn, 1) := dk_172 (dk_at dksX2_lampsForNow_1 8 rfl rfl)
abbrev cX2_digest : ByteArray := prog_13_method_63_code
def yX2_digest : MethodName := ⟨RX2, "digest", "()J"⟩
def dkwX2_digest_17 : List UInt8 := [16, 12, 182, 1, 137, 133, 184, 1, 144, 64, 132, 3, 1, 167, 255, 235, 31, 173]
abbrev dktX2_digest_17 : List UInt8 := dkwX2_digest_17 ++ []
def dkwX2_digest_16 : List UInt8 := [182, 1, 116, 133, 184, 1, 144, 64, 132, 3, 1, 167, 255, 237, 3, 62, 29, 6, 162, 0, 22, 31, 42, 29]
abbrev dktX2_digest_16 : List UInt8 := dkwX2_digest_16 ++ dktX2_digest_17
def dkwX2_digest_15 : List UInt8 := [132, 4, 1, 167, 255, 234, 132, 3, 1, 167, 255, 214, 3, 62, 29, 6, 162, 0, 20, 31, 42, 29]
abbrev dktX2_digest_15 : List UInt8 := dkwX2_digest_15 ++ dktX2_digest_16
def dkwX2_digest_14 : List UInt8 := [3, 54, 4, 21, 4, 8, 162, 0, 22, 31, 42, 29, 21, 4, 182, 1, 113, 133, 184, 1, 144, 64]
abbrev dktX2_digest_14 : List UInt8 := dkwX2_digest_14 ++ dktX2_digest_15
def dkwX2_digest_13 : List UInt8 := [180, 1, 29, 133, 184, 1, 144, 64, 167, 255, 225, 3, 62, 29, 42, 180, 0, 48, 182, 0, 58, 162, 0, 37]
abbrev dktX2_digest_13 : List UInt8 := dkwX2_digest_13 ++ dktX2_digest_14
def dkwX2_digest_12 : List UInt8 := [45, 185, 0, 145, 1, 0, 153, 0, 28, 45, 185, 0, 151, 1, 0, 192, 0, 251, 58, 4, 31, 25, 4]
abbrev dktX2_digest_12 : List UInt8 := dkwX2_digest_12 ++ dktX2_digest_13
def dkwX2_digest_11 : List UInt8 := [184, 1, 144, 64, 132, 4, 1, 167, 255, 233, 132, 3, 1, 167, 255, 213, 42, 180, 0, 42, 182, 0, 141, 78]
abbrev dktX2_digest_11 : List UInt8 := dkwX2_digest_11 ++ dktX2_digest_12
def dkwX2_digest_10 : List UInt8 := [162, 0, 38, 3, 54, 4, 21, 4, 16, 9, 162, 0, 22, 31, 42, 29, 21, 4, 182, 1, 109, 133]
abbrev dktX2_digest_10 : List UInt8 := dkwX2_digest_10 ++ dktX2_digest_11
def dkwX2_digest_9 : List UInt8 := [182, 1, 128, 133, 184, 1, 144, 64, 132, 3, 1, 167, 255, 193, 3, 62, 29, 42, 180, 0, 39, 182, 0, 58]
abbrev dktX2_digest_9 : List UInt8 := dkwX2_digest_9 ++ dktX2_digest_10
def dkwX2_digest_8 : List UInt8 := [184, 1, 144, 64, 132, 4, 1, 167, 255, 233, 31, 42, 29, 182, 1, 122, 133, 184, 1, 144, 42, 29]
abbrev dktX2_digest_8 : List UInt8 := dkwX2_digest_8 ++ dktX2_digest_9
def dkwX2_digest_7 : List UInt8 := [162, 0, 58, 3, 54, 4, 21, 4, 16, 10, 162, 0, 22, 31, 42, 29, 21, 4, 182, 1, 94, 133]
abbrev dktX2_digest_7 : List UInt8 := dkwX2_digest_7 ++ dktX2_digest_8
def dkwX2_digest_6 : List UInt8 := [182, 1, 131, 133, 184, 1, 144, 64, 132, 3, 1, 167, 255, 189, 3, 62, 29, 42, 180, 0, 33, 182, 0, 58]
abbrev dktX2_digest_6 : List UInt8 := dkwX2_digest_6 ++ dktX2_digest_7
def dkwX2_digest_5 : List UInt8 := [132, 4, 1, 167, 255, 233, 31, 42, 180, 0, 30, 29, 182, 0, 83, 192, 0, 93, 42, 180, 0, 9]
abbrev dktX2_digest_5 : List UInt8 := dkwX2_digest_5 ++ dktX2_digest_6
def dkwX2_digest_4 : List UInt8 := [54, 4, 21, 4, 16, 6, 162, 0, 22, 31, 42, 29, 21, 4, 182, 1, 88, 133, 184, 1, 144, 64]
abbrev dktX2_digest_4 : List UInt8 := dkwX2_digest_4 ++ dktX2_digest_5
def dkwX2_digest_3 : List UInt8 := [167, 255, 234, 132, 3, 1, 167, 255, 214, 3, 62, 29, 42, 180, 0, 30, 182, 0, 58, 162, 0, 62, 3]
abbrev dktX2_digest_3 : List UInt8 := dkwX2_digest_3 ++ dktX2_digest_4
def dkwX2_digest_2 : List UInt8 := [54, 4, 21, 4, 8, 162, 0, 22, 31, 42, 29, 21, 4, 182, 1, 100, 133, 184, 1, 144, 64, 132, 4, 1]
abbrev dktX2_digest_2 : List UInt8 := dkwX2_digest_2 ++ dktX2_digest_3
def dkwX2_digest_1 : List UInt8 := [184, 1, 144, 64, 132, 3, 1, 167, 255, 236, 3, 62, 29, 42, 180, 0, 26, 182, 0, 58, 162, 0, 37, 3]
abbrev dktX2_digest_1 : List UInt8 := dkwX2_digest_1 ++ dktX2_digest_2
def dkwX2_digest_0 : List UInt8 := [42, 3, 181, 0, 51, 20, 1, 142, 64, 3, 62, 29, 16, 16, 162, 0, 20, 31, 42, 29, 182, 1, 119, 133]
abbrev dktX2_digest_0 : List UInt8 := dkwX2_digest_0 ++ dktX2_digest_1
theorem dksX2_digest_0 : cX2_digest.data.toList.drop 0 = dktX2_digest_0 := by decide +kernel
theorem dksX2_digest_1 : cX2_digest.data.toList.drop 24 = dktX2_digest_1 := dk_seg dksX2_digest_0 24 rfl rfl
theorem dksX2_digest_2 : cX2_digest.data.toList.drop 48 = dktX2_digest_2 := dk_seg dksX2_digest_1 24 rfl rfl
theorem dksX2_digest_3 : cX2_digest.data.toList.drop 72 = dktX2_digest_3 := dk_seg dksX2_digest_2 24 rfl rfl
theorem dksX2_digest_4 : cX2_digest.data.toList.drop 95 = dktX2_digest_4 := dk_seg dksX2_digest_3 23 rfl rfl
theorem dksX2_digest_5 : cX2_digest.data.toList.drop 117 = dktX2_digest_5 := dk_seg dksX2_digest_4 22 rfl rfl
theorem dksX2_digest_6 : cX2_digest.data.toList.drop 139 = dktX2_digest_6 := dk_seg dksX2_digest_5 22 rfl rfl
theorem dksX2_digest_7 : cX2_digest.data.toList.drop 163 = dktX2_digest_7 := dk_seg dksX2_digest_6 24 rfl rfl
theorem dksX2_digest_8 : cX2_digest.data.toList.drop 185 = dktX2_digest_8 := dk_seg dksX2_digest_7 22 rfl rfl
theorem dksX2_digest_9 : cX2_digest.data.toList.drop 207 = dktX2_digest_9 := dk_seg dksX2_digest_8 22 rfl rfl
theorem dksX2_digest_10 : cX2_digest.data.toList.drop 231 = dktX2_digest_10 := dk_seg dksX2_digest_9 24 rfl rfl
theorem dksX2_digest_11 : cX2_digest.data.toList.drop 253 = dktX2_digest_11 := dk_seg dksX2_digest_10 22 rfl rfl
theorem dksX2_digest_12 : cX2_digest.data.toList.drop 277 = dktX2_digest_12 := dk_seg dksX2_digest_11 24 rfl rfl
theorem dksX2_digest_13 : cX2_digest.data.toList.drop 300 = dktX2_digest_13 := dk_seg dksX2_digest_12 23 rfl rfl
theorem dksX2_digest_14 : cX2_digest.data.toList.drop 324 = dktX2_digest_14 := dk_seg dksX2_digest_13 24 rfl rfl
theorem dksX2_digest_15 : cX2_digest.data.toList.drop 346 = dktX2_digest_15 := dk_seg dksX2_digest_14 22 rfl rfl
theorem dksX2_digest_16 : cX2_digest.data.toList.drop 368 = dktX2_digest_16 := dk_seg dksX2_digest_15 22 rfl rfl
theorem dksX2_digest_17 : cX2_digest.data.toList.drop 392 = dktX2_digest_17 := dk_seg dksX2_digest_16 24 rfl rfl
theorem dX2_digest_0 : decode cX2_digest 0 = .ok (.aload_n 0, 1) := dk_42 (dk_at dksX2_digest_0 0 rfl rfl)
theorem dX2_digest_1 : decode cX2_digest 1 = .ok (.iconst 0, 1) := dk_3 (dk_at dksX2_digest_0 1 rfl rfl)
theorem dX2_digest_2 : decode cX2_digest 2 = .ok (.putfield 51, 3) := dk_181 0 51 (dk_at dksX2_digest_0 2 rfl rfl)
theorem dX2_digest_5 : decode cX2_digest 5 = .ok (.ldc2_w 398, 3) := dk_20 1 142 (dk_at dksX2_digest_0 5 rfl rfl)
theorem dX2_digest_8 : decode cX2_digest 8 = .ok (.lstore_n 1, 1) := dk_64 (dk_at dksX2_digest_0 8 rfl rfl)
theorem dX2_digest_9 : decode cX2_digest 9 = .ok (.iconst 0, 1) := dk_3 (dk_at dksX2_digest_0 9 rfl rfl)
theorem dX2_digest_10 : decode cX2_digest 10 = .ok (.istore_n 3, 1) := dk_62 (dk_at dksX2_digest_0 10 rfl rfl)
theorem dX2_digest_11 : decode cX2_digest 11 = .ok (.iload_n 3, 1) := dk_29 (dk_at dksX2_digest_0 11 rfl rfl)
theorem dX2_digest_12 : decode cX2_digest 12 = .ok (.bipush 16, 2) := dk_16 16 (dk_at dksX2_digest_0 12 rfl rfl)
theorem dX2_digest_14 : decode cX2_digest 14 = .ok (.if_icmp .ge 20, 3) := dk_162 0 20 (dk_at dksX2_digest_0 14 rfl rfl)
theorem dX2_digest_17 : decode cX2_digest 17 = .ok (.lload_n 1, 1) := dk_31 (dk_at dksX2_digest_0 17 rfl rfl)
theorem dX2_digest_18 : decode cX2_digest 18 = .ok (.aload_n 0, 1) := dk_42 (dk_at dksX2_digest_0 18 rfl rfl)
theorem dX2_digest_19 : decode cX2_digest 19 = .ok (.iload_n 3, 1) := dk_29 (dk_at dksX2_digest_0 19 rfl rfl)
theorem dX2_digest_20 : decode cX2_digest 20 = .ok (.invokevirtual 375, 3) := dk_182 1 119 (dk_at dksX2_digest_0 20 rfl rfl)
theorem dX2_digest_23 : decode cX2_digest 23 = .ok (.i2l, 1) := dk_133 (dk_at dksX2_digest_0 23 rfl rfl)
theorem dX2_digest_24 : decode cX2_digest 24 = .ok (.invokestatic 400, 3) := dk_184 1 144 (dk_at dksX2_digest_1 0 rfl rfl)
theorem dX2_digest_27 : decode cX2_digest 27 = .ok (.lstore_n 1, 1) := dk_64 (dk_at dksX2_digest_1 3 rfl rfl)
theorem dX2_digest_28 : decode cX2_digest 28 = .ok (.iinc 3 1, 3) := dk_132 3 1 (dk_at dksX2_digest_1 4 rfl rfl)
theorem dX2_digest_31 : decode cX2_digest 31 = .ok (.goto (-20), 3) := dk_167 255 236 (dk_at dksX2_digest_1 7 rfl rfl)
theorem dX2_digest_34 : decode cX2_digest 34 = .ok (.iconst 0, 1) := dk_3 (dk_at dksX2_digest_1 10 rfl rfl)
theorem dX2_digest_35 : decode cX2_digest 35 = .ok (.istore_n 3, 1) := dk_62 (dk_at dksX2_digest_1 11 rfl rfl)
theorem dX2_digest_36 : decode cX2_digest 36 = .ok (.iload_n 3, 1) := dk_29 (dk_at dksX2_digest_1 12 rfl rfl)
theorem dX2_digest_37 : decode cX2_digest 37 = .ok (.aload_n 0, 1) := dk_42 (dk_at dksX2_digest_1 13 rfl rfl)
theorem dX2_digest_38 : decode cX2_digest 38 = .ok (.getfield 26, 3) := dk_180 0 26 (dk_at dksX2_digest_1 14 rfl rfl)
theorem dX2_digest_41 : decode cX2_digest 41 = .ok (.invokevirtual 58, 3) := dk_182 0 58 (dk_at dksX2_digest_1 17 rfl rfl)
theorem dX2_digest_44 : decode cX2_digest 44 = .ok (.if_icmp .ge 37, 3) := dk_162 0 37 (dk_at dksX2_digest_1 20 rfl rfl)
theorem dX2_digest_47 : decode cX2_digest 47 = .ok (.iconst 0, 1) := dk_3 (dk_at dksX2_digest_1 23 rfl rfl)
theorem dX2_digest_48 : decode cX2_digest 48 = .ok (.istore 4, 2) := dk_54 4 (dk_at dksX2_digest_2 0 rfl rfl)
theorem dX2_digest_50 : decode cX2_digest 50 = .ok (.iload 4, 2) := dk_21 4 (dk_at dksX2_digest_2 2 rfl rfl)
theorem dX2_digest_52 : decode cX2_digest 52 = .ok (.iconst 5, 1) := dk_8 (dk_at dksX2_digest_2 4 rfl rfl)
theorem dX2_digest_53 : decode cX2_digest 53 = .ok (.if_icmp .ge 22, 3) := dk_162 0 22 (dk_at dksX2_digest_2 5 rfl rfl)
theorem dX2_digest_56 : decode cX2_digest 56 = .ok (.lload_n 1, 1) := dk_31 (dk_at dksX2_digest_2 8 rfl rfl)
theorem dX2_digest_57 : decode cX2_digest 57 = .ok (.aload_n 0, 1) := dk_42 (dk_at dksX2_digest_2 9 rfl rfl)
theorem dX2_digest_58 : decode cX2_digest 58 = .ok (.iload_n 3, 1) := dk_29 (dk_at dksX2_digest_2 10 rfl rfl)
theorem dX2_digest_59 : decode cX2_digest 59 = .ok (.iload 4, 2) := dk_21 4 (dk_at dksX2_digest_2 11 rfl rfl)
theorem dX2_digest_61 : decode cX2_digest 61 = .ok (.invokevirtual 356, 3) := dk_182 1 100 (dk_at dksX2_digest_2 13 rfl rfl)
theorem dX2_digest_64 : decode cX2_digest 64 = .ok (.i2l, 1) := dk_133 (dk_at dksX2_digest_2 16 rfl rfl)
theorem dX2_digest_65 : decode cX2_digest 65 = .ok (.invokestatic 400, 3) := dk_184 1 144 (dk_at dksX2_digest_2 17 rfl rfl)
theorem dX2_digest_68 : decode cX2_digest 68 = .ok (.lstore_n 1, 1) := dk_64 (dk_at dksX2_digest_2 20 rfl rfl)
theorem dX2_digest_69 : decode cX2_digest 69 = .ok (.iinc 4 1, 3) := dk_132 4 1 (dk_at dksX2_digest_2 21 rfl rfl)
theorem dX2_digest_72 : decode cX2_digest 72 = .ok (.goto (-22), 3) := dk_167 255 234 (dk_at dksX2_digest_3 0 rfl rfl)
theorem dX2_digest_75 : decode cX2_digest 75 = .ok (.iinc 3 1, 3) := dk_132 3 1 (dk_at dksX2_digest_3 3 rfl rfl)
theorem dX2_digest_78 : decode cX2_digest 78 = .ok (.goto (-42), 3) := dk_167 255 214 (dk_at dksX2_digest_3 6 rfl rfl)
theorem dX2_digest_81 : decode cX2_digest 81 = .ok (.iconst 0, 1) := dk_3 (dk_at dksX2_digest_3 9 rfl rfl)
theorem dX2_digest_82 : decode cX2_digest 82 = .ok (.istore_n 3, 1) := dk_62 (dk_at dksX2_digest_3 10 rfl rfl)
theorem dX2_digest_83 : decode cX2_digest 83 = .ok (.iload_n 3, 1) := dk_29 (dk_at dksX2_digest_3 11 rfl rfl)
theorem dX2_digest_84 : decode cX2_digest 84 = .ok (.aload_n 0, 1) := dk_42 (dk_at dksX2_digest_3 12 rfl rfl)
theorem dX2_digest_85 : decode cX2_digest 85 = .ok (.getfield 30, 3) := dk_180 0 30 (dk_at dksX2_digest_3 13 rfl rfl)
theorem dX2_digest_88 : decode cX2_digest 88 = .ok (.invokevirtual 58, 3) := dk_182 0 58 (dk_at dksX2_digest_3 16 rfl rfl)
theorem dX2_digest_91 : decode cX2_digest 91 = .ok (.if_icmp .ge 62, 3) := dk_162 0 62 (dk_at dksX2_digest_3 19 rfl rfl)
theorem dX2_digest_94 : decode cX2_digest 94 = .ok (.iconst 0, 1) := dk_3 (dk_at dksX2_digest_3 22 rfl rfl)
theorem dX2_digest_95 : decode cX2_digest 95 = .ok (.istore 4, 2) := dk_54 4 (dk_at dksX2_digest_4 0 rfl rfl)
theorem dX2_digest_97 : decode cX2_digest 97 = .ok (.iload 4, 2) := dk_21 4 (dk_at dksX2_digest_4 2 rfl rfl)
theorem dX2_digest_99 : decode cX2_digest 99 = .ok (.bipush 6, 2) := dk_16 6 (dk_at dksX2_digest_4 4 rfl rfl)
theorem dX2_digest_101 : decode cX2_digest 101 = .ok (.if_icmp .ge 22, 3) := dk_162 0 22 (dk_at dksX2_digest_4 6 rfl rfl)
theorem dX2_digest_104 : decode cX2_digest 104 = .ok (.lload_n 1, 1) := dk_31 (dk_at dksX2_digest_4 9 rfl rfl)
theorem dX2_digest_105 : decode cX2_digest 105 = .ok (.aload_n 0, 1) := dk_42 (dk_at dksX2_digest_4 10 rfl rfl)
theorem dX2_digest_106 : decode cX2_digest 106 = .ok (.iload_n 3, 1) := dk_29 (dk_at dksX2_digest_4 11 rfl rfl)
theorem dX2_digest_107 : decode cX2_digest 107 = .ok (.iload 4, 2) := dk_21 4 (dk_at dksX2_digest_4 12 rfl rfl)
theorem dX2_digest_109 : decode cX2_digest 109 = .ok (.invokevirtual 344, 3) := dk_182 1 88 (dk_at dksX2_digest_4 14 rfl rfl)
theorem dX2_digest_112 : decode cX2_digest 112 = .ok (.i2l, 1) := dk_133 (dk_at dksX2_digest_4 17 rfl rfl)
theorem dX2_digest_113 : decode cX2_digest 113 = .ok (.invokestatic 400, 3) := dk_184 1 144 (dk_at dksX2_digest_4 18 rfl rfl)
theorem dX2_digest_116 : decode cX2_digest 116 = .ok (.lstore_n 1, 1) := dk_64 (dk_at dksX2_digest_4 21 rfl rfl)
theorem dX2_digest_117 : decode cX2_digest 117 = .ok (.iinc 4 1, 3) := dk_132 4 1 (dk_at dksX2_digest_5 0 rfl rfl)
theorem dX2_digest_120 : decode cX2_digest 120 = .ok (.goto (-23), 3) := dk_167 255 233 (dk_at dksX2_digest_5 3 rfl rfl)
theorem dX2_digest_123 : decode cX2_digest 123 = .ok (.lload_n 1, 1) := dk_31 (dk_at dksX2_digest_5 6 rfl rfl)
theorem dX2_digest_124 : decode cX2_digest 124 = .ok (.aload_n 0, 1) := dk_42 (dk_at dksX2_digest_5 7 rfl rfl)
theorem dX2_digest_125 : decode cX2_digest 125 = .ok (.getfield 30, 3) := dk_180 0 30 (dk_at dksX2_digest_5 8 rfl rfl)
theorem dX2_digest_128 : decode cX2_digest 128 = .ok (.iload_n 3, 1) := dk_29 (dk_at dksX2_digest_5 11 rfl rfl)
theorem dX2_digest_129 : decode cX2_digest 129 = .ok (.invokevirtual 83, 3) := dk_182 0 83 (dk_at dksX2_digest_5 12 rfl rfl)
theorem dX2_digest_132 : decode cX2_digest 132 = .ok (.checkcast 93, 3) := dk_192 0 93 (dk_at dksX2_digest_5 15 rfl rfl)
theorem dX2_digest_135 : decode cX2_digest 135 = .ok (.aload_n 0, 1) := dk_42 (dk_at dksX2_digest_5 18 rfl rfl)
theorem dX2_digest_136 : decode cX2_digest 136 = .ok (.getfield 9, 3) := dk_180 0 9 (dk_at dksX2_digest_5 19 rfl rfl)
theorem dX2_digest_139 : decode cX2_digest 139 = .ok (.invokevirtual 387, 3) := dk_182 1 131 (dk_at dksX2_digest_6 0 rfl rfl)
theorem dX2_digest_142 : decode cX2_digest 142 = .ok (.i2l, 1) := dk_133 (dk_at dksX2_digest_6 3 rfl rfl)
theorem dX2_digest_143 : decode cX2_digest 143 = .ok (.invokestatic 400, 3) := dk_184 1 144 (dk_at dksX2_digest_6 4 rfl rfl)
theorem dX2_digest_146 : decode cX2_digest 146 = .ok (.lstore_n 1, 1) := dk_64 (dk_at dksX2_digest_6 7 rfl rfl)
theorem dX2_digest_147 : decode cX2_digest 147 = .ok (.iinc 3 1, 3) := dk_132 3 1 (dk_at dksX2_digest_6 8 rfl rfl)
theorem dX2_digest_150 : decode cX2_digest 150 = .ok (.goto (-67), 3) := dk_167 255 189 (dk_at dksX2_digest_6 11 rfl rfl)
theorem dX2_digest_153 : decode cX2_digest 153 = .ok (.iconst 0, 1) := dk_3 (dk_at dksX2_digest_6 14 rfl rfl)
theorem dX2_digest_154 : decode cX2_digest 154 = .ok (.istore_n 3, 1) := dk_62 (dk_at dksX2_digest_6 15 rfl rfl)
theorem dX2_digest_155 : decode cX2_digest 155 = .ok (.iload_n 3, 1) := dk_29 (dk_at dksX2_digest_6 16 rfl rfl)
theorem dX2_digest_156 : decode cX2_digest 156 = .ok (.aload_n 0, 1) := dk_42 (dk_at dksX2_digest_6 17 rfl rfl)
theorem dX2_digest_157 : decode cX2_digest 157 = .ok (.getfield 33, 3) := dk_180 0 33 (dk_at dksX2_digest_6 18 rfl rfl)
theorem dX2_digest_160 : decode cX2_digest 160 = .ok (.invokevirtual 58, 3) := dk_182 0 58 (dk_at dksX2_digest_6 21 rfl rfl)
theorem dX2_digest_163 : decode cX2_digest 163 = .ok (.if_icmp .ge 58, 3) := dk_162 0 58 (dk_at dksX2_digest_7 0 rfl rfl)
theorem dX2_digest_166 : decode cX2_digest 166 = .ok (.iconst 0, 1) := dk_3 (dk_at dksX2_digest_7 3 rfl rfl)
theorem dX2_digest_167 : decode cX2_digest 167 = .ok (.istore 4, 2) := dk_54 4 (dk_at dksX2_digest_7 4 rfl rfl)
theorem dX2_digest_169 : decode cX2_digest 169 = .ok (.iload 4, 2) := dk_21 4 (dk_at dksX2_digest_7 6 rfl rfl)
theorem dX2_digest_171 : decode cX2_digest 171 = .ok (.bipush 10, 2) := dk_16 10 (dk_at dksX2_digest_7 8 rfl rfl)
theorem dX2_digest_173 : decode cX2_digest 173 = .ok (.if_icmp .ge 22, 3) := dk_162 0 22 (dk_at dksX2_digest_7 10 rfl rfl)
theorem dX2_digest_176 : decode cX2_digest 176 = .ok (.lload_n 1, 1) := dk_31 (dk_at dksX2_digest_7 13 rfl rfl)
theorem dX2_digest_177 : decode cX2_digest 177 = .ok (.aload_n 0, 1) := dk_42 (dk_at dksX2_digest_7 14 rfl rfl)
theorem dX2_digest_178 : decode cX2_digest 178 = .ok (.iload_n 3, 1) := dk_29 (dk_at dksX2_digest_7 15 rfl rfl)
theorem dX2_digest_179 : decode cX2_digest 179 = .ok (.iload 4, 2) := dk_21 4 (dk_at dksX2_digest_7 16 rfl rfl)
theorem dX2_digest_181 : decode cX2_digest 181 = .ok (.invokevirtual 350, 3) := dk_182 1 94 (dk_at dksX2_digest_7 18 rfl rfl)
theorem dX2_digest_184 : decode cX2_digest 184 = .ok (.i2l, 1) := dk_133 (dk_at dksX2_digest_7 21 rfl rfl)
theorem dX2_digest_185 : decode cX2_digest 185 = .ok (.invokestatic 400, 3) := dk_184 1 144 (dk_at dksX2_digest_8 0 rfl rfl)
theorem dX2_digest_188 : decode cX2_digest 188 = .ok (.lstore_n 1, 1) := dk_64 (dk_at dksX2_digest_8 3 rfl rfl)
theorem dX2_digest_189 : decode cX2_digest 189 = .ok (.iinc 4 1, 3) := dk_132 4 1 (dk_at dksX2_digest_8 4 rfl rfl)
theorem dX2_digest_192 : decode cX2_digest 192 = .ok (.goto (-23), 3) := dk_167 255 233 (dk_at dksX2_digest_8 7 rfl rfl)
theorem dX2_digest_195 : decode cX2_digest 195 = .ok (.lload_n 1, 1) := dk_31 (dk_at dksX2_digest_8 10 rfl rfl)
theorem dX2_digest_196 : decode cX2_digest 196 = .ok (.aload_n 0, 1) := dk_42 (dk_at dksX2_digest_8 11 rfl rfl)
theorem dX2_digest_197 : decode cX2_digest 197 = .ok (.iload_n 3, 1) := dk_29 (dk_at dksX2_digest_8 12 rfl rfl)
theorem dX2_digest_198 : decode cX2_digest 198 = .ok (.invokevirtual 378, 3) := dk_182 1 122 (dk_at dksX2_digest_8 13 rfl rfl)
theorem dX2_digest_201 : decode cX2_digest 201 = .ok (.i2l, 1) := dk_133 (dk_at dksX2_digest_8 16 rfl rfl)
theorem dX2_digest_202 : decode cX2_digest 202 = .ok (.invokestatic 400, 3) := dk_184 1 144 (dk_at dksX2_digest_8 17 rfl rfl)
theorem dX2_digest_205 : decode cX2_digest 205 = .ok (.aload_n 0, 1) := dk_42 (dk_at dksX2_digest_8 20 rfl rfl)
theorem dX2_digest_206 : decode cX2_digest 206 = .ok (.iload_n 3, 1) := dk_29 (dk_at dksX2_digest_8 21 rfl rfl)
theorem dX2_digest_207 : decode cX2_digest 207 = .ok (.invokevirtual 384, 3) := dk_182 1 128 (dk_at dksX2_digest_9 0 rfl rfl)
theorem dX2_digest_210 : decode cX2_digest 210 = .ok (.i2l, 1) := dk_133 (dk_at dksX2_digest_9 3 rfl rfl)
theorem dX2_digest_211 : decode cX2_digest 211 = .ok (.invokestatic 400, 3) := dk_184 1 144 (dk_at dksX2_digest_9 4 rfl rfl)
theorem dX2_digest_214 : decode cX2_digest 214 = .ok (.lstore_n 1, 1) := dk_64 (dk_at dksX2_digest_9 7 rfl rfl)
theorem dX2_digest_215 : decode cX2_digest 215 = .ok (.iinc 3 1, 3) := dk_132 3 1 (dk_at dksX2_digest_9 8 rfl rfl)
theorem dX2_digest_218 : decode cX2_digest 218 = .ok (.goto (-63), 3) := dk_167 255 193 (dk_at dksX2_digest_9 11 rfl rfl)
theorem dX2_digest_221 : decode cX2_digest 221 = .ok (.iconst 0, 1) := dk_3 (dk_at dksX2_digest_9 14 rfl rfl)
theorem dX2_digest_222 : decode cX2_digest 222 = .ok (.istore_n 3, 1) := dk_62 (dk_at dksX2_digest_9 15 rfl rfl)
theorem dX2_digest_223 : decode cX2_digest 223 = .ok (.iload_n 3, 1) := dk_29 (dk_at dksX2_digest_9 16 rfl rfl)
theorem dX2_digest_224 : decode cX2_digest 224 = .ok (.aload_n 0, 1) := dk_42 (dk_at dksX2_digest_9 17 rfl rfl)
theorem dX2_digest_225 : decode cX2_digest 225 = .ok (.getfield 39, 3) := dk_180 0 39 (dk_at dksX2_digest_9 18 rfl rfl)
theorem dX2_digest_228 : decode cX2_digest 228 = .ok (.invokevirtual 58, 3) := dk_182 0 58 (dk_at dksX2_digest_9 21 rfl rfl)
theorem dX2_digest_231 : decode cX2_digest 231 = .ok (.if_icmp .ge 38, 3) := dk_162 0 38 (dk_at dksX2_digest_10 0 rfl rfl)
theorem dX2_digest_234 : decode cX2_digest 234 = .ok (.iconst 0, 1) := dk_3 (dk_at dksX2_digest_10 3 rfl rfl)
theorem dX2_digest_235 : decode cX2_digest 235 = .ok (.istore 4, 2) := dk_54 4 (dk_at dksX2_digest_10 4 rfl rfl)
theorem dX2_digest_237 : decode cX2_digest 237 = .ok (.iload 4, 2) := dk_21 4 (dk_at dksX2_digest_10 6 rfl rfl)
theorem dX2_digest_239 : decode cX2_digest 239 = .ok (.bipush 9, 2) := dk_16 9 (dk_at dksX2_digest_10 8 rfl rfl)
theorem dX2_digest_241 : decode cX2_digest 241 = .ok (.if_icmp .ge 22, 3) := dk_162 0 22 (dk_at dksX2_digest_10 10 rfl rfl)
theorem dX2_digest_244 : decode cX2_digest 244 = .ok (.lload_n 1, 1) := dk_31 (dk_at dksX2_digest_10 13 rfl rfl)
theorem dX2_digest_245 : decode cX2_digest 245 = .ok (.aload_n 0, 1) := dk_42 (dk_at dksX2_digest_10 14 rfl rfl)
theorem dX2_digest_246 : decode cX2_digest 246 = .ok (.iload_n 3, 1) := dk_29 (dk_at dksX2_digest_10 15 rfl rfl)
theorem dX2_digest_247 : decode cX2_digest 247 = .ok (.iload 4, 2) := dk_21 4 (dk_at dksX2_digest_10 16 rfl rfl)
theorem dX2_digest_249 : decode cX2_digest 249 = .ok (.invokevirtual 365, 3) := dk_182 1 109 (dk_at dksX2_digest_10 18 rfl rfl)
theorem dX2_digest_252 : decode cX2_digest 252 = .ok (.i2l, 1) := dk_133 (dk_at dksX2_digest_10 21 rfl rfl)
theorem dX2_digest_253 : decode cX2_digest 253 = .ok (.invokestatic 400, 3) := dk_184 1 144 (dk_at dksX2_digest_11 0 rfl rfl)
theorem dX2_digest_256 : decode cX2_digest 256 = .ok (.lstore_n 1, 1) := dk_64 (dk_at dksX2_digest_11 3 rfl rfl)
theorem dX2_digest_257 : decode cX2_digest 257 = .ok (.iinc 4 1, 3) := dk_132 4 1 (dk_at dksX2_digest_11 4 rfl rfl)
theorem dX2_digest_260 : decode cX2_digest 260 = .ok (.goto (-23), 3) := dk_167 255 233 (dk_at dksX2_digest_11 7 rfl rfl)
theorem dX2_digest_263 : decode cX2_digest 263 = .ok (.iinc 3 1, 3) := dk_132 3 1 (dk_at dksX2_digest_11 10 rfl rfl)
theorem dX2_digest_266 : decode cX2_digest 266 = .ok (.goto (-43), 3) := dk_167 255 213 (dk_at dksX2_digest_11 13 rfl rfl)
theorem dX2_digest_269 : decode cX2_digest 269 = .ok (.aload_n 0, 1) := dk_42 (dk_at dksX2_digest_11 16 rfl rfl)
theorem dX2_digest_270 : decode cX2_digest 270 = .ok (.getfield 42, 3) := dk_180 0 42 (dk_at dksX2_digest_11 17 rfl rfl)
theorem dX2_digest_273 : decode cX2_digest 273 = .ok (.invokevirtual 141, 3) := dk_182 0 141 (dk_at dksX2_digest_11 20 rfl rfl)
theorem dX2_digest_276 : decode cX2_digest 276 = .ok (.astore_n 3, 1) := dk_78 (dk_at dksX2_digest_11 23 rfl rfl)
theorem dX2_digest_277 : decode cX2_digest 277 = .ok (.aload_n 3, 1) := dk_45 (dk_at dksX2_digest_12 0 rfl rfl)
theorem dX2_digest_278 : decode cX2_digest 278 = .ok (.invokeinterface 145 1, 5) := by decide +kernel
theorem dX2_digest_283 : decode cX2_digest 283 = .ok (.ifCond .eq 28, 3) := dk_153 0 28 (dk_at dksX2_digest_12 6 rfl rfl)
theorem dX2_digest_286 : decode cX2_digest 286 = .ok (.aload_n 3, 1) := dk_45 (dk_at dksX2_digest_12 9 rfl rfl)
theorem dX2_digest_287 : decode cX2_digest 287 = .ok (.invokeinterface 151 1, 5) := by decide +kernel
theorem dX2_digest_292 : decode cX2_digest 292 = .ok (.checkcast 251, 3) := dk_192 0 251 (dk_at dksX2_digest_12 15 rfl rfl)
theorem dX2_digest_295 : decode cX2_digest 295 = .ok (.astore 4, 2) := dk_58 4 (dk_at dksX2_digest_12 18 rfl rfl)
theorem dX2_digest_297 : decode cX2_digest 297 = .ok (.lload_n 1, 1) := dk_31 (dk_at dksX2_digest_12 20 rfl rfl)
theorem dX2_digest_298 : decode cX2_digest 298 = .ok (.aload 4, 2) := dk_25 4 (dk_at dksX2_digest_12 21 rfl rfl)
theorem dX2_digest_300 : decode cX2_digest 300 = .ok (.getfield 285, 3) := dk_180 1 29 (dk_at dksX2_digest_13 0 rfl rfl)
theorem dX2_digest_303 : decode cX2_digest 303 = .ok (.i2l, 1) := dk_133 (dk_at dksX2_digest_13 3 rfl rfl)
theorem dX2_digest_304 : decode cX2_digest 304 = .ok (.invokestatic 400, 3) := dk_184 1 144 (dk_at dksX2_digest_13 4 rfl rfl)
theorem dX2_digest_307 : decode cX2_digest 307 = .ok (.lstore_n 1, 1) := dk_64 (dk_at dksX2_digest_13 7 rfl rfl)
theorem dX2_digest_308 : decode cX2_digest 308 = .ok (.goto (-31), 3) := dk_167 255 225 (dk_at dksX2_digest_13 8 rfl rfl)
theorem dX2_digest_311 : decode cX2_digest 311 = .ok (.iconst 0, 1) := dk_3 (dk_at dksX2_digest_13 11 rfl rfl)
theorem dX2_digest_312 : decode cX2_digest 312 = .ok (.istore_n 3, 1) := dk_62 (dk_at dksX2_digest_13 12 rfl rfl)
theorem dX2_digest_313 : decode cX2_digest 313 = .ok (.iload_n 3, 1) := dk_29 (dk_at dksX2_digest_13 13 rfl rfl)
theorem dX2_digest_314 : decode cX2_digest 314 = .ok (.aload_n 0, 1) := dk_42 (dk_at dksX2_digest_13 14 rfl rfl)
theorem dX2_digest_315 : decode cX2_digest 315 = .ok (.getfield 48, 3) := dk_180 0 48 (dk_at dksX2_digest_13 15 rfl rfl)
theorem dX2_digest_318 : decode cX2_digest 318 = .ok (.invokevirtual 58, 3) := dk_182 0 58 (dk_at dksX2_digest_13 18 rfl rfl)
theorem dX2_digest_321 : decode cX2_digest 321 = .ok (.if_icmp .ge 37, 3) := dk_162 0 37 (dk_at dksX2_digest_13 21 rfl rfl)
theorem dX2_digest_324 : decode cX2_digest 324 = .ok (.iconst 0, 1) := dk_3 (dk_at dksX2_digest_14 0 rfl rfl)
theorem dX2_digest_325 : decode cX2_digest 325 = .ok (.istore 4, 2) := dk_54 4 (dk_at dksX2_digest_14 1 rfl rfl)
theorem dX2_digest_327 : decode cX2_digest 327 = .ok (.iload 4, 2) := dk_21 4 (dk_at dksX2_digest_14 3 rfl rfl)
theorem dX2_digest_329 : decode cX2_digest 329 = .ok (.iconst 5, 1) := dk_8 (dk_at dksX2_digest_14 5 rfl rfl)
theorem dX2_digest_330 : decode cX2_digest 330 = .ok (.if_icmp .ge 22, 3) := dk_162 0 22 (dk_at dksX2_digest_14 6 rfl rfl)
theorem dX2_digest_333 : decode cX2_digest 333 = .ok (.lload_n 1, 1) := dk_31 (dk_at dksX2_digest_14 9 rfl rfl)
theorem dX2_digest_334 : decode cX2_digest 334 = .ok (.aload_n 0, 1) := dk_42 (dk_at dksX2_digest_14 10 rfl rfl)
theorem dX2_digest_335 : decode cX2_digest 335 = .ok (.iload_n 3, 1) := dk_29 (dk_at dksX2_digest_14 11 rfl rfl)
theorem dX2_digest_336 : decode cX2_digest 336 = .ok (.iload 4, 2) := dk_21 4 (dk_at dksX2_digest_14 12 rfl rfl)
theorem dX2_digest_338 : decode cX2_digest 338 = .ok (.invokevirtual 369, 3) := dk_182 1 113 (dk_at dksX2_digest_14 14 rfl rfl)
theorem dX2_digest_341 : decode cX2_digest 341 = .ok (.i2l, 1) := dk_133 (dk_at dksX2_digest_14 17 rfl rfl)
theorem dX2_digest_342 : decode cX2_digest 342 = .ok (.invokestatic 400, 3) := dk_184 1 144 (dk_at dksX2_digest_14 18 rfl rfl)
theorem dX2_digest_345 : decode cX2_digest 345 = .ok (.lstore_n 1, 1) := dk_64 (dk_at dksX2_digest_14 21 rfl rfl)
theorem dX2_digest_346 : decode cX2_digest 346 = .ok (.iinc 4 1, 3) := dk_132 4 1 (dk_at dksX2_digest_15 0 rfl rfl)
theorem dX2_digest_349 : decode cX2_digest 349 = .ok (.goto (-22), 3) := dk_167 255 234 (dk_at dksX2_digest_15 3 rfl rfl)
theorem dX2_digest_352 : decode cX2_digest 352 = .ok (.iinc 3 1, 3) := dk_132 3 1 (dk_at dksX2_digest_15 6 rfl rfl)
theorem dX2_digest_355 : decode cX2_digest 355 = .ok (.goto (-42), 3) := dk_167 255 214 (dk_at dksX2_digest_15 9 rfl rfl)
theorem dX2_digest_358 : decode cX2_digest 358 = .ok (.iconst 0, 1) := dk_3 (dk_at dksX2_digest_15 12 rfl rfl)
theorem dX2_digest_359 : decode cX2_digest 359 = .ok (.istore_n 3, 1) := dk_62 (dk_at dksX2_digest_15 13 rfl rfl)
theorem dX2_digest_360 : decode cX2_digest 360 = .ok (.iload_n 3, 1) := dk_29 (dk_at dksX2_digest_15 14 rfl rfl)
theorem dX2_digest_361 : decode cX2_digest 361 = .ok (.iconst 3, 1) := dk_6 (dk_at dksX2_digest_15 15 rfl rfl)
theorem dX2_digest_362 : decode cX2_digest 362 = .ok (.if_icmp .ge 20, 3) := dk_162 0 20 (dk_at dksX2_digest_15 16 rfl rfl)
theorem dX2_digest_365 : decode cX2_digest 365 = .ok (.lload_n 1, 1) := dk_31 (dk_at dksX2_digest_15 19 rfl rfl)
theorem dX2_digest_366 : decode cX2_digest 366 = .ok (.aload_n 0, 1) := dk_42 (dk_at dksX2_digest_15 20 rfl rfl)
theorem dX2_digest_367 : decode cX2_digest 367 = .ok (.iload_n 3, 1) := dk_29 (dk_at dksX2_digest_15 21 rfl rfl)
theorem dX2_digest_368 : decode cX2_digest 368 = .ok (.invokevirtual 372, 3) := dk_182 1 116 (dk_at dksX2_digest_16 0 rfl rfl)
theorem dX2_digest_371 : decode cX2_digest 371 = .ok (.i2l, 1) := dk_133 (dk_at dksX2_digest_16 3 rfl rfl)
theorem dX2_digest_372 : decode cX2_digest 372 = .ok (.invokestatic 400, 3) := dk_184 1 144 (dk_at dksX2_digest_16 4 rfl rfl)
theorem dX2_digest_375 : decode cX2_digest 375 = .ok (.lstore_n 1, 1) := dk_64 (dk_at dksX2_digest_16 7 rfl rfl)
theorem dX2_digest_376 : decode cX2_digest 376 = .ok (.iinc 3 1, 3) := dk_132 3 1 (dk_at dksX2_digest_16 8 rfl rfl)
theorem dX2_digest_379 : decode cX2_digest 379 = .ok (.goto (-19), 3) := dk_167 255 237 (dk_at dksX2_digest_16 11 rfl rfl)
theorem dX2_digest_382 : decode cX2_digest 382 = .ok (.iconst 0, 1) := dk_3 (dk_at dksX2_digest_16 14 rfl rfl)
theorem dX2_digest_383 : decode cX2_digest 383 = .ok (.istore_n 3, 1) := dk_62 (dk_at dksX2_digest_16 15 rfl rfl)
theorem dX2_digest_384 : decode cX2_digest 384 = .ok (.iload_n 3, 1) := dk_29 (dk_at dksX2_digest_16 16 rfl rfl)
theorem dX2_digest_385 : decode cX2_digest 385 = .ok (.iconst 3, 1) := dk_6 (dk_at dksX2_digest_16 17 rfl rfl)
theorem dX2_digest_386 : decode cX2_digest 386 = .ok (.if_icmp .ge 22, 3) := dk_162 0 22 (dk_at dksX2_digest_16 18 rfl rfl)
theorem dX2_digest_389 : decode cX2_digest 389 = .ok (.lload_n 1, 1) := dk_31 (dk_at dksX2_digest_16 21 rfl rfl)
theorem dX2_digest_390 : decode cX2_digest 390 = .ok (.aload_n 0, 1) := dk_42 (dk_at dksX2_digest_16 22 rfl rfl)
theorem dX2_digest_391 : decode cX2_digest 391 = .ok (.iload_n 3, 1) := dk_29 (dk_at dksX2_digest_16 23 rfl rfl)
theorem dX2_digest_392 : decode cX2_digest 392 = .ok (.bipush 12, 2) := dk_16 12 (dk_at dksX2_digest_17 0 rfl rfl)
theorem dX2_digest_394 : decode cX2_digest 394 = .ok (.invokevirtual 393, 3) := dk_182 1 137 (dk_at dksX2_digest_17 2 rfl rfl)
theorem dX2_digest_397 : decode cX2_digest 397 = .ok (.i2l, 1) := dk_133 (dk_at dksX2_digest_17 5 rfl rfl)
theorem dX2_digest_398 : decode cX2_digest 398 = .ok (.invokestatic 400, 3) := dk_184 1 144 (dk_at dksX2_digest_17 6 rfl rfl)
theorem dX2_digest_401 : decode cX2_digest 401 = .ok (.lstore_n 1, 1) := dk_64 (dk_at dksX2_digest_17 9 rfl rfl)
theorem dX2_digest_402 : decode cX2_digest 402 = .ok (.iinc 3 1, 3) := dk_132 3 1 (dk_at dksX2_digest_17 10 rfl rfl)
theorem dX2_digest_405 : decode cX2_digest 405 = .ok (.goto (-21), 3) := dk_167 255 235 (dk_at dksX2_digest_17 13 rfl rfl)
theorem dX2_digest_408 : decode cX2_digest 408 = .ok (.lload_n 1, 1) := dk_31 (dk_at dksX2_digest_17 16 rfl rfl)
theorem dX2_digest_409 : decode cX2_digest 409 = .ok (.lreturn, 1) := dk_173 (dk_at dksX2_digest_17 17 rfl rfl)
abbrev cX2_add : ByteArray := prog_13_method_62_code
def yX2_add : MethodName := ⟨RX2, "add", "(JJ)J"⟩
def dkwX2_add_0 : List UInt8 := [30, 20, 1, 140, 105, 32, 97, 173]
abbrev dktX2_add_0 : List UInt8 := dkwX2_add_0 ++ []
theorem dksX2_add_0 : cX2_add.data.toList.drop 0 = dktX2_add_0 := by decide +kernel
theorem dX2_add_0 : decode cX2_add 0 = .ok (.lload_n 0, 1) := dk_30 (dk_at dksX2_add_0 0 rfl rfl)
theorem dX2_add_1 : decode cX2_add 1 = .ok (.ldc2_w 396, 3) := dk_20 1 140 (dk_at dksX2_add_0 1 rfl rfl)
theorem dX2_add_4 : decode cX2_add 4 = .ok (.lmul, 1) := dk_105 (dk_at dksX2_add_0 4 rfl rfl)
theorem dX2_add_5 : decode cX2_add 5 = .ok (.lload_n 2, 1) := dk_32 (dk_at dksX2_add_0 5 rfl rfl)
theorem dX2_add_6 : decode cX2_add 6 = .ok (.ladd, 1) := dk_97 (dk_at dksX2_add_0 6 rfl rfl)
theorem dX2_add_7 : decode cX2_add 7 = .ok (.lreturn, 1) := dk_173 (dk_at dksX2_add_0 7 rfl rfl)
theorem q60 : (Jvm.Cond.initialized "BloomclockModel") ∈ lw_all := lw_g (lw_at lw_m1 5 rfl) rfl
theorem q572 : (Jvm.Cond.selects "BloomclockModel" ({ cls := "java/lang/Object", name := "getClass", desc := "()Ljava/lang/Class;" } : Jvm.MethodName) ({ cls := "java/lang/Object", name := "getClass", desc := "()Ljava/lang/Class;" } : Jvm.MethodName)) ∈ lw_all := lw_g (lw_at lw_m3 37 rfl) rfl
theorem q1214 : (Jvm.Cond.instantiable "BloomclockModel" (18 : Nat)) ∈ lw_all := lw_g (lw_at lw_m5 199 rfl) rfl
theorem q1216 : (Jvm.Cond.instanceMethod ({ cls := "BloomclockModel", name := "<init>", desc := "()V" } : Jvm.MethodName)) ∈ lw_all := lw_g (lw_at lw_m5 201 rfl) rfl
theorem q1217 : (Jvm.Cond.code ({ cls := "BloomclockModel", name := "<init>", desc := "()V" } : Jvm.MethodName) prog_13_method_3_code (1 : Nat) (Option.none : Option Jvm.ClassFile.FieldType)) ∈ lw_all := lw_g (lw_at lw_m5 202 rfl) rfl
theorem q1218 : (Jvm.Cond.methodLink "BloomclockModel" (1 : Nat) ({ cls := "java/lang/Object", name := "<init>", desc := "()V" } : Jvm.MethodName)) ∈ lw_all := lw_g (lw_at lw_m5 203 rfl) rfl
theorem q1219 : (Jvm.Cond.classLink "BloomclockModel" (23 : Nat) "java/util/ArrayList") ∈ lw_all := lw_g (lw_at lw_m5 204 rfl) rfl
theorem q1220 : (Jvm.Cond.methodLink "BloomclockModel" (25 : Nat) ({ cls := "java/util/ArrayList", name := "<init>", desc := "()V" } : Jvm.MethodName)) ∈ lw_all := lw_g (lw_at lw_m5 205 rfl) rfl
theorem q1221 : (Jvm.Cond.fieldLink "BloomclockModel" (51 : Nat) "BloomclockModel" "thrown" "I") ∈ lw_all := lw_g (lw_at lw_m5 206 rfl) rfl
theorem q1222 : (Jvm.Cond.fieldLink "BloomclockModel" (66 : Nat) "BloomclockModel" "hour" "I") ∈ lw_all := lw_g (lw_at lw_m5 207 rfl) rfl
theorem q1223 : (Jvm.Cond.fieldLink "BloomclockModel" (9 : Nat) "BloomclockModel" "light" "I") ∈ lw_all := lw_g (lw_at lw_m5 208 rfl) rfl
theorem q1224 : (Jvm.Cond.fieldLink "BloomclockModel" (13 : Nat) "BloomclockModel" "pool" "I") ∈ lw_all := lw_g (lw_at lw_m5 209 rfl) rfl
theorem q1225 : (Jvm.Cond.fieldLink "BloomclockModel" (311 : Nat) "BloomclockModel" "coins" "I") ∈ lw_all := lw_g (lw_at lw_m5 210 rfl) rfl
theorem q1226 : (Jvm.Cond.fieldLink "BloomclockModel" (206 : Nat) "BloomclockModel" "waste" "I") ∈ lw_all := lw_g (lw_at lw_m5 211 rfl) rfl
theorem q1227 : (Jvm.Cond.fieldLink "BloomclockModel" (319 : Nat) "BloomclockModel" "stemsSold" "I") ∈ lw_all := lw_g (lw_at lw_m5 212 rfl) rfl
theorem q1228 : (Jvm.Cond.fieldLink "BloomclockModel" (322 : Nat) "BloomclockModel" "paid" "I") ∈ lw_all := lw_g (lw_at lw_m5 213 rfl) rfl
theorem q1229 : (Jvm.Cond.fieldLink "BloomclockModel" (16 : Nat) "BloomclockModel" "speed" "I") ∈ lw_all := lw_g (lw_at lw_m5 214 rfl) rfl
theorem q1230 : (Jvm.Cond.fieldLink "BloomclockModel" (19 : Nat) "BloomclockModel" "quotas" "[I") ∈ lw_all := lw_g (lw_at lw_m5 215 rfl) rfl
theorem q1231 : (Jvm.Cond.fieldLink "BloomclockModel" (26 : Nat) "BloomclockModel" "growers" "Ljava/util/ArrayList;") ∈ lw_all := lw_g (lw_at lw_m5 216 rfl) rfl
theorem q1233 : (Jvm.Cond.fieldLink "BloomclockModel" (30 : Nat) "BloomclockModel" "crops" "Ljava/util/ArrayList;") ∈ lw_all := lw_g (lw_at lw_m5 218 rfl) rfl
theorem q1234 : (Jvm.Cond.fieldLink "BloomclockModel" (33 : Nat) "BloomclockModel" "lots" "Ljava/util/ArrayList;") ∈ lw_all := lw_g (lw_at lw_m5 219 rfl) rfl
theorem q1235 : (Jvm.Cond.fieldLink "BloomclockModel" (36 : Nat) "BloomclockModel" "row" "Ljava/util/ArrayList;") ∈ lw_all := lw_g (lw_at lw_m5 220 rfl) rfl
theorem q1237 : (Jvm.Cond.fieldLink "BloomclockModel" (39 : Nat) "BloomclockModel" "buyers" "Ljava/util/ArrayList;") ∈ lw_all := lw_g (lw_at lw_m5 222 rfl) rfl
theorem q1239 : (Jvm.Cond.fieldLink "BloomclockModel" (42 : Nat) "BloomclockModel" "orders" "Ljava/util/ArrayList;") ∈ lw_all := lw_g (lw_at lw_m5 224 rfl) rfl
theorem q1240 : (Jvm.Cond.fieldLink "BloomclockModel" (45 : Nat) "BloomclockModel" "rail" "Ljava/util/ArrayList;") ∈ lw_all := lw_g (lw_at lw_m5 225 rfl) rfl
theorem q1241 : (Jvm.Cond.fieldLink "BloomclockModel" (48 : Nat) "BloomclockModel" "sales" "Ljava/util/ArrayList;") ∈ lw_all := lw_g (lw_at lw_m5 226 rfl) rfl
theorem q1242 : (Jvm.Cond.lays "BloomclockModel" "BloomclockModel" "thrown" "I") ∈ lw_all := lw_g (lw_at lw_m5 227 rfl) rfl
theorem q1243 : (Jvm.Cond.soleField "BloomclockModel" "thrown") ∈ lw_all := lw_g (lw_at lw_m5 228 rfl) rfl
theorem q1244 : (Jvm.Cond.lays "BloomclockModel" "BloomclockModel" "hour" "I") ∈ lw_all := lw_g (lw_at lw_m5 229 rfl) rfl
theorem q1245 : (Jvm.Cond.soleField "BloomclockModel" "hour") ∈ lw_all := lw_g (lw_at lw_m5 230 rfl) rfl
theorem q1246 : (Jvm.Cond.lays "BloomclockModel" "BloomclockModel" "light" "I") ∈ lw_all := lw_g (lw_at lw_m5 231 rfl) rfl
theorem q1247 : (Jvm.Cond.soleField "BloomclockModel" "light") ∈ lw_all := lw_g (lw_at lw_m5 232 rfl) rfl
theorem q1248 : (Jvm.Cond.lays "BloomclockModel" "BloomclockModel" "pool" "I") ∈ lw_all := lw_g (lw_at lw_m5 233 rfl) rfl
theorem q1249 : (Jvm.Cond.soleField "BloomclockModel" "pool") ∈ lw_all := lw_g (lw_at lw_m5 234 rfl) rfl
theorem q1250 : (Jvm.Cond.lays "BloomclockModel" "BloomclockModel" "coins" "I") ∈ lw_all := lw_g (lw_at lw_m5 235 rfl) rfl
theorem q1251 : (Jvm.Cond.soleField "BloomclockModel" "coins") ∈ lw_all := lw_g (lw_at lw_m5 236 rfl) rfl
theorem q1252 : (Jvm.Cond.lays "BloomclockModel" "BloomclockModel" "waste" "I") ∈ lw_all := lw_g (lw_at lw_m5 237 rfl) rfl
theorem q1253 : (Jvm.Cond.soleField "BloomclockModel" "waste") ∈ lw_all := lw_g (lw_at lw_m5 238 rfl) rfl
theorem q1254 : (Jvm.Cond.lays "BloomclockModel" "BloomclockModel" "stemsSold" "I") ∈ lw_all := lw_g (lw_at lw_m5 239 rfl) rfl
theorem q1255 : (Jvm.Cond.soleField "BloomclockModel" "stemsSold") ∈ lw_all := lw_g (lw_at lw_m6 0 rfl) rfl
theorem q1256 : (Jvm.Cond.lays "BloomclockModel" "BloomclockModel" "paid" "I") ∈ lw_all := lw_g (lw_at lw_m6 1 rfl) rfl
theorem q1257 : (Jvm.Cond.soleField "BloomclockModel" "paid") ∈ lw_all := lw_g (lw_at lw_m6 2 rfl) rfl
theorem q1258 : (Jvm.Cond.lays "BloomclockModel" "BloomclockModel" "speed" "I") ∈ lw_all := lw_g (lw_at lw_m6 3 rfl) rfl
theorem q1259 : (Jvm.Cond.soleField "BloomclockModel" "speed") ∈ lw_all := lw_g (lw_at lw_m6 4 rfl) rfl
theorem q1260 : (Jvm.Cond.laysFinal "BloomclockModel" "BloomclockModel" "quotas" "[I") ∈ lw_all := lw_g (lw_at lw_m6 5 rfl) rfl
theorem q1261 : (Jvm.Cond.soleField "BloomclockModel" "quotas") ∈ lw_all := lw_g (lw_at lw_m6 6 rfl) rfl
theorem q1262 : (Jvm.Cond.laysFinal "BloomclockModel" "BloomclockModel" "growers" "Ljava/util/ArrayList;") ∈ lw_all := lw_g (lw_at lw_m6 7 rfl) rfl
theorem q1263 : (Jvm.Cond.soleField "BloomclockModel" "growers") ∈ lw_all := lw_g (lw_at lw_m6 8 rfl) rfl
theorem q1264 : (Jvm.Cond.laysFinal "BloomclockModel" "BloomclockModel" "crops" "Ljava/util/ArrayList;") ∈ lw_all := lw_g (lw_at lw_m6 9 rfl) rfl
theorem q1265 : (Jvm.Cond.soleField "BloomclockModel" "crops") ∈ lw_all := lw_g (lw_at lw_m6 10 rfl) rfl
theorem q1266 : (Jvm.Cond.laysFinal "BloomclockModel" "BloomclockModel" "lots" "Ljava/util/ArrayList;") ∈ lw_all := lw_g (lw_at lw_m6 11 rfl) rfl
theorem q1267 : (Jvm.Cond.soleField "BloomclockModel" "lots") ∈ lw_all := lw_g (lw_at lw_m6 12 rfl) rfl
theorem q1268 : (Jvm.Cond.laysFinal "BloomclockModel" "BloomclockModel" "row" "Ljava/util/ArrayList;") ∈ lw_all := lw_g (lw_at lw_m6 13 rfl) rfl
theorem q1269 : (Jvm.Cond.soleField "BloomclockModel" "row") ∈ lw_all := lw_g (lw_at lw_m6 14 rfl) rfl
theorem q1270 : (Jvm.Cond.laysFinal "BloomclockModel" "BloomclockModel" "buyers" "Ljava/util/ArrayList;") ∈ lw_all := lw_g (lw_at lw_m6 15 rfl) rfl
theorem q1271 : (Jvm.Cond.soleField "BloomclockModel" "buyers") ∈ lw_all := lw_g (lw_at lw_m6 16 rfl) rfl
theorem q1272 : (Jvm.Cond.laysFinal "BloomclockModel" "BloomclockModel" "orders" "Ljava/util/ArrayList;") ∈ lw_all := lw_g (lw_at lw_m6 17 rfl) rfl
theorem q1273 : (Jvm.Cond.soleField "BloomclockModel" "orders") ∈ lw_all := lw_g (lw_at lw_m6 18 rfl) rfl
theorem q1274 : (Jvm.Cond.laysFinal "BloomclockModel" "BloomclockModel" "rail" "Ljava/util/ArrayList;") ∈ lw_all := lw_g (lw_at lw_m6 19 rfl) rfl
theorem q1275 : (Jvm.Cond.soleField "BloomclockModel" "rail") ∈ lw_all := lw_g (lw_at lw_m6 20 rfl) rfl
theorem q1276 : (Jvm.Cond.laysFinal "BloomclockModel" "BloomclockModel" "sales" "Ljava/util/ArrayList;") ∈ lw_all := lw_g (lw_at lw_m6 21 rfl) rfl
theorem q1277 : (Jvm.Cond.soleField "BloomclockModel" "sales") ∈ lw_all := lw_g (lw_at lw_m6 22 rfl) rfl
theorem q1278 : (Jvm.Cond.superclass "BloomclockModel" "java/lang/Object") ∈ lw_all := lw_g (lw_at lw_m6 23 rfl) rfl
theorem q1280 : (Jvm.Cond.instanceMethod ({ cls := "BloomclockModel", name := "thrown", desc := "()I" } : Jvm.MethodName)) ∈ lw_all := lw_g (lw_at lw_m6 25 rfl) rfl
theorem q1281 : (Jvm.Cond.selects "BloomclockModel" ({ cls := "BloomclockModel", name := "thrown", desc := "()I" } : Jvm.MethodName) ({ cls := "BloomclockModel", name := "thrown", desc := "()I" } : Jvm.MethodName)) ∈ lw_all := lw_g (lw_at lw_m6 26 rfl) rfl
theorem q1282 : (Jvm.Cond.code ({ cls := "BloomclockModel", name := "thrown", desc := "()I" } : Jvm.MethodName) prog_13_method_4_code (1 : Nat) (Option.some Jvm.ClassFile.FieldType.int)) ∈ lw_all := lw_g (lw_at lw_m6 27 rfl) rfl
theorem q1284 : (Jvm.Cond.instanceMethod ({ cls := "BloomclockModel", name := "grower", desc := "()I" } : Jvm.MethodName)) ∈ lw_all := lw_g (lw_at lw_m6 29 rfl) rfl
theorem q1285 : (Jvm.Cond.selects "BloomclockModel" ({ cls := "BloomclockModel", name := "grower", desc := "()I" } : Jvm.MethodName) ({ cls := "BloomclockModel", name := "grower", desc := "()I" } : Jvm.MethodName)) ∈ lw_all := lw_g (lw_at lw_m6 30 rfl) rfl
theorem q1286 : (Jvm.Cond.code ({ cls := "BloomclockModel", name := "grower", desc := "()I" } : Jvm.MethodName) prog_13_method_13_code (1 : Nat) (Option.some Jvm.ClassFile.FieldType.int)) ∈ lw_all := lw_g (lw_at lw_m6 31 rfl) rfl
theorem q1287 : (Jvm.Cond.methodLink "BloomclockModel" (58 : Nat) ({ cls := "java/util/ArrayList", name := "size", desc := "()I" } : Jvm.MethodName)) ∈ lw_all := lw_g (lw_at lw_m6 32 rfl) rfl
theorem q1288 : (Jvm.Cond.methodLink "BloomclockModel" (69 : Nat) ({ cls := "BloomclockModel", name := "start", desc := "(ZI)Z" } : Jvm.MethodName)) ∈ lw_all := lw_g (lw_at lw_m6 33 rfl) rfl
theorem q1289 : (Jvm.Cond.privateMethod ({ cls := "BloomclockModel", name := "start", desc := "(ZI)Z" } : Jvm.MethodName)) ∈ lw_tbl := lw_at lw_m6 34 rfl
theorem q1290 : (Jvm.Cond.instanceMethod ({ cls := "BloomclockModel", name := "start", desc := "(ZI)Z" } : Jvm.MethodName)) ∈ lw_all := lw_g (lw_at lw_m6 35 rfl) rfl
theorem q1291 : (Jvm.Cond.code ({ cls := "BloomclockModel", name := "start", desc := "(ZI)Z" } : Jvm.MethodName) prog_13_method_6_code (3 : Nat) (Option.some Jvm.ClassFile.FieldType.boolean)) ∈ lw_all := lw_g (lw_at lw_m6 36 rfl) rfl
theorem q1292 : (Jvm.Cond.methodLink "BloomclockModel" (54 : Nat) ({ cls := "BloomclockModel", name := "refuse", desc := "(ZI)Z" } : Jvm.MethodName)) ∈ lw_all := lw_g (lw_at lw_m6 37 rfl) rfl
theorem q1293 : (Jvm.Cond.privateMethod ({ cls := "BloomclockModel", name := "refuse", desc := "(ZI)Z" } : Jvm.MethodName)) ∈ lw_tbl := lw_at lw_m6 38 rfl
theorem q1294 : (Jvm.Cond.instanceMethod ({ cls := "BloomclockModel", name := "refuse", desc := "(ZI)Z" } : Jvm.MethodName)) ∈ lw_all := lw_g (lw_at lw_m6 39 rfl) rfl
theorem q1295 : (Jvm.Cond.code ({ cls := "BloomclockModel", name := "refuse", desc := "(ZI)Z" } : Jvm.MethodName) prog_13_method_5_code (3 : Nat) (Option.some Jvm.ClassFile.FieldType.boolean)) ∈ lw_all := lw_g (lw_at lw_m6 40 rfl) rfl
theorem q1296 : (Jvm.Cond.classLink "BloomclockModel" (72 : Nat) "BloomclockModel$Grower") ∈ lw_all := lw_g (lw_at lw_m6 41 rfl) rfl
theorem q1298 : (Jvm.Cond.methodLinkNest "BloomclockModel" (74 : Nat) ({ cls := "BloomclockModel$Grower", name := "<init>", desc := "()V" } : Jvm.MethodName) "BloomclockModel") ∈ lw_tbl := lw_at lw_m6 43 rfl
theorem q1303 : (Jvm.Cond.fieldLink "BloomclockModel" (159 : Nat) "BloomclockModel$Grower" "coins" "I") ∈ lw_all := lw_g (lw_at lw_m6 48 rfl) rfl
theorem q1305 : (Jvm.Cond.fieldLink "BloomclockModel" (87 : Nat) "BloomclockModel$Grower" "lamps" "I") ∈ lw_all := lw_g (lw_at lw_m6 50 rfl) rfl
theorem q1308 : (Jvm.Cond.fieldLink "BloomclockModel" (237 : Nat) "BloomclockModel$Grower" "mark" "I") ∈ lw_all := lw_g (lw_at lw_m6 53 rfl) rfl
theorem q1309 : (Jvm.Cond.fieldLink "BloomclockModel" (315 : Nat) "BloomclockModel$Grower" "sold" "I") ∈ lw_all := lw_g (lw_at lw_m6 54 rfl) rfl
theorem q1325 : (Jvm.Cond.methodLink "BloomclockModel" (75 : Nat) ({ cls := "java/util/ArrayList", name := "add", desc := "(Ljava/lang/Object;)Z" } : Jvm.MethodName)) ∈ lw_all := lw_g (lw_at lw_m6 70 rfl) rfl
theorem q1327 : (Jvm.Cond.instanceMethod ({ cls := "BloomclockModel", name := "lamps", desc := "(II)I" } : Jvm.MethodName)) ∈ lw_all := lw_g (lw_at lw_m6 72 rfl) rfl
theorem q1328 : (Jvm.Cond.selects "BloomclockModel" ({ cls := "BloomclockModel", name := "lamps", desc := "(II)I" } : Jvm.MethodName) ({ cls := "BloomclockModel", name := "lamps", desc := "(II)I" } : Jvm.MethodName)) ∈ lw_all := lw_g (lw_at lw_m6 73 rfl) rfl
theorem q1329 : (Jvm.Cond.code ({ cls := "BloomclockModel", name := "lamps", desc := "(II)I" } : Jvm.MethodName) prog_13_method_14_code (4 : Nat) (Option.some Jvm.ClassFile.FieldType.int)) ∈ lw_all := lw_g (lw_at lw_m6 74 rfl) rfl
theorem q1330 : (Jvm.Cond.methodLink "BloomclockModel" (79 : Nat) ({ cls := "BloomclockModel", name := "isNoGrower", desc := "(I)Z" } : Jvm.MethodName)) ∈ lw_all := lw_g (lw_at lw_m6 75 rfl) rfl
theorem q1331 : (Jvm.Cond.privateMethod ({ cls := "BloomclockModel", name := "isNoGrower", desc := "(I)Z" } : Jvm.MethodName)) ∈ lw_tbl := lw_at lw_m6 76 rfl
theorem q1332 : (Jvm.Cond.instanceMethod ({ cls := "BloomclockModel", name := "isNoGrower", desc := "(I)Z" } : Jvm.MethodName)) ∈ lw_all := lw_g (lw_at lw_m6 77 rfl) rfl
theorem q1333 : (Jvm.Cond.code ({ cls := "BloomclockModel", name := "isNoGrower", desc := "(I)Z" } : Jvm.MethodName) prog_13_method_7_code (2 : Nat) (Option.some Jvm.ClassFile.FieldType.boolean)) ∈ lw_all := lw_g (lw_at lw_m6 78 rfl) rfl
theorem q1334 : (Jvm.Cond.methodLink "BloomclockModel" (62 : Nat) ({ cls := "BloomclockModel", name := "isIn", desc := "(III)Z" } : Jvm.MethodName)) ∈ lw_all := lw_g (lw_at lw_m6 79 rfl) rfl
theorem q1335 : (Jvm.Cond.static ({ cls := "BloomclockModel", name := "isIn", desc := "(III)Z" } : Jvm.MethodName)) ∈ lw_all := lw_g (lw_at lw_m6 80 rfl) rfl
theorem q1336 : (Jvm.Cond.code ({ cls := "BloomclockModel", name := "isIn", desc := "(III)Z" } : Jvm.MethodName) prog_13_method_1_code (3 : Nat) (Option.some Jvm.ClassFile.FieldType.boolean)) ∈ lw_all := lw_g (lw_at lw_m6 81 rfl) rfl
theorem q1337 : (Jvm.Cond.methodLink "BloomclockModel" (83 : Nat) ({ cls := "java/util/ArrayList", name := "get", desc := "(I)Ljava/lang/Object;" } : Jvm.MethodName)) ∈ lw_all := lw_g (lw_at lw_m6 82 rfl) rfl
theorem q1339 : (Jvm.Cond.instanceMethod ({ cls := "BloomclockModel", name := "plant", desc := "(III)I" } : Jvm.MethodName)) ∈ lw_all := lw_g (lw_at lw_m6 84 rfl) rfl
theorem q1340 : (Jvm.Cond.selects "BloomclockModel" ({ cls := "BloomclockModel", name := "plant", desc := "(III)I" } : Jvm.MethodName) ({ cls := "BloomclockModel", name := "plant", desc := "(III)I" } : Jvm.MethodName)) ∈ lw_all := lw_g (lw_at lw_m6 85 rfl) rfl
theorem q1341 : (Jvm.Cond.code ({ cls := "BloomclockModel", name := "plant", desc := "(III)I" } : Jvm.MethodName) prog_13_method_15_code (4 : Nat) (Option.some Jvm.ClassFile.FieldType.int)) ∈ lw_all := lw_g (lw_at lw_m6 86 rfl) rfl
theorem q1342 : (Jvm.Cond.methodLink "BloomclockModel" (90 : Nat) ({ cls := "BloomclockModel", name := "isNoCultivar", desc := "(I)Z" } : Jvm.MethodName)) ∈ lw_all := lw_g (lw_at lw_m6 87 rfl) rfl
theorem q1343 : (Jvm.Cond.static ({ cls := "BloomclockModel", name := "isNoCultivar", desc := "(I)Z" } : Jvm.MethodName)) ∈ lw_all := lw_g (lw_at lw_m6 88 rfl) rfl
theorem q1344 : (Jvm.Cond.code ({ cls := "BloomclockModel", name := "isNoCultivar", desc := "(I)Z" } : Jvm.MethodName) prog_13_method_11_code (1 : Nat) (Option.some Jvm.ClassFile.FieldType.boolean)) ∈ lw_all := lw_g (lw_at lw_m6 89 rfl) rfl
theorem q1345 : (Jvm.Cond.classLink "BloomclockModel" (93 : Nat) "BloomclockModel$Crop") ∈ lw_all := lw_g (lw_at lw_m6 90 rfl) rfl
theorem q1347 : (Jvm.Cond.methodLink "BloomclockModel" (95 : Nat) ({ cls := "BloomclockModel$Crop", name := "<init>", desc := "(LBloomclockModel$Grower;III)V" } : Jvm.MethodName)) ∈ lw_all := lw_g (lw_at lw_m6 92 rfl) rfl
theorem q1353 : (Jvm.Cond.fieldLink "BloomclockModel" (114 : Nat) "BloomclockModel$Crop" "number" "I") ∈ lw_all := lw_g (lw_at lw_m6 98 rfl) rfl
theorem q1355 : (Jvm.Cond.fieldLink "BloomclockModel" (117 : Nat) "BloomclockModel$Crop" "cultivar" "I") ∈ lw_all := lw_g (lw_at lw_m6 100 rfl) rfl
theorem q1357 : (Jvm.Cond.fieldLink "BloomclockModel" (105 : Nat) "BloomclockModel$Crop" "plants" "I") ∈ lw_all := lw_g (lw_at lw_m6 102 rfl) rfl
theorem q1359 : (Jvm.Cond.fieldLink "BloomclockModel" (341 : Nat) "BloomclockModel$Crop" "sum" "I") ∈ lw_all := lw_g (lw_at lw_m6 104 rfl) rfl
theorem q1361 : (Jvm.Cond.fieldLink "BloomclockModel" (120 : Nat) "BloomclockModel$Crop" "age" "I") ∈ lw_all := lw_g (lw_at lw_m6 106 rfl) rfl
theorem q1363 : (Jvm.Cond.fieldLink "BloomclockModel" (101 : Nat) "BloomclockModel$Crop" "isReady" "Z") ∈ lw_all := lw_g (lw_at lw_m6 108 rfl) rfl
theorem q1380 : (Jvm.Cond.instanceMethod ({ cls := "BloomclockModel", name := "cut", desc := "(II)I" } : Jvm.MethodName)) ∈ lw_all := lw_g (lw_at lw_m6 125 rfl) rfl
theorem q1381 : (Jvm.Cond.selects "BloomclockModel" ({ cls := "BloomclockModel", name := "cut", desc := "(II)I" } : Jvm.MethodName) ({ cls := "BloomclockModel", name := "cut", desc := "(II)I" } : Jvm.MethodName)) ∈ lw_all := lw_g (lw_at lw_m6 126 rfl) rfl
theorem q1382 : (Jvm.Cond.code ({ cls := "BloomclockModel", name := "cut", desc := "(II)I" } : Jvm.MethodName) prog_13_method_16_code (5 : Nat) (Option.some Jvm.ClassFile.FieldType.int)) ∈ lw_all := lw_g (lw_at lw_m6 127 rfl) rfl
theorem q1383 : (Jvm.Cond.methodLink "BloomclockModel" (98 : Nat) ({ cls := "BloomclockModel", name := "isNoCrop", desc := "(I)Z" } : Jvm.MethodName)) ∈ lw_all := lw_g (lw_at lw_m6 128 rfl) rfl
theorem q1384 : (Jvm.Cond.privateMethod ({ cls := "BloomclockModel", name := "isNoCrop", desc := "(I)Z" } : Jvm.MethodName)) ∈ lw_tbl := lw_at lw_m6 129 rfl
theorem q1385 : (Jvm.Cond.instanceMethod ({ cls := "BloomclockModel", name := "isNoCrop", desc := "(I)Z" } : Jvm.MethodName)) ∈ lw_all := lw_g (lw_at lw_m6 130 rfl) rfl
theorem q1386 : (Jvm.Cond.code ({ cls := "BloomclockModel", name := "isNoCrop", desc := "(I)Z" } : Jvm.MethodName) prog_13_method_8_code (2 : Nat) (Option.some Jvm.ClassFile.FieldType.boolean)) ∈ lw_all := lw_g (lw_at lw_m6 131 rfl) rfl
theorem q1387 : (Jvm.Cond.methodLink "BloomclockModel" (108 : Nat) ({ cls := "BloomclockModel", name := "up", desc := "(II)I" } : Jvm.MethodName)) ∈ lw_all := lw_g (lw_at lw_m6 132 rfl) rfl
theorem q1388 : (Jvm.Cond.static ({ cls := "BloomclockModel", name := "up", desc := "(II)I" } : Jvm.MethodName)) ∈ lw_all := lw_g (lw_at lw_m6 133 rfl) rfl
theorem q1389 : (Jvm.Cond.code ({ cls := "BloomclockModel", name := "up", desc := "(II)I" } : Jvm.MethodName) prog_13_method_2_code (2 : Nat) (Option.some Jvm.ClassFile.FieldType.int)) ∈ lw_all := lw_g (lw_at lw_m6 134 rfl) rfl
theorem q1390 : (Jvm.Cond.classLink "BloomclockModel" (112 : Nat) "BloomclockModel$Lot") ∈ lw_all := lw_g (lw_at lw_m6 135 rfl) rfl
theorem q1392 : (Jvm.Cond.methodLink "BloomclockModel" (123 : Nat) ({ cls := "BloomclockModel$Lot", name := "<init>", desc := "(IIII)V" } : Jvm.MethodName)) ∈ lw_all := lw_g (lw_at lw_m6 137 rfl) rfl
theorem q1397 : (Jvm.Cond.laysStatic "BloomclockModel" "LIVES" "[I") ∈ lw_tbl := lw_at lw_m6 142 rfl
theorem q1402 : (Jvm.Cond.fieldLink "BloomclockModel" (214 : Nat) "BloomclockModel$Lot" "grower" "I") ∈ lw_all := lw_g (lw_at lw_m6 147 rfl) rfl
theorem q1405 : (Jvm.Cond.fieldLink "BloomclockModel" (220 : Nat) "BloomclockModel$Lot" "cultivar" "I") ∈ lw_all := lw_g (lw_at lw_m6 150 rfl) rfl
theorem q1408 : (Jvm.Cond.fieldLink "BloomclockModel" (347 : Nat) "BloomclockModel$Lot" "grade" "I") ∈ lw_all := lw_g (lw_at lw_m6 153 rfl) rfl
theorem q1411 : (Jvm.Cond.fieldLink "BloomclockModel" (162 : Nat) "BloomclockModel$Lot" "stems" "I") ∈ lw_all := lw_g (lw_at lw_m6 156 rfl) rfl
theorem q1413 : (Jvm.Cond.fieldLink "BloomclockModel" (165 : Nat) "BloomclockModel$Lot" "life" "I") ∈ lw_all := lw_g (lw_at lw_m6 158 rfl) rfl
theorem q1416 : (Jvm.Cond.fieldLink "BloomclockModel" (126 : Nat) "BloomclockModel$Lot" "buckets" "I") ∈ lw_all := lw_g (lw_at lw_m6 161 rfl) rfl
theorem q1418 : (Jvm.Cond.fieldLink "BloomclockModel" (135 : Nat) "BloomclockModel$Lot" "place" "I") ∈ lw_all := lw_g (lw_at lw_m6 163 rfl) rfl
theorem q1420 : (Jvm.Cond.fieldLink "BloomclockModel" (132 : Nat) "BloomclockModel$Lot" "state" "I") ∈ lw_all := lw_g (lw_at lw_m6 165 rfl) rfl
theorem q1422 : (Jvm.Cond.fieldLink "BloomclockModel" (227 : Nat) "BloomclockModel$Lot" "told" "I") ∈ lw_all := lw_g (lw_at lw_m6 167 rfl) rfl
theorem q1424 : (Jvm.Cond.fieldLink "BloomclockModel" (230 : Nat) "BloomclockModel$Lot" "minimum" "I") ∈ lw_all := lw_g (lw_at lw_m6 169 rfl) rfl
theorem q1447 : (Jvm.Cond.instanceMethod ({ cls := "BloomclockModel", name := "move", desc := "(II)I" } : Jvm.MethodName)) ∈ lw_all := lw_g (lw_at lw_m6 192 rfl) rfl
theorem q1448 : (Jvm.Cond.selects "BloomclockModel" ({ cls := "BloomclockModel", name := "move", desc := "(II)I" } : Jvm.MethodName) ({ cls := "BloomclockModel", name := "move", desc := "(II)I" } : Jvm.MethodName)) ∈ lw_all := lw_g (lw_at lw_m6 193 rfl) rfl
theorem q1449 : (Jvm.Cond.code ({ cls := "BloomclockModel", name := "move", desc := "(II)I" } : Jvm.MethodName) prog_13_method_17_code (4 : Nat) (Option.some Jvm.ClassFile.FieldType.int)) ∈ lw_all := lw_g (lw_at lw_m6 194 rfl) rfl
theorem q1450 : (Jvm.Cond.methodLink "BloomclockModel" (129 : Nat) ({ cls := "BloomclockModel", name := "isNoLot", desc := "(I)Z" } : Jvm.MethodName)) ∈ lw_all := lw_g (lw_at lw_m6 195 rfl) rfl
theorem q1451 : (Jvm.Cond.privateMethod ({ cls := "BloomclockModel", name := "isNoLot", desc := "(I)Z" } : Jvm.MethodName)) ∈ lw_tbl := lw_at lw_m6 196 rfl
theorem q1452 : (Jvm.Cond.instanceMethod ({ cls := "BloomclockModel", name := "isNoLot", desc := "(I)Z" } : Jvm.MethodName)) ∈ lw_all := lw_g (lw_at lw_m6 197 rfl) rfl
theorem q1453 : (Jvm.Cond.code ({ cls := "BloomclockModel", name := "isNoLot", desc := "(I)Z" } : Jvm.MethodName) prog_13_method_9_code (2 : Nat) (Option.some Jvm.ClassFile.FieldType.boolean)) ∈ lw_all := lw_g (lw_at lw_m6 198 rfl) rfl
theorem q1455 : (Jvm.Cond.instanceMethod ({ cls := "BloomclockModel", name := "pass", desc := "(II)I" } : Jvm.MethodName)) ∈ lw_all := lw_g (lw_at lw_m6 200 rfl) rfl
theorem q1456 : (Jvm.Cond.selects "BloomclockModel" ({ cls := "BloomclockModel", name := "pass", desc := "(II)I" } : Jvm.MethodName) ({ cls := "BloomclockModel", name := "pass", desc := "(II)I" } : Jvm.MethodName)) ∈ lw_all := lw_g (lw_at lw_m6 201 rfl) rfl
theorem q1457 : (Jvm.Cond.code ({ cls := "BloomclockModel", name := "pass", desc := "(II)I" } : Jvm.MethodName) prog_13_method_18_code (5 : Nat) (Option.some Jvm.ClassFile.FieldType.int)) ∈ lw_all := lw_g (lw_at lw_m6 202 rfl) rfl
theorem q1458 : (Jvm.Cond.methodLink "BloomclockModel" (138 : Nat) ({ cls := "BloomclockModel", name := "pass", desc := "()I" } : Jvm.MethodName)) ∈ lw_all := lw_g (lw_at lw_m6 203 rfl) rfl
theorem q1459 : (Jvm.Cond.privateMethod ({ cls := "BloomclockModel", name := "pass", desc := "()I" } : Jvm.MethodName)) ∈ lw_tbl := lw_at lw_m6 204 rfl
theorem q1460 : (Jvm.Cond.instanceMethod ({ cls := "BloomclockModel", name := "pass", desc := "()I" } : Jvm.MethodName)) ∈ lw_all := lw_g (lw_at lw_m6 205 rfl) rfl
theorem q1461 : (Jvm.Cond.code ({ cls := "BloomclockModel", name := "pass", desc := "()I" } : Jvm.MethodName) prog_13_method_19_code (3 : Nat) (Option.some Jvm.ClassFile.FieldType.int)) ∈ lw_all := lw_g (lw_at lw_m6 206 rfl) rfl
theorem q1462 : (Jvm.Cond.methodLink "BloomclockModel" (141 : Nat) ({ cls := "java/util/ArrayList", name := "iterator", desc := "()Ljava/util/Iterator;" } : Jvm.MethodName)) ∈ lw_all := lw_g (lw_at lw_m6 207 rfl) rfl
theorem q1485 : (Jvm.Cond.interfaceEntry "BloomclockModel" (145 : Nat)) ∈ lw_tbl := lw_at lw_m6 230 rfl
theorem q1486 : (Jvm.Cond.methodLink "BloomclockModel" (145 : Nat) ({ cls := "java/util/Iterator", name := "hasNext", desc := "()Z" } : Jvm.MethodName)) ∈ lw_all := lw_g (lw_at lw_m6 231 rfl) rfl
theorem q1495 : (Jvm.Cond.interfaceEntry "BloomclockModel" (151 : Nat)) ∈ lw_tbl := lw_at lw_m7 0 rfl
theorem q1496 : (Jvm.Cond.methodLink "BloomclockModel" (151 : Nat) ({ cls := "java/util/Iterator", name := "next", desc := "()Ljava/lang/Object;" } : Jvm.MethodName)) ∈ lw_all := lw_g (lw_at lw_m7 1 rfl) rfl
theorem q1508 : (Jvm.Cond.methodLink "BloomclockModel" (155 : Nat) ({ cls := "BloomclockModel$Crop", name := "grow", desc := "(I)V" } : Jvm.MethodName)) ∈ lw_all := lw_g (lw_at lw_m7 13 rfl) rfl
theorem q1513 : (Jvm.Cond.laysStatic "BloomclockModel" "ASKS" "[I") ∈ lw_tbl := lw_at lw_m7 18 rfl
theorem q1514 : (Jvm.Cond.fieldLink "BloomclockModel" (168 : Nat) "BloomclockModel" "LESS" "[I") ∈ lw_all := lw_g (lw_at lw_m7 19 rfl) rfl
theorem q1515 : (Jvm.Cond.laysStatic "BloomclockModel" "LESS" "[I") ∈ lw_tbl := lw_at lw_m7 20 rfl
theorem q1516 : (Jvm.Cond.methodLink "BloomclockModel" (171 : Nat) ({ cls := "java/lang/Math", name := "max", desc := "(II)I" } : Jvm.MethodName)) ∈ lw_all := lw_g (lw_at lw_m7 21 rfl) rfl
theorem q1517 : (Jvm.Cond.classLink "BloomclockModel" (176 : Nat) "BloomclockModel$Trolley") ∈ lw_all := lw_g (lw_at lw_m7 22 rfl) rfl
theorem q1518 : (Jvm.Cond.methodLink "BloomclockModel" (179 : Nat) ({ cls := "java/util/ArrayList", name := "isEmpty", desc := "()Z" } : Jvm.MethodName)) ∈ lw_all := lw_g (lw_at lw_m7 23 rfl) rfl
theorem q1519 : (Jvm.Cond.methodLink "BloomclockModel" (182 : Nat) ({ cls := "BloomclockModel", name := "next", desc := "()I" } : Jvm.MethodName)) ∈ lw_all := lw_g (lw_at lw_m7 24 rfl) rfl
theorem q1520 : (Jvm.Cond.privateMethod ({ cls := "BloomclockModel", name := "next", desc := "()I" } : Jvm.MethodName)) ∈ lw_tbl := lw_at lw_m7 25 rfl
theorem q1521 : (Jvm.Cond.instanceMethod ({ cls := "BloomclockModel", name := "next", desc := "()I" } : Jvm.MethodName)) ∈ lw_all := lw_g (lw_at lw_m7 26 rfl) rfl
theorem q1522 : (Jvm.Cond.code ({ cls := "BloomclockModel", name := "next", desc := "()I" } : Jvm.MethodName) prog_13_method_21_code (3 : Nat) (Option.some Jvm.ClassFile.FieldType.int)) ∈ lw_all := lw_g (lw_at lw_m7 27 rfl) rfl
theorem q1523 : (Jvm.Cond.classLink "BloomclockModel" (197 : Nat) "BloomclockModel$Buyer") ∈ lw_all := lw_g (lw_at lw_m7 28 rfl) rfl
theorem q1524 : (Jvm.Cond.methodLink "BloomclockModel" (202 : Nat) ({ cls := "BloomclockModel", name := "when", desc := "(I)I" } : Jvm.MethodName)) ∈ lw_all := lw_g (lw_at lw_m7 29 rfl) rfl
theorem q1525 : (Jvm.Cond.static ({ cls := "BloomclockModel", name := "when", desc := "(I)I" } : Jvm.MethodName)) ∈ lw_all := lw_g (lw_at lw_m7 30 rfl) rfl
theorem q1526 : (Jvm.Cond.code ({ cls := "BloomclockModel", name := "when", desc := "(I)I" } : Jvm.MethodName) prog_13_method_20_code (1 : Nat) (Option.some Jvm.ClassFile.FieldType.int)) ∈ lw_all := lw_g (lw_at lw_m7 31 rfl) rfl
theorem q1527 : (Jvm.Cond.constant "BloomclockModel" (193 : Nat) (2147483647 : Int32)) ∈ lw_all := lw_g (lw_at lw_m7 32 rfl) rfl
theorem q1528 : (Jvm.Cond.methodLink "BloomclockModel" (184 : Nat) ({ cls := "java/util/ArrayList", name := "remove", desc := "(I)Ljava/lang/Object;" } : Jvm.MethodName)) ∈ lw_all := lw_g (lw_at lw_m7 33 rfl) rfl
theorem q1529 : (Jvm.Cond.methodLink "BloomclockModel" (187 : Nat) ({ cls := "BloomclockModel", name := "bring", desc := "(LBloomclockModel$Trolley;)V" } : Jvm.MethodName)) ∈ lw_all := lw_g (lw_at lw_m7 34 rfl) rfl
theorem q1530 : (Jvm.Cond.privateMethod ({ cls := "BloomclockModel", name := "bring", desc := "(LBloomclockModel$Trolley;)V" } : Jvm.MethodName)) ∈ lw_tbl := lw_at lw_m7 35 rfl
theorem q1531 : (Jvm.Cond.instanceMethod ({ cls := "BloomclockModel", name := "bring", desc := "(LBloomclockModel$Trolley;)V" } : Jvm.MethodName)) ∈ lw_all := lw_g (lw_at lw_m7 36 rfl) rfl
theorem q1532 : (Jvm.Cond.code ({ cls := "BloomclockModel", name := "bring", desc := "(LBloomclockModel$Trolley;)V" } : Jvm.MethodName) prog_13_method_22_code (3 : Nat) (Option.none : Option Jvm.ClassFile.FieldType)) ∈ lw_all := lw_g (lw_at lw_m7 37 rfl) rfl
theorem q1534 : (Jvm.Cond.instanceMethod ({ cls := "BloomclockModel", name := "bring", desc := "(III)I" } : Jvm.MethodName)) ∈ lw_all := lw_g (lw_at lw_m7 39 rfl) rfl
theorem q1535 : (Jvm.Cond.selects "BloomclockModel" ({ cls := "BloomclockModel", name := "bring", desc := "(III)I" } : Jvm.MethodName) ({ cls := "BloomclockModel", name := "bring", desc := "(III)I" } : Jvm.MethodName)) ∈ lw_all := lw_g (lw_at lw_m7 40 rfl) rfl
theorem q1536 : (Jvm.Cond.code ({ cls := "BloomclockModel", name := "bring", desc := "(III)I" } : Jvm.MethodName) prog_13_method_23_code (6 : Nat) (Option.some Jvm.ClassFile.FieldType.int)) ∈ lw_all := lw_g (lw_at lw_m7 41 rfl) rfl
theorem q1537 : (Jvm.Cond.methodLink "BloomclockModel" (217 : Nat) ({ cls := "BloomclockModel", name := "day", desc := "()I" } : Jvm.MethodName)) ∈ lw_all := lw_g (lw_at lw_m7 42 rfl) rfl
theorem q1538 : (Jvm.Cond.privateMethod ({ cls := "BloomclockModel", name := "day", desc := "()I" } : Jvm.MethodName)) ∈ lw_tbl := lw_at lw_m7 43 rfl
theorem q1539 : (Jvm.Cond.instanceMethod ({ cls := "BloomclockModel", name := "day", desc := "()I" } : Jvm.MethodName)) ∈ lw_all := lw_g (lw_at lw_m7 44 rfl) rfl
theorem q1540 : (Jvm.Cond.code ({ cls := "BloomclockModel", name := "day", desc := "()I" } : Jvm.MethodName) prog_13_method_12_code (1 : Nat) (Option.some Jvm.ClassFile.FieldType.int)) ∈ lw_all := lw_g (lw_at lw_m7 45 rfl) rfl
theorem q1541 : (Jvm.Cond.methodLink "BloomclockModel" (221 : Nat) ({ cls := "BloomclockModel$Grower", name := "broughtOn", desc := "(II)I" } : Jvm.MethodName)) ∈ lw_all := lw_g (lw_at lw_m7 46 rfl) rfl
theorem q1545 : (Jvm.Cond.methodLink "BloomclockModel" (224 : Nat) ({ cls := "BloomclockModel$Grower", name := "bring", desc := "(III)V" } : Jvm.MethodName)) ∈ lw_all := lw_g (lw_at lw_m7 50 rfl) rfl
theorem q1549 : (Jvm.Cond.methodLink "BloomclockModel" (233 : Nat) ({ cls := "java/lang/Integer", name := "valueOf", desc := "(I)Ljava/lang/Integer;" } : Jvm.MethodName)) ∈ lw_all := lw_g (lw_at lw_m7 54 rfl) rfl
theorem q1570 : (Jvm.Cond.instanceMethod ({ cls := "BloomclockModel", name := "inspect", desc := "(I)I" } : Jvm.MethodName)) ∈ lw_all := lw_g (lw_at lw_m7 75 rfl) rfl
theorem q1571 : (Jvm.Cond.selects "BloomclockModel" ({ cls := "BloomclockModel", name := "inspect", desc := "(I)I" } : Jvm.MethodName) ({ cls := "BloomclockModel", name := "inspect", desc := "(I)I" } : Jvm.MethodName)) ∈ lw_all := lw_g (lw_at lw_m7 76 rfl) rfl
theorem q1572 : (Jvm.Cond.code ({ cls := "BloomclockModel", name := "inspect", desc := "(I)I" } : Jvm.MethodName) prog_13_method_24_code (4 : Nat) (Option.some Jvm.ClassFile.FieldType.int)) ∈ lw_all := lw_g (lw_at lw_m7 77 rfl) rfl
theorem q1573 : (Jvm.Cond.methodLink "BloomclockModel" (240 : Nat) ({ cls := "java/lang/Math", name := "min", desc := "(II)I" } : Jvm.MethodName)) ∈ lw_all := lw_g (lw_at lw_m7 78 rfl) rfl
theorem q1575 : (Jvm.Cond.instanceMethod ({ cls := "BloomclockModel", name := "buyer", desc := "(I)I" } : Jvm.MethodName)) ∈ lw_all := lw_g (lw_at lw_m7 80 rfl) rfl
theorem q1576 : (Jvm.Cond.selects "BloomclockModel" ({ cls := "BloomclockModel", name := "buyer", desc := "(I)I" } : Jvm.MethodName) ({ cls := "BloomclockModel", name := "buyer", desc := "(I)I" } : Jvm.MethodName)) ∈ lw_all := lw_g (lw_at lw_m7 81 rfl) rfl
theorem q1577 : (Jvm.Cond.code ({ cls := "BloomclockModel", name := "buyer", desc := "(I)I" } : Jvm.MethodName) prog_13_method_25_code (2 : Nat) (Option.some Jvm.ClassFile.FieldType.int)) ∈ lw_all := lw_g (lw_at lw_m7 82 rfl) rfl
theorem q1579 : (Jvm.Cond.methodLink "BloomclockModel" (243 : Nat) ({ cls := "BloomclockModel$Buyer", name := "<init>", desc := "(I)V" } : Jvm.MethodName)) ∈ lw_all := lw_g (lw_at lw_m7 84 rfl) rfl
theorem q1584 : (Jvm.Cond.fieldLink "BloomclockModel" (359 : Nat) "BloomclockModel$Buyer" "latency" "I") ∈ lw_all := lw_g (lw_at lw_m7 89 rfl) rfl
theorem q1587 : (Jvm.Cond.fieldLink "BloomclockModel" (305 : Nat) "BloomclockModel$Buyer" "coins" "I") ∈ lw_all := lw_g (lw_at lw_m7 92 rfl) rfl
theorem q1589 : (Jvm.Cond.fieldLink "BloomclockModel" (248 : Nat) "BloomclockModel$Buyer" "evened" "I") ∈ lw_all := lw_g (lw_at lw_m7 94 rfl) rfl
theorem q1591 : (Jvm.Cond.fieldLink "BloomclockModel" (199 : Nat) "BloomclockModel$Buyer" "leaves" "I") ∈ lw_all := lw_g (lw_at lw_m7 96 rfl) rfl
theorem q1593 : (Jvm.Cond.fieldLink "BloomclockModel" (210 : Nat) "BloomclockModel$Buyer" "stock" "[I") ∈ lw_all := lw_g (lw_at lw_m7 98 rfl) rfl
theorem q1594 : (Jvm.Cond.fieldLink "BloomclockModel" (310 : Nat) "BloomclockModel$Buyer" "buckets" "I") ∈ lw_all := lw_g (lw_at lw_m7 99 rfl) rfl
theorem q1596 : (Jvm.Cond.fieldLink "BloomclockModel" (362 : Nat) "BloomclockModel$Buyer" "bound" "I") ∈ lw_all := lw_g (lw_at lw_m7 101 rfl) rfl
theorem q1613 : (Jvm.Cond.instanceMethod ({ cls := "BloomclockModel", name := "even", desc := "(II)I" } : Jvm.MethodName)) ∈ lw_all := lw_g (lw_at lw_m7 118 rfl) rfl
theorem q1614 : (Jvm.Cond.selects "BloomclockModel" ({ cls := "BloomclockModel", name := "even", desc := "(II)I" } : Jvm.MethodName) ({ cls := "BloomclockModel", name := "even", desc := "(II)I" } : Jvm.MethodName)) ∈ lw_all := lw_g (lw_at lw_m7 119 rfl) rfl
theorem q1615 : (Jvm.Cond.code ({ cls := "BloomclockModel", name := "even", desc := "(II)I" } : Jvm.MethodName) prog_13_method_26_code (4 : Nat) (Option.some Jvm.ClassFile.FieldType.int)) ∈ lw_all := lw_g (lw_at lw_m7 120 rfl) rfl
theorem q1616 : (Jvm.Cond.methodLink "BloomclockModel" (245 : Nat) ({ cls := "BloomclockModel", name := "isNoBuyer", desc := "(I)Z" } : Jvm.MethodName)) ∈ lw_all := lw_g (lw_at lw_m7 121 rfl) rfl
theorem q1617 : (Jvm.Cond.privateMethod ({ cls := "BloomclockModel", name := "isNoBuyer", desc := "(I)Z" } : Jvm.MethodName)) ∈ lw_tbl := lw_at lw_m7 122 rfl
theorem q1618 : (Jvm.Cond.instanceMethod ({ cls := "BloomclockModel", name := "isNoBuyer", desc := "(I)Z" } : Jvm.MethodName)) ∈ lw_all := lw_g (lw_at lw_m7 123 rfl) rfl
theorem q1619 : (Jvm.Cond.code ({ cls := "BloomclockModel", name := "isNoBuyer", desc := "(I)Z" } : Jvm.MethodName) prog_13_method_10_code (2 : Nat) (Option.some Jvm.ClassFile.FieldType.boolean)) ∈ lw_all := lw_g (lw_at lw_m7 124 rfl) rfl
theorem q1621 : (Jvm.Cond.instanceMethod ({ cls := "BloomclockModel", name := "leave", desc := "(II)I" } : Jvm.MethodName)) ∈ lw_all := lw_g (lw_at lw_m7 126 rfl) rfl
theorem q1622 : (Jvm.Cond.selects "BloomclockModel" ({ cls := "BloomclockModel", name := "leave", desc := "(II)I" } : Jvm.MethodName) ({ cls := "BloomclockModel", name := "leave", desc := "(II)I" } : Jvm.MethodName)) ∈ lw_all := lw_g (lw_at lw_m7 127 rfl) rfl
theorem q1623 : (Jvm.Cond.code ({ cls := "BloomclockModel", name := "leave", desc := "(II)I" } : Jvm.MethodName) prog_13_method_27_code (4 : Nat) (Option.some Jvm.ClassFile.FieldType.int)) ∈ lw_all := lw_g (lw_at lw_m7 128 rfl) rfl
theorem q1625 : (Jvm.Cond.instanceMethod ({ cls := "BloomclockModel", name := "order", desc := "(IIIIIII)I" } : Jvm.MethodName)) ∈ lw_all := lw_g (lw_at lw_m7 130 rfl) rfl
theorem q1626 : (Jvm.Cond.selects "BloomclockModel" ({ cls := "BloomclockModel", name := "order", desc := "(IIIIIII)I" } : Jvm.MethodName) ({ cls := "BloomclockModel", name := "order", desc := "(IIIIIII)I" } : Jvm.MethodName)) ∈ lw_all := lw_g (lw_at lw_m7 131 rfl) rfl
theorem q1627 : (Jvm.Cond.code ({ cls := "BloomclockModel", name := "order", desc := "(IIIIIII)I" } : Jvm.MethodName) prog_13_method_28_code (8 : Nat) (Option.some Jvm.ClassFile.FieldType.int)) ∈ lw_all := lw_g (lw_at lw_m7 132 rfl) rfl
theorem q1628 : (Jvm.Cond.classLink "BloomclockModel" (251 : Nat) "BloomclockModel$Order") ∈ lw_all := lw_g (lw_at lw_m7 133 rfl) rfl
theorem q1630 : (Jvm.Cond.methodLink "BloomclockModel" (253 : Nat) ({ cls := "BloomclockModel$Order", name := "<init>", desc := "(IIIIIII)V" } : Jvm.MethodName)) ∈ lw_all := lw_g (lw_at lw_m7 135 rfl) rfl
theorem q1636 : (Jvm.Cond.fieldLink "BloomclockModel" (274 : Nat) "BloomclockModel$Order" "buyer" "I") ∈ lw_all := lw_g (lw_at lw_m7 141 rfl) rfl
theorem q1645 : (Jvm.Cond.fieldLink "BloomclockModel" (285 : Nat) "BloomclockModel$Order" "wants" "I") ∈ lw_all := lw_g (lw_at lw_m7 150 rfl) rfl
theorem q1662 : (Jvm.Cond.instanceMethod ({ cls := "BloomclockModel", name := "clock", desc := "()I" } : Jvm.MethodName)) ∈ lw_all := lw_g (lw_at lw_m7 167 rfl) rfl
theorem q1663 : (Jvm.Cond.selects "BloomclockModel" ({ cls := "BloomclockModel", name := "clock", desc := "()I" } : Jvm.MethodName) ({ cls := "BloomclockModel", name := "clock", desc := "()I" } : Jvm.MethodName)) ∈ lw_all := lw_g (lw_at lw_m7 168 rfl) rfl
theorem q1664 : (Jvm.Cond.code ({ cls := "BloomclockModel", name := "clock", desc := "()I" } : Jvm.MethodName) prog_13_method_29_code (6 : Nat) (Option.some Jvm.ClassFile.FieldType.int)) ∈ lw_all := lw_g (lw_at lw_m7 169 rfl) rfl
theorem q1665 : (Jvm.Cond.classLink "BloomclockModel" (191 : Nat) "java/lang/Integer") ∈ lw_all := lw_g (lw_at lw_m7 170 rfl) rfl
theorem q1666 : (Jvm.Cond.methodLink "BloomclockModel" (256 : Nat) ({ cls := "java/lang/Integer", name := "intValue", desc := "()I" } : Jvm.MethodName)) ∈ lw_all := lw_g (lw_at lw_m7 171 rfl) rfl
theorem q1670 : (Jvm.Cond.classLink "BloomclockModel" (259 : Nat) "BloomclockModel$Clock") ∈ lw_all := lw_g (lw_at lw_m7 175 rfl) rfl
theorem q1672 : (Jvm.Cond.methodLinkNest "BloomclockModel" (261 : Nat) ({ cls := "BloomclockModel$Clock", name := "<init>", desc := "(LBloomclockModel;)V" } : Jvm.MethodName) "BloomclockModel") ∈ lw_tbl := lw_at lw_m7 177 rfl
theorem q1686 : (Jvm.Cond.fieldLinkNest "BloomclockModel" (271 : Nat) "BloomclockModel$Clock" "order" "I" "BloomclockModel") ∈ lw_tbl := lw_at lw_m7 191 rfl
theorem q1688 : (Jvm.Cond.fieldLinkNest "BloomclockModel" (278 : Nat) "BloomclockModel$Clock" "price" "I" "BloomclockModel") ∈ lw_tbl := lw_at lw_m7 193 rfl
theorem q1690 : (Jvm.Cond.fieldLinkNest "BloomclockModel" (275 : Nat) "BloomclockModel$Clock" "many" "I" "BloomclockModel") ∈ lw_tbl := lw_at lw_m7 195 rfl
theorem q1719 : (Jvm.Cond.methodLink "BloomclockModel" (264 : Nat) ({ cls := "BloomclockModel$Clock", name := "begin", desc := "(LBloomclockModel$Lot;II)V" } : Jvm.MethodName)) ∈ lw_all := lw_g (lw_at lw_m7 224 rfl) rfl
theorem q1727 : (Jvm.Cond.methodLink "BloomclockModel" (268 : Nat) ({ cls := "BloomclockModel$Clock", name := "sells", desc := "()Z" } : Jvm.MethodName)) ∈ lw_all := lw_g (lw_at lw_m7 232 rfl) rfl
theorem q1756 : (Jvm.Cond.methodLink "BloomclockModel" (281 : Nat) ({ cls := "BloomclockModel", name := "sell", desc := "(IIIILBloomclockModel$Order;)V" } : Jvm.MethodName)) ∈ lw_all := lw_g (lw_at lw_m8 21 rfl) rfl
theorem q1757 : (Jvm.Cond.privateMethod ({ cls := "BloomclockModel", name := "sell", desc := "(IIIILBloomclockModel$Order;)V" } : Jvm.MethodName)) ∈ lw_tbl := lw_at lw_m8 22 rfl
theorem q1758 : (Jvm.Cond.instanceMethod ({ cls := "BloomclockModel", name := "sell", desc := "(IIIILBloomclockModel$Order;)V" } : Jvm.MethodName)) ∈ lw_all := lw_g (lw_at lw_m8 23 rfl) rfl
theorem q1759 : (Jvm.Cond.code ({ cls := "BloomclockModel", name := "sell", desc := "(IIIILBloomclockModel$Order;)V" } : Jvm.MethodName) prog_13_method_30_code (10 : Nat) (Option.none : Option Jvm.ClassFile.FieldType)) ∈ lw_all := lw_g (lw_at lw_m8 24 rfl) rfl
theorem q1760 : (Jvm.Cond.methodLink "BloomclockModel" (288 : Nat) ({ cls := "BloomclockModel$Lot", name := "bucketsFor", desc := "(I)I" } : Jvm.MethodName)) ∈ lw_all := lw_g (lw_at lw_m8 25 rfl) rfl
theorem q1766 : (Jvm.Cond.methodLink "BloomclockModel" (291 : Nat) ({ cls := "BloomclockModel$Trolley", name := "<init>", desc := "(IIII)V" } : Jvm.MethodName)) ∈ lw_all := lw_g (lw_at lw_m8 31 rfl) rfl
theorem q1771 : (Jvm.Cond.fieldLink "BloomclockModel" (194 : Nat) "BloomclockModel$Trolley" "buyer" "I") ∈ lw_all := lw_g (lw_at lw_m8 36 rfl) rfl
theorem q1773 : (Jvm.Cond.fieldLink "BloomclockModel" (213 : Nat) "BloomclockModel$Trolley" "cultivar" "I") ∈ lw_all := lw_g (lw_at lw_m8 38 rfl) rfl
theorem q1775 : (Jvm.Cond.fieldLink "BloomclockModel" (209 : Nat) "BloomclockModel$Trolley" "stems" "I") ∈ lw_all := lw_g (lw_at lw_m8 40 rfl) rfl
theorem q1777 : (Jvm.Cond.fieldLink "BloomclockModel" (178 : Nat) "BloomclockModel$Trolley" "life" "I") ∈ lw_all := lw_g (lw_at lw_m8 42 rfl) rfl
theorem q1787 : (Jvm.Cond.classLink "BloomclockModel" (292 : Nat) "BloomclockModel$Sale") ∈ lw_all := lw_g (lw_at lw_m8 52 rfl) rfl
theorem q1789 : (Jvm.Cond.methodLink "BloomclockModel" (294 : Nat) ({ cls := "BloomclockModel$Sale", name := "<init>", desc := "(IIIIIILBloomclockModel$Order;LBloomclockModel$Trolley;)V" } : Jvm.MethodName)) ∈ lw_all := lw_g (lw_at lw_m8 54 rfl) rfl
theorem q1794 : (Jvm.Cond.fieldLink "BloomclockModel" (301 : Nat) "BloomclockModel$Sale" "lot" "I") ∈ lw_all := lw_g (lw_at lw_m8 59 rfl) rfl
theorem q1796 : (Jvm.Cond.fieldLink "BloomclockModel" (304 : Nat) "BloomclockModel$Sale" "buyer" "I") ∈ lw_all := lw_g (lw_at lw_m8 61 rfl) rfl
theorem q1798 : (Jvm.Cond.fieldLink "BloomclockModel" (318 : Nat) "BloomclockModel$Sale" "stems" "I") ∈ lw_all := lw_g (lw_at lw_m8 63 rfl) rfl
theorem q1800 : (Jvm.Cond.fieldLink "BloomclockModel" (368 : Nat) "BloomclockModel$Sale" "price" "I") ∈ lw_all := lw_g (lw_at lw_m8 65 rfl) rfl
theorem q1802 : (Jvm.Cond.fieldLink "BloomclockModel" (325 : Nat) "BloomclockModel$Sale" "hour" "I") ∈ lw_all := lw_g (lw_at lw_m8 67 rfl) rfl
theorem q1804 : (Jvm.Cond.fieldLink "BloomclockModel" (309 : Nat) "BloomclockModel$Sale" "buckets" "I") ∈ lw_all := lw_g (lw_at lw_m8 69 rfl) rfl
theorem q1806 : (Jvm.Cond.fieldLink "BloomclockModel" (335 : Nat) "BloomclockModel$Sale" "order" "LBloomclockModel$Order;") ∈ lw_all := lw_g (lw_at lw_m8 71 rfl) rfl
theorem q1808 : (Jvm.Cond.fieldLink "BloomclockModel" (326 : Nat) "BloomclockModel$Sale" "trolley" "LBloomclockModel$Trolley;") ∈ lw_all := lw_g (lw_at lw_m8 73 rfl) rfl
theorem q1826 : (Jvm.Cond.methodLink "BloomclockModel" (297 : Nat) ({ cls := "BloomclockModel", name := "move", desc := "(LBloomclockModel$Sale;I)V" } : Jvm.MethodName)) ∈ lw_all := lw_g (lw_at lw_m8 91 rfl) rfl
theorem q1827 : (Jvm.Cond.privateMethod ({ cls := "BloomclockModel", name := "move", desc := "(LBloomclockModel$Sale;I)V" } : Jvm.MethodName)) ∈ lw_tbl := lw_at lw_m8 92 rfl
theorem q1828 : (Jvm.Cond.instanceMethod ({ cls := "BloomclockModel", name := "move", desc := "(LBloomclockModel$Sale;I)V" } : Jvm.MethodName)) ∈ lw_all := lw_g (lw_at lw_m8 93 rfl) rfl
theorem q1829 : (Jvm.Cond.code ({ cls := "BloomclockModel", name := "move", desc := "(LBloomclockModel$Sale;I)V" } : Jvm.MethodName) prog_13_method_31_code (6 : Nat) (Option.none : Option Jvm.ClassFile.FieldType)) ∈ lw_all := lw_g (lw_at lw_m8 94 rfl) rfl
theorem q1830 : (Jvm.Cond.methodLink "BloomclockModel" (306 : Nat) ({ cls := "BloomclockModel$Sale", name := "cost", desc := "()I" } : Jvm.MethodName)) ∈ lw_all := lw_g (lw_at lw_m8 95 rfl) rfl
theorem q1834 : (Jvm.Cond.methodLink "BloomclockModel" (312 : Nat) ({ cls := "BloomclockModel$Sale", name := "fee", desc := "()I" } : Jvm.MethodName)) ∈ lw_all := lw_g (lw_at lw_m8 99 rfl) rfl
theorem q1840 : (Jvm.Cond.instanceMethod ({ cls := "BloomclockModel", name := "presell", desc := "(IIII)I" } : Jvm.MethodName)) ∈ lw_all := lw_g (lw_at lw_m8 105 rfl) rfl
theorem q1841 : (Jvm.Cond.selects "BloomclockModel" ({ cls := "BloomclockModel", name := "presell", desc := "(IIII)I" } : Jvm.MethodName) ({ cls := "BloomclockModel", name := "presell", desc := "(IIII)I" } : Jvm.MethodName)) ∈ lw_all := lw_g (lw_at lw_m8 106 rfl) rfl
theorem q1842 : (Jvm.Cond.code ({ cls := "BloomclockModel", name := "presell", desc := "(IIII)I" } : Jvm.MethodName) prog_13_method_32_code (6 : Nat) (Option.some Jvm.ClassFile.FieldType.int)) ∈ lw_all := lw_g (lw_at lw_m8 107 rfl) rfl
theorem q1844 : (Jvm.Cond.instanceMethod ({ cls := "BloomclockModel", name := "undo", desc := "()I" } : Jvm.MethodName)) ∈ lw_all := lw_g (lw_at lw_m8 109 rfl) rfl
theorem q1845 : (Jvm.Cond.selects "BloomclockModel" ({ cls := "BloomclockModel", name := "undo", desc := "()I" } : Jvm.MethodName) ({ cls := "BloomclockModel", name := "undo", desc := "()I" } : Jvm.MethodName)) ∈ lw_all := lw_g (lw_at lw_m8 110 rfl) rfl
theorem q1846 : (Jvm.Cond.code ({ cls := "BloomclockModel", name := "undo", desc := "()I" } : Jvm.MethodName) prog_13_method_33_code (3 : Nat) (Option.some Jvm.ClassFile.FieldType.int)) ∈ lw_all := lw_g (lw_at lw_m8 111 rfl) rfl
theorem q1847 : (Jvm.Cond.methodLink "BloomclockModel" (330 : Nat) ({ cls := "java/util/ArrayList", name := "contains", desc := "(Ljava/lang/Object;)Z" } : Jvm.MethodName)) ∈ lw_all := lw_g (lw_at lw_m8 112 rfl) rfl
theorem q1876 : (Jvm.Cond.selects "BloomclockModel" ({ cls := "java/lang/Object", name := "equals", desc := "(Ljava/lang/Object;)Z" } : Jvm.MethodName) ({ cls := "java/lang/Object", name := "equals", desc := "(Ljava/lang/Object;)Z" } : Jvm.MethodName)) ∈ lw_all := lw_g (lw_at lw_m8 141 rfl) rfl
theorem q1894 : (Jvm.Cond.methodLink "BloomclockModel" (333 : Nat) ({ cls := "java/util/ArrayList", name := "remove", desc := "(Ljava/lang/Object;)Z" } : Jvm.MethodName)) ∈ lw_all := lw_g (lw_at lw_m8 159 rfl) rfl
theorem q1899 : (Jvm.Cond.instanceMethod ({ cls := "BloomclockModel", name := "speed", desc := "(I)I" } : Jvm.MethodName)) ∈ lw_all := lw_g (lw_at lw_m8 164 rfl) rfl
theorem q1900 : (Jvm.Cond.selects "BloomclockModel" ({ cls := "BloomclockModel", name := "speed", desc := "(I)I" } : Jvm.MethodName) ({ cls := "BloomclockModel", name := "speed", desc := "(I)I" } : Jvm.MethodName)) ∈ lw_all := lw_g (lw_at lw_m8 165 rfl) rfl
theorem q1901 : (Jvm.Cond.code ({ cls := "BloomclockModel", name := "speed", desc := "(I)I" } : Jvm.MethodName) prog_13_method_34_code (3 : Nat) (Option.some Jvm.ClassFile.FieldType.int)) ∈ lw_all := lw_g (lw_at lw_m8 166 rfl) rfl
theorem q1903 : (Jvm.Cond.instanceMethod ({ cls := "BloomclockModel", name := "bind", desc := "(II)I" } : Jvm.MethodName)) ∈ lw_all := lw_g (lw_at lw_m8 168 rfl) rfl
theorem q1904 : (Jvm.Cond.selects "BloomclockModel" ({ cls := "BloomclockModel", name := "bind", desc := "(II)I" } : Jvm.MethodName) ({ cls := "BloomclockModel", name := "bind", desc := "(II)I" } : Jvm.MethodName)) ∈ lw_all := lw_g (lw_at lw_m8 169 rfl) rfl
theorem q1905 : (Jvm.Cond.code ({ cls := "BloomclockModel", name := "bind", desc := "(II)I" } : Jvm.MethodName) prog_13_method_35_code (4 : Nat) (Option.some Jvm.ClassFile.FieldType.int)) ∈ lw_all := lw_g (lw_at lw_m8 170 rfl) rfl
theorem q1906 : (Jvm.Cond.methodLink "BloomclockModel" (338 : Nat) ({ cls := "BloomclockModel$Buyer", name := "bind", desc := "()Z" } : Jvm.MethodName)) ∈ lw_all := lw_g (lw_at lw_m8 171 rfl) rfl
theorem q1912 : (Jvm.Cond.instanceMethod ({ cls := "BloomclockModel", name := "back", desc := "(II)I" } : Jvm.MethodName)) ∈ lw_all := lw_g (lw_at lw_m8 177 rfl) rfl
theorem q1913 : (Jvm.Cond.selects "BloomclockModel" ({ cls := "BloomclockModel", name := "back", desc := "(II)I" } : Jvm.MethodName) ({ cls := "BloomclockModel", name := "back", desc := "(II)I" } : Jvm.MethodName)) ∈ lw_all := lw_g (lw_at lw_m8 178 rfl) rfl
theorem q1914 : (Jvm.Cond.code ({ cls := "BloomclockModel", name := "back", desc := "(II)I" } : Jvm.MethodName) prog_13_method_36_code (4 : Nat) (Option.some Jvm.ClassFile.FieldType.int)) ∈ lw_all := lw_g (lw_at lw_m8 179 rfl) rfl
theorem q1916 : (Jvm.Cond.instanceMethod ({ cls := "BloomclockModel", name := "clear", desc := "(IZ)I" } : Jvm.MethodName)) ∈ lw_all := lw_g (lw_at lw_m8 181 rfl) rfl
theorem q1917 : (Jvm.Cond.selects "BloomclockModel" ({ cls := "BloomclockModel", name := "clear", desc := "(IZ)I" } : Jvm.MethodName) ({ cls := "BloomclockModel", name := "clear", desc := "(IZ)I" } : Jvm.MethodName)) ∈ lw_all := lw_g (lw_at lw_m8 182 rfl) rfl
theorem q1918 : (Jvm.Cond.code ({ cls := "BloomclockModel", name := "clear", desc := "(IZ)I" } : Jvm.MethodName) prog_13_method_37_code (6 : Nat) (Option.some Jvm.ClassFile.FieldType.int)) ∈ lw_all := lw_g (lw_at lw_m8 183 rfl) rfl
theorem q1920 : (Jvm.Cond.instanceMethod ({ cls := "BloomclockModel", name := "vote", desc := "(II)I" } : Jvm.MethodName)) ∈ lw_all := lw_g (lw_at lw_m8 185 rfl) rfl
theorem q1921 : (Jvm.Cond.selects "BloomclockModel" ({ cls := "BloomclockModel", name := "vote", desc := "(II)I" } : Jvm.MethodName) ({ cls := "BloomclockModel", name := "vote", desc := "(II)I" } : Jvm.MethodName)) ∈ lw_all := lw_g (lw_at lw_m8 186 rfl) rfl
theorem q1922 : (Jvm.Cond.code ({ cls := "BloomclockModel", name := "vote", desc := "(II)I" } : Jvm.MethodName) prog_13_method_38_code (7 : Nat) (Option.some Jvm.ClassFile.FieldType.int)) ∈ lw_all := lw_g (lw_at lw_m8 187 rfl) rfl
theorem q1924 : (Jvm.Cond.instanceMethod ({ cls := "BloomclockModel", name := "ofCrop", desc := "(II)I" } : Jvm.MethodName)) ∈ lw_all := lw_g (lw_at lw_m8 189 rfl) rfl
theorem q1925 : (Jvm.Cond.selects "BloomclockModel" ({ cls := "BloomclockModel", name := "ofCrop", desc := "(II)I" } : Jvm.MethodName) ({ cls := "BloomclockModel", name := "ofCrop", desc := "(II)I" } : Jvm.MethodName)) ∈ lw_all := lw_g (lw_at lw_m8 190 rfl) rfl
theorem q1926 : (Jvm.Cond.code ({ cls := "BloomclockModel", name := "ofCrop", desc := "(II)I" } : Jvm.MethodName) prog_13_method_40_code (3 : Nat) (Option.some Jvm.ClassFile.FieldType.int)) ∈ lw_all := lw_g (lw_at lw_m8 191 rfl) rfl
theorem q1927 : (Jvm.Cond.methodLink "BloomclockModel" (344 : Nat) ({ cls := "BloomclockModel", name := "ofCropNow", desc := "(II)I" } : Jvm.MethodName)) ∈ lw_all := lw_g (lw_at lw_m8 192 rfl) rfl
theorem q1928 : (Jvm.Cond.privateMethod ({ cls := "BloomclockModel", name := "ofCropNow", desc := "(II)I" } : Jvm.MethodName)) ∈ lw_tbl := lw_at lw_m8 193 rfl
theorem q1929 : (Jvm.Cond.instanceMethod ({ cls := "BloomclockModel", name := "ofCropNow", desc := "(II)I" } : Jvm.MethodName)) ∈ lw_all := lw_g (lw_at lw_m8 194 rfl) rfl
theorem q1930 : (Jvm.Cond.code ({ cls := "BloomclockModel", name := "ofCropNow", desc := "(II)I" } : Jvm.MethodName) prog_13_method_39_code (5 : Nat) (Option.some Jvm.ClassFile.FieldType.int)) ∈ lw_all := lw_g (lw_at lw_m8 195 rfl) rfl
theorem q1932 : (Jvm.Cond.instanceMethod ({ cls := "BloomclockModel", name := "ofLot", desc := "(II)I" } : Jvm.MethodName)) ∈ lw_all := lw_g (lw_at lw_m8 197 rfl) rfl
theorem q1933 : (Jvm.Cond.selects "BloomclockModel" ({ cls := "BloomclockModel", name := "ofLot", desc := "(II)I" } : Jvm.MethodName) ({ cls := "BloomclockModel", name := "ofLot", desc := "(II)I" } : Jvm.MethodName)) ∈ lw_all := lw_g (lw_at lw_m8 198 rfl) rfl
theorem q1934 : (Jvm.Cond.code ({ cls := "BloomclockModel", name := "ofLot", desc := "(II)I" } : Jvm.MethodName) prog_13_method_42_code (3 : Nat) (Option.some Jvm.ClassFile.FieldType.int)) ∈ lw_all := lw_g (lw_at lw_m8 199 rfl) rfl
theorem q1935 : (Jvm.Cond.methodLink "BloomclockModel" (350 : Nat) ({ cls := "BloomclockModel", name := "ofLotNow", desc := "(II)I" } : Jvm.MethodName)) ∈ lw_all := lw_g (lw_at lw_m8 200 rfl) rfl
theorem q1936 : (Jvm.Cond.privateMethod ({ cls := "BloomclockModel", name := "ofLotNow", desc := "(II)I" } : Jvm.MethodName)) ∈ lw_tbl := lw_at lw_m8 201 rfl
theorem q1937 : (Jvm.Cond.instanceMethod ({ cls := "BloomclockModel", name := "ofLotNow", desc := "(II)I" } : Jvm.MethodName)) ∈ lw_all := lw_g (lw_at lw_m8 202 rfl) rfl
theorem q1938 : (Jvm.Cond.code ({ cls := "BloomclockModel", name := "ofLotNow", desc := "(II)I" } : Jvm.MethodName) prog_13_method_41_code (5 : Nat) (Option.some Jvm.ClassFile.FieldType.int)) ∈ lw_all := lw_g (lw_at lw_m8 203 rfl) rfl
theorem q1940 : (Jvm.Cond.instanceMethod ({ cls := "BloomclockModel", name := "ofGrower", desc := "(II)I" } : Jvm.MethodName)) ∈ lw_all := lw_g (lw_at lw_m8 205 rfl) rfl
theorem q1941 : (Jvm.Cond.selects "BloomclockModel" ({ cls := "BloomclockModel", name := "ofGrower", desc := "(II)I" } : Jvm.MethodName) ({ cls := "BloomclockModel", name := "ofGrower", desc := "(II)I" } : Jvm.MethodName)) ∈ lw_all := lw_g (lw_at lw_m8 206 rfl) rfl
theorem q1942 : (Jvm.Cond.code ({ cls := "BloomclockModel", name := "ofGrower", desc := "(II)I" } : Jvm.MethodName) prog_13_method_44_code (3 : Nat) (Option.some Jvm.ClassFile.FieldType.int)) ∈ lw_all := lw_g (lw_at lw_m8 207 rfl) rfl
theorem q1943 : (Jvm.Cond.methodLink "BloomclockModel" (356 : Nat) ({ cls := "BloomclockModel", name := "ofGrowerNow", desc := "(II)I" } : Jvm.MethodName)) ∈ lw_all := lw_g (lw_at lw_m8 208 rfl) rfl
theorem q1944 : (Jvm.Cond.privateMethod ({ cls := "BloomclockModel", name := "ofGrowerNow", desc := "(II)I" } : Jvm.MethodName)) ∈ lw_tbl := lw_at lw_m8 209 rfl
theorem q1945 : (Jvm.Cond.instanceMethod ({ cls := "BloomclockModel", name := "ofGrowerNow", desc := "(II)I" } : Jvm.MethodName)) ∈ lw_all := lw_g (lw_at lw_m8 210 rfl) rfl
theorem q1946 : (Jvm.Cond.code ({ cls := "BloomclockModel", name := "ofGrowerNow", desc := "(II)I" } : Jvm.MethodName) prog_13_method_43_code (5 : Nat) (Option.some Jvm.ClassFile.FieldType.int)) ∈ lw_all := lw_g (lw_at lw_m8 211 rfl) rfl
theorem q1947 : (Jvm.Cond.methodLink "BloomclockModel" (353 : Nat) ({ cls := "BloomclockModel$Grower", name := "all", desc := "(I)I" } : Jvm.MethodName)) ∈ lw_all := lw_g (lw_at lw_m8 212 rfl) rfl
theorem q1953 : (Jvm.Cond.instanceMethod ({ cls := "BloomclockModel", name := "ofBuyer", desc := "(II)I" } : Jvm.MethodName)) ∈ lw_all := lw_g (lw_at lw_m8 218 rfl) rfl
theorem q1954 : (Jvm.Cond.selects "BloomclockModel" ({ cls := "BloomclockModel", name := "ofBuyer", desc := "(II)I" } : Jvm.MethodName) ({ cls := "BloomclockModel", name := "ofBuyer", desc := "(II)I" } : Jvm.MethodName)) ∈ lw_all := lw_g (lw_at lw_m8 219 rfl) rfl
theorem q1955 : (Jvm.Cond.code ({ cls := "BloomclockModel", name := "ofBuyer", desc := "(II)I" } : Jvm.MethodName) prog_13_method_46_code (3 : Nat) (Option.some Jvm.ClassFile.FieldType.int)) ∈ lw_all := lw_g (lw_at lw_m8 220 rfl) rfl
theorem q1956 : (Jvm.Cond.methodLink "BloomclockModel" (365 : Nat) ({ cls := "BloomclockModel", name := "ofBuyerNow", desc := "(II)I" } : Jvm.MethodName)) ∈ lw_all := lw_g (lw_at lw_m8 221 rfl) rfl
theorem q1957 : (Jvm.Cond.privateMethod ({ cls := "BloomclockModel", name := "ofBuyerNow", desc := "(II)I" } : Jvm.MethodName)) ∈ lw_tbl := lw_at lw_m8 222 rfl
theorem q1958 : (Jvm.Cond.instanceMethod ({ cls := "BloomclockModel", name := "ofBuyerNow", desc := "(II)I" } : Jvm.MethodName)) ∈ lw_all := lw_g (lw_at lw_m8 223 rfl) rfl
theorem q1959 : (Jvm.Cond.code ({ cls := "BloomclockModel", name := "ofBuyerNow", desc := "(II)I" } : Jvm.MethodName) prog_13_method_45_code (5 : Nat) (Option.some Jvm.ClassFile.FieldType.int)) ∈ lw_all := lw_g (lw_at lw_m8 224 rfl) rfl
theorem q1961 : (Jvm.Cond.instanceMethod ({ cls := "BloomclockModel", name := "wants", desc := "(I)I" } : Jvm.MethodName)) ∈ lw_all := lw_g (lw_at lw_m8 226 rfl) rfl
theorem q1962 : (Jvm.Cond.selects "BloomclockModel" ({ cls := "BloomclockModel", name := "wants", desc := "(I)I" } : Jvm.MethodName) ({ cls := "BloomclockModel", name := "wants", desc := "(I)I" } : Jvm.MethodName)) ∈ lw_all := lw_g (lw_at lw_m8 227 rfl) rfl
theorem q1963 : (Jvm.Cond.code ({ cls := "BloomclockModel", name := "wants", desc := "(I)I" } : Jvm.MethodName) prog_13_method_47_code (2 : Nat) (Option.some Jvm.ClassFile.FieldType.int)) ∈ lw_all := lw_g (lw_at lw_m8 228 rfl) rfl
theorem q1965 : (Jvm.Cond.instanceMethod ({ cls := "BloomclockModel", name := "sale", desc := "(II)I" } : Jvm.MethodName)) ∈ lw_all := lw_g (lw_at lw_m8 230 rfl) rfl
theorem q1966 : (Jvm.Cond.selects "BloomclockModel" ({ cls := "BloomclockModel", name := "sale", desc := "(II)I" } : Jvm.MethodName) ({ cls := "BloomclockModel", name := "sale", desc := "(II)I" } : Jvm.MethodName)) ∈ lw_all := lw_g (lw_at lw_m8 231 rfl) rfl
theorem q1967 : (Jvm.Cond.code ({ cls := "BloomclockModel", name := "sale", desc := "(II)I" } : Jvm.MethodName) prog_13_method_49_code (3 : Nat) (Option.some Jvm.ClassFile.FieldType.int)) ∈ lw_all := lw_g (lw_at lw_m8 232 rfl) rfl
theorem q1968 : (Jvm.Cond.methodLink "BloomclockModel" (369 : Nat) ({ cls := "BloomclockModel", name := "saleNow", desc := "(II)I" } : Jvm.MethodName)) ∈ lw_all := lw_g (lw_at lw_m8 233 rfl) rfl
theorem q1969 : (Jvm.Cond.privateMethod ({ cls := "BloomclockModel", name := "saleNow", desc := "(II)I" } : Jvm.MethodName)) ∈ lw_tbl := lw_at lw_m8 234 rfl
theorem q1970 : (Jvm.Cond.instanceMethod ({ cls := "BloomclockModel", name := "saleNow", desc := "(II)I" } : Jvm.MethodName)) ∈ lw_all := lw_g (lw_at lw_m8 235 rfl) rfl
theorem q1971 : (Jvm.Cond.code ({ cls := "BloomclockModel", name := "saleNow", desc := "(II)I" } : Jvm.MethodName) prog_13_method_48_code (5 : Nat) (Option.some Jvm.ClassFile.FieldType.int)) ∈ lw_all := lw_g (lw_at lw_m8 236 rfl) rfl
theorem q1973 : (Jvm.Cond.instanceMethod ({ cls := "BloomclockModel", name := "row", desc := "(I)I" } : Jvm.MethodName)) ∈ lw_all := lw_g (lw_at lw_m8 238 rfl) rfl
theorem q1974 : (Jvm.Cond.selects "BloomclockModel" ({ cls := "BloomclockModel", name := "row", desc := "(I)I" } : Jvm.MethodName) ({ cls := "BloomclockModel", name := "row", desc := "(I)I" } : Jvm.MethodName)) ∈ lw_all := lw_g (lw_at lw_m8 239 rfl) rfl
theorem q1975 : (Jvm.Cond.code ({ cls := "BloomclockModel", name := "row", desc := "(I)I" } : Jvm.MethodName) prog_13_method_51_code (2 : Nat) (Option.some Jvm.ClassFile.FieldType.int)) ∈ lw_all := lw_g (lw_at lw_m9 0 rfl) rfl
theorem q1976 : (Jvm.Cond.methodLink "BloomclockModel" (372 : Nat) ({ cls := "BloomclockModel", name := "rowNow", desc := "(I)I" } : Jvm.MethodName)) ∈ lw_all := lw_g (lw_at lw_m9 1 rfl) rfl
theorem q1977 : (Jvm.Cond.privateMethod ({ cls := "BloomclockModel", name := "rowNow", desc := "(I)I" } : Jvm.MethodName)) ∈ lw_tbl := lw_at lw_m9 2 rfl
theorem q1978 : (Jvm.Cond.instanceMethod ({ cls := "BloomclockModel", name := "rowNow", desc := "(I)I" } : Jvm.MethodName)) ∈ lw_all := lw_g (lw_at lw_m9 3 rfl) rfl
theorem q1979 : (Jvm.Cond.code ({ cls := "BloomclockModel", name := "rowNow", desc := "(I)I" } : Jvm.MethodName) prog_13_method_50_code (2 : Nat) (Option.some Jvm.ClassFile.FieldType.int)) ∈ lw_all := lw_g (lw_at lw_m9 4 rfl) rfl
theorem q1981 : (Jvm.Cond.instanceMethod ({ cls := "BloomclockModel", name := "many", desc := "(I)I" } : Jvm.MethodName)) ∈ lw_all := lw_g (lw_at lw_m9 6 rfl) rfl
theorem q1982 : (Jvm.Cond.selects "BloomclockModel" ({ cls := "BloomclockModel", name := "many", desc := "(I)I" } : Jvm.MethodName) ({ cls := "BloomclockModel", name := "many", desc := "(I)I" } : Jvm.MethodName)) ∈ lw_all := lw_g (lw_at lw_m9 7 rfl) rfl
theorem q1983 : (Jvm.Cond.code ({ cls := "BloomclockModel", name := "many", desc := "(I)I" } : Jvm.MethodName) prog_13_method_53_code (2 : Nat) (Option.some Jvm.ClassFile.FieldType.int)) ∈ lw_all := lw_g (lw_at lw_m9 8 rfl) rfl
theorem q1984 : (Jvm.Cond.methodLink "BloomclockModel" (375 : Nat) ({ cls := "BloomclockModel", name := "manyNow", desc := "(I)I" } : Jvm.MethodName)) ∈ lw_all := lw_g (lw_at lw_m9 9 rfl) rfl
theorem q1985 : (Jvm.Cond.privateMethod ({ cls := "BloomclockModel", name := "manyNow", desc := "(I)I" } : Jvm.MethodName)) ∈ lw_tbl := lw_at lw_m9 10 rfl
theorem q1986 : (Jvm.Cond.instanceMethod ({ cls := "BloomclockModel", name := "manyNow", desc := "(I)I" } : Jvm.MethodName)) ∈ lw_all := lw_g (lw_at lw_m9 11 rfl) rfl
theorem q1987 : (Jvm.Cond.code ({ cls := "BloomclockModel", name := "manyNow", desc := "(I)I" } : Jvm.MethodName) prog_13_method_52_code (5 : Nat) (Option.some Jvm.ClassFile.FieldType.int)) ∈ lw_all := lw_g (lw_at lw_m9 12 rfl) rfl
theorem q1989 : (Jvm.Cond.instanceMethod ({ cls := "BloomclockModel", name := "meanPrice", desc := "()D" } : Jvm.MethodName)) ∈ lw_all := lw_g (lw_at lw_m9 14 rfl) rfl
theorem q1990 : (Jvm.Cond.selects "BloomclockModel" ({ cls := "BloomclockModel", name := "meanPrice", desc := "()D" } : Jvm.MethodName) ({ cls := "BloomclockModel", name := "meanPrice", desc := "()D" } : Jvm.MethodName)) ∈ lw_all := lw_g (lw_at lw_m9 15 rfl) rfl
theorem q1991 : (Jvm.Cond.code ({ cls := "BloomclockModel", name := "meanPrice", desc := "()D" } : Jvm.MethodName) prog_13_method_54_code (1 : Nat) (Option.some Jvm.ClassFile.FieldType.double)) ∈ lw_all := lw_g (lw_at lw_m9 16 rfl) rfl
theorem q1993 : (Jvm.Cond.instanceMethod ({ cls := "BloomclockModel", name := "wouldFetch", desc := "(I)I" } : Jvm.MethodName)) ∈ lw_all := lw_g (lw_at lw_m9 18 rfl) rfl
theorem q1994 : (Jvm.Cond.selects "BloomclockModel" ({ cls := "BloomclockModel", name := "wouldFetch", desc := "(I)I" } : Jvm.MethodName) ({ cls := "BloomclockModel", name := "wouldFetch", desc := "(I)I" } : Jvm.MethodName)) ∈ lw_all := lw_g (lw_at lw_m9 19 rfl) rfl
theorem q1995 : (Jvm.Cond.code ({ cls := "BloomclockModel", name := "wouldFetch", desc := "(I)I" } : Jvm.MethodName) prog_13_method_56_code (2 : Nat) (Option.some Jvm.ClassFile.FieldType.int)) ∈ lw_all := lw_g (lw_at lw_m9 20 rfl) rfl
theorem q1996 : (Jvm.Cond.methodLink "BloomclockModel" (378 : Nat) ({ cls := "BloomclockModel", name := "wouldFetchNow", desc := "(I)I" } : Jvm.MethodName)) ∈ lw_all := lw_g (lw_at lw_m9 21 rfl) rfl
theorem q1997 : (Jvm.Cond.privateMethod ({ cls := "BloomclockModel", name := "wouldFetchNow", desc := "(I)I" } : Jvm.MethodName)) ∈ lw_tbl := lw_at lw_m9 22 rfl
theorem q1998 : (Jvm.Cond.instanceMethod ({ cls := "BloomclockModel", name := "wouldFetchNow", desc := "(I)I" } : Jvm.MethodName)) ∈ lw_all := lw_g (lw_at lw_m9 23 rfl) rfl
theorem q1999 : (Jvm.Cond.code ({ cls := "BloomclockModel", name := "wouldFetchNow", desc := "(I)I" } : Jvm.MethodName) prog_13_method_55_code (3 : Nat) (Option.some Jvm.ClassFile.FieldType.int)) ∈ lw_all := lw_g (lw_at lw_m9 24 rfl) rfl
theorem q2001 : (Jvm.Cond.instanceMethod ({ cls := "BloomclockModel", name := "bestMinimum", desc := "(I)I" } : Jvm.MethodName)) ∈ lw_all := lw_g (lw_at lw_m9 26 rfl) rfl
theorem q2002 : (Jvm.Cond.selects "BloomclockModel" ({ cls := "BloomclockModel", name := "bestMinimum", desc := "(I)I" } : Jvm.MethodName) ({ cls := "BloomclockModel", name := "bestMinimum", desc := "(I)I" } : Jvm.MethodName)) ∈ lw_all := lw_g (lw_at lw_m9 27 rfl) rfl
theorem q2003 : (Jvm.Cond.code ({ cls := "BloomclockModel", name := "bestMinimum", desc := "(I)I" } : Jvm.MethodName) prog_13_method_58_code (2 : Nat) (Option.some Jvm.ClassFile.FieldType.int)) ∈ lw_all := lw_g (lw_at lw_m9 28 rfl) rfl
theorem q2004 : (Jvm.Cond.methodLink "BloomclockModel" (384 : Nat) ({ cls := "BloomclockModel", name := "bestMinimumNow", desc := "(I)I" } : Jvm.MethodName)) ∈ lw_all := lw_g (lw_at lw_m9 29 rfl) rfl
theorem q2005 : (Jvm.Cond.privateMethod ({ cls := "BloomclockModel", name := "bestMinimumNow", desc := "(I)I" } : Jvm.MethodName)) ∈ lw_tbl := lw_at lw_m9 30 rfl
theorem q2006 : (Jvm.Cond.instanceMethod ({ cls := "BloomclockModel", name := "bestMinimumNow", desc := "(I)I" } : Jvm.MethodName)) ∈ lw_all := lw_g (lw_at lw_m9 31 rfl) rfl
theorem q2007 : (Jvm.Cond.code ({ cls := "BloomclockModel", name := "bestMinimumNow", desc := "(I)I" } : Jvm.MethodName) prog_13_method_57_code (7 : Nat) (Option.some Jvm.ClassFile.FieldType.int)) ∈ lw_all := lw_g (lw_at lw_m9 32 rfl) rfl
theorem q2008 : (Jvm.Cond.methodLink "BloomclockModel" (381 : Nat) ({ cls := "BloomclockModel$Clock", name := "share", desc := "()I" } : Jvm.MethodName)) ∈ lw_all := lw_g (lw_at lw_m9 33 rfl) rfl
theorem q2013 : (Jvm.Cond.instanceMethod ({ cls := "BloomclockModel", name := "readyIn", desc := "(I)I" } : Jvm.MethodName)) ∈ lw_all := lw_g (lw_at lw_m9 38 rfl) rfl
theorem q2014 : (Jvm.Cond.selects "BloomclockModel" ({ cls := "BloomclockModel", name := "readyIn", desc := "(I)I" } : Jvm.MethodName) ({ cls := "BloomclockModel", name := "readyIn", desc := "(I)I" } : Jvm.MethodName)) ∈ lw_all := lw_g (lw_at lw_m9 39 rfl) rfl
theorem q2015 : (Jvm.Cond.code ({ cls := "BloomclockModel", name := "readyIn", desc := "(I)I" } : Jvm.MethodName) prog_13_method_59_code (2 : Nat) (Option.some Jvm.ClassFile.FieldType.int)) ∈ lw_all := lw_g (lw_at lw_m9 40 rfl) rfl
theorem q2016 : (Jvm.Cond.methodLink "BloomclockModel" (387 : Nat) ({ cls := "BloomclockModel$Crop", name := "readyIn", desc := "(I)I" } : Jvm.MethodName)) ∈ lw_all := lw_g (lw_at lw_m9 41 rfl) rfl
theorem q2022 : (Jvm.Cond.instanceMethod ({ cls := "BloomclockModel", name := "lampsFor", desc := "(II)I" } : Jvm.MethodName)) ∈ lw_all := lw_g (lw_at lw_m9 47 rfl) rfl
theorem q2023 : (Jvm.Cond.selects "BloomclockModel" ({ cls := "BloomclockModel", name := "lampsFor", desc := "(II)I" } : Jvm.MethodName) ({ cls := "BloomclockModel", name := "lampsFor", desc := "(II)I" } : Jvm.MethodName)) ∈ lw_all := lw_g (lw_at lw_m9 48 rfl) rfl
theorem q2024 : (Jvm.Cond.code ({ cls := "BloomclockModel", name := "lampsFor", desc := "(II)I" } : Jvm.MethodName) prog_13_method_61_code (3 : Nat) (Option.some Jvm.ClassFile.FieldType.int)) ∈ lw_all := lw_g (lw_at lw_m9 49 rfl) rfl
theorem q2025 : (Jvm.Cond.methodLink "BloomclockModel" (393 : Nat) ({ cls := "BloomclockModel", name := "lampsForNow", desc := "(II)I" } : Jvm.MethodName)) ∈ lw_all := lw_g (lw_at lw_m9 50 rfl) rfl
theorem q2026 : (Jvm.Cond.privateMethod ({ cls := "BloomclockModel", name := "lampsForNow", desc := "(II)I" } : Jvm.MethodName)) ∈ lw_tbl := lw_at lw_m9 51 rfl
theorem q2027 : (Jvm.Cond.instanceMethod ({ cls := "BloomclockModel", name := "lampsForNow", desc := "(II)I" } : Jvm.MethodName)) ∈ lw_all := lw_g (lw_at lw_m9 52 rfl) rfl
theorem q2028 : (Jvm.Cond.code ({ cls := "BloomclockModel", name := "lampsForNow", desc := "(II)I" } : Jvm.MethodName) prog_13_method_60_code (4 : Nat) (Option.some Jvm.ClassFile.FieldType.int)) ∈ lw_all := lw_g (lw_at lw_m9 53 rfl) rfl
theorem q2029 : (Jvm.Cond.fieldLink "BloomclockModel" (390 : Nat) "BloomclockModel" "ASKS" "[I") ∈ lw_all := lw_g (lw_at lw_m9 54 rfl) rfl
theorem q2031 : (Jvm.Cond.instanceMethod ({ cls := "BloomclockModel", name := "digest", desc := "()J" } : Jvm.MethodName)) ∈ lw_all := lw_g (lw_at lw_m9 56 rfl) rfl
theorem q2032 : (Jvm.Cond.selects "BloomclockModel" ({ cls := "BloomclockModel", name := "digest", desc := "()J" } : Jvm.MethodName) ({ cls := "BloomclockModel", name := "digest", desc := "()J" } : Jvm.MethodName)) ∈ lw_all := lw_g (lw_at lw_m9 57 rfl) rfl
theorem q2033 : (Jvm.Cond.code ({ cls := "BloomclockModel", name := "digest", desc := "()J" } : Jvm.MethodName) prog_13_method_63_code (5 : Nat) (Option.some Jvm.ClassFile.FieldType.long)) ∈ lw_all := lw_g (lw_at lw_m9 58 rfl) rfl
theorem q2034 : (Jvm.Cond.constantLong "BloomclockModel" (398 : Nat) (58185 : Int64)) ∈ lw_all := lw_g (lw_at lw_m9 59 rfl) rfl
theorem q2035 : (Jvm.Cond.methodLink "BloomclockModel" (400 : Nat) ({ cls := "BloomclockModel", name := "add", desc := "(JJ)J" } : Jvm.MethodName)) ∈ lw_all := lw_g (lw_at lw_m9 60 rfl) rfl
theorem q2036 : (Jvm.Cond.static ({ cls := "BloomclockModel", name := "add", desc := "(JJ)J" } : Jvm.MethodName)) ∈ lw_all := lw_g (lw_at lw_m9 61 rfl) rfl
theorem q2037 : (Jvm.Cond.code ({ cls := "BloomclockModel", name := "add", desc := "(JJ)J" } : Jvm.MethodName) prog_13_method_62_code (4 : Nat) (Option.some Jvm.ClassFile.FieldType.long)) ∈ lw_all := lw_g (lw_at lw_m9 62 rfl) rfl
theorem q2038 : (Jvm.Cond.constantLong "BloomclockModel" (396 : Nat) (31 : Int64)) ∈ lw_all := lw_g (lw_at lw_m9 63 rfl) rfl
theorem q2050 : (Jvm.Cond.castable "BloomclockModel" "java/lang/Object") ∈ lw_tbl := lw_at lw_m9 75 rfl
theorem in_X2 : ∀ w ∈ wsX20, w ∈ lw_all := lw_in wsX20 [1242, 1244, 1246, 1248, 1250, 1252, 1254, 1256, 1258, 1260, 1262, 1264, 1266, 1268, 1270, 1272, 1274, 1276] (by decide +kernel) (by decide +kernel)
/-! BloomclockModel$Grower -/
set_option maxRecDepth 100000
def RX4 : String := "BloomclockModel$Grower"
def TX4 : u_T := fun k => match k with
  | 0 => ("BloomclockModel$Grower", "coins", "I", false)
  | 1 => ("BloomclockModel$Grower", "lamps", "I", false)
  | 2 => ("BloomclockModel$Grower", "mark", "I", false)
  | 3 => ("BloomclockModel$Grower", "sold", "I", false)
  | 4 => ("BloomclockModel$Grower", "day", "I", false)
  | _ => ("BloomclockModel$Grower", "brought", "[I", true)
def tyX4 : Nat → FieldType := fun k => match k with
  | 0 => .int
  | 1 => .int
  | 2 => .int
  | 3 => .int
  | 4 => .int
  | _ => .array .int
abbrev wsX40 : List Cond := u_ws RX4 TX4 6
theorem nmX4 : ∀ a, a < 6 → ∀ b, b < 6 → a ≠ b → (TX4 a).2.1 ≠ (TX4 b).2.1 := by decide +kernel
theorem tyX4_ok : ∀ k, k < 6 → parseFieldDescriptor (TX4 k).2.2.1 = some (tyX4 k) := by decide +kernel
abbrev cX4_init : ByteArray := prog_17_method_1_code
def yX4_init : MethodName := ⟨RX4, "<init>", "()V"⟩
def dkwX4_init_0 : List UInt8 := [42, 183, 0, 3, 42, 16, 100, 181, 0, 9, 42, 16, 50, 181, 0, 15, 42, 6, 188, 10, 181, 0, 18, 177]
abbrev dktX4_init_0 : List UInt8 := dkwX4_init_0 ++ []
theorem dksX4_init_0 : cX4_init.data.toList.drop 0 = dktX4_init_0 := by decide +kernel
theorem dX4_init_0 : decode cX4_init 0 = .ok (.aload_n 0, 1) := dk_42 (dk_at dksX4_init_0 0 rfl rfl)
theorem dX4_init_1 : decode cX4_init 1 = .ok (.invokespecial 3, 3) := dk_183 0 3 (dk_at dksX4_init_0 1 rfl rfl)
theorem dX4_init_4 : decode cX4_init 4 = .ok (.aload_n 0, 1) := dk_42 (dk_at dksX4_init_0 4 rfl rfl)
theorem dX4_init_5 : decode cX4_init 5 = .ok (.bipush 100, 2) := dk_16 100 (dk_at dksX4_init_0 5 rfl rfl)
theorem dX4_init_7 : decode cX4_init 7 = .ok (.putfield 9, 3) := dk_181 0 9 (dk_at dksX4_init_0 7 rfl rfl)
theorem dX4_init_10 : decode cX4_init 10 = .ok (.aload_n 0, 1) := dk_42 (dk_at dksX4_init_0 10 rfl rfl)
theorem dX4_init_11 : decode cX4_init 11 = .ok (.bipush 50, 2) := dk_16 50 (dk_at dksX4_init_0 11 rfl rfl)
theorem dX4_init_13 : decode cX4_init 13 = .ok (.putfield 15, 3) := dk_181 0 15 (dk_at dksX4_init_0 13 rfl rfl)
theorem dX4_init_16 : decode cX4_init 16 = .ok (.aload_n 0, 1) := dk_42 (dk_at dksX4_init_0 16 rfl rfl)
theorem dX4_init_17 : decode cX4_init 17 = .ok (.iconst 3, 1) := dk_6 (dk_at dksX4_init_0 17 rfl rfl)
theorem dX4_init_18 : decode cX4_init 18 = .ok (.newarray .int, 2) := dk_188_10 (dk_at dksX4_init_0 18 rfl rfl)
theorem dX4_init_20 : decode cX4_init 20 = .ok (.putfield 18, 3) := dk_181 0 18 (dk_at dksX4_init_0 20 rfl rfl)
theorem dX4_init_23 : decode cX4_init 23 = .ok (.return_, 1) := dk_177 (dk_at dksX4_init_0 23 rfl rfl)
abbrev cX4_broughtOn : ByteArray := prog_17_method_2_code
def yX4_broughtOn : MethodName := ⟨RX4, "broughtOn", "(II)I"⟩
def dkwX4_broughtOn_0 : List UInt8 := [42, 180, 0, 22, 27, 160, 0, 12, 42, 180, 0, 18, 28, 46, 167, 0, 4, 3, 172]
abbrev dktX4_broughtOn_0 : List UInt8 := dkwX4_broughtOn_0 ++ []
theorem dksX4_broughtOn_0 : cX4_broughtOn.data.toList.drop 0 = dktX4_broughtOn_0 := by decide +kernel
theorem dX4_broughtOn_0 : decode cX4_broughtOn 0 = .ok (.aload_n 0, 1) := dk_42 (dk_at dksX4_broughtOn_0 0 rfl rfl)
theorem dX4_broughtOn_1 : decode cX4_broughtOn 1 = .ok (.getfield 22, 3) := dk_180 0 22 (dk_at dksX4_broughtOn_0 1 rfl rfl)
theorem dX4_broughtOn_4 : decode cX4_broughtOn 4 = .ok (.iload_n 1, 1) := dk_27 (dk_at dksX4_broughtOn_0 4 rfl rfl)
theorem dX4_broughtOn_5 : decode cX4_broughtOn 5 = .ok (.if_icmp .ne 12, 3) := dk_160 0 12 (dk_at dksX4_broughtOn_0 5 rfl rfl)
theorem dX4_broughtOn_8 : decode cX4_broughtOn 8 = .ok (.aload_n 0, 1) := dk_42 (dk_at dksX4_broughtOn_0 8 rfl rfl)
theorem dX4_broughtOn_9 : decode cX4_broughtOn 9 = .ok (.getfield 18, 3) := dk_180 0 18 (dk_at dksX4_broughtOn_0 9 rfl rfl)
theorem dX4_broughtOn_12 : decode cX4_broughtOn 12 = .ok (.iload_n 2, 1) := dk_28 (dk_at dksX4_broughtOn_0 12 rfl rfl)
theorem dX4_broughtOn_13 : decode cX4_broughtOn 13 = .ok (.iaload, 1) := dk_46 (dk_at dksX4_broughtOn_0 13 rfl rfl)
theorem dX4_broughtOn_14 : decode cX4_broughtOn 14 = .ok (.goto 4, 3) := dk_167 0 4 (dk_at dksX4_broughtOn_0 14 rfl rfl)
theorem dX4_broughtOn_17 : decode cX4_broughtOn 17 = .ok (.iconst 0, 1) := dk_3 (dk_at dksX4_broughtOn_0 17 rfl rfl)
theorem dX4_broughtOn_18 : decode cX4_broughtOn 18 = .ok (.ireturn, 1) := dk_172 (dk_at dksX4_broughtOn_0 18 rfl rfl)
abbrev cX4_bring : ByteArray := prog_17_method_3_code
def yX4_bring : MethodName := ⟨RX4, "bring", "(III)V"⟩
def dkwX4_bring_1 : List UInt8 := [79, 132, 4, 1, 167, 255, 239, 42, 27, 181, 0, 22, 42, 180, 0, 18, 28, 92, 46, 29, 96, 79, 177]
abbrev dktX4_bring_1 : List UInt8 := dkwX4_bring_1 ++ []
def dkwX4_bring_0 : List UInt8 := [42, 180, 0, 22, 27, 159, 0, 26, 3, 54, 4, 21, 4, 6, 162, 0, 17, 42, 180, 0, 18, 21, 4, 3]
abbrev dktX4_bring_0 : List UInt8 := dkwX4_bring_0 ++ dktX4_bring_1
theorem dksX4_bring_0 : cX4_bring.data.toList.drop 0 = dktX4_bring_0 := by decide +kernel
theorem dksX4_bring_1 : cX4_bring.data.toList.drop 24 = dktX4_bring_1 := dk_seg dksX4_bring_0 24 rfl rfl
theorem dX4_bring_0 : decode cX4_bring 0 = .ok (.aload_n 0, 1) := dk_42 (dk_at dksX4_bring_0 0 rfl rfl)
theorem dX4_bring_1 : decode cX4_bring 1 = .ok (.getfield 22, 3) := dk_180 0 22 (dk_at dksX4_bring_0 1 rfl rfl)
theorem dX4_bring_4 : decode cX4_bring 4 = .ok (.iload_n 1, 1) := dk_27 (dk_at dksX4_bring_0 4 rfl rfl)
theorem dX4_bring_5 : decode cX4_bring 5 = .ok (.if_icmp .eq 26, 3) := dk_159 0 26 (dk_at dksX4_bring_0 5 rfl rfl)
theorem dX4_bring_8 : decode cX4_bring 8 = .ok (.iconst 0, 1) := dk_3 (dk_at dksX4_bring_0 8 rfl rfl)
theorem dX4_bring_9 : decode cX4_bring 9 = .ok (.istore 4, 2) := dk_54 4 (dk_at dksX4_bring_0 9 rfl rfl)
theorem dX4_bring_11 : decode cX4_bring 11 = .ok (.iload 4, 2) := dk_21 4 (dk_at dksX4_bring_0 11 rfl rfl)
theorem dX4_bring_13 : decode cX4_bring 13 = .ok (.iconst 3, 1) := dk_6 (dk_at dksX4_bring_0 13 rfl rfl)
theorem dX4_bring_14 : decode cX4_bring 14 = .ok (.if_icmp .ge 17, 3) := dk_162 0 17 (dk_at dksX4_bring_0 14 rfl rfl)
theorem dX4_bring_17 : decode cX4_bring 17 = .ok (.aload_n 0, 1) := dk_42 (dk_at dksX4_bring_0 17 rfl rfl)
theorem dX4_bring_18 : decode cX4_bring 18 = .ok (.getfield 18, 3) := dk_180 0 18 (dk_at dksX4_bring_0 18 rfl rfl)
theorem dX4_bring_21 : decode cX4_bring 21 = .ok (.iload 4, 2) := dk_21 4 (dk_at dksX4_bring_0 21 rfl rfl)
theorem dX4_bring_23 : decode cX4_bring 23 = .ok (.iconst 0, 1) := dk_3 (dk_at dksX4_bring_0 23 rfl rfl)
theorem dX4_bring_24 : decode cX4_bring 24 = .ok (.iastore, 1) := dk_79 (dk_at dksX4_bring_1 0 rfl rfl)
theorem dX4_bring_25 : decode cX4_bring 25 = .ok (.iinc 4 1, 3) := dk_132 4 1 (dk_at dksX4_bring_1 1 rfl rfl)
theorem dX4_bring_28 : decode cX4_bring 28 = .ok (.goto (-17), 3) := dk_167 255 239 (dk_at dksX4_bring_1 4 rfl rfl)
theorem dX4_bring_31 : decode cX4_bring 31 = .ok (.aload_n 0, 1) := dk_42 (dk_at dksX4_bring_1 7 rfl rfl)
theorem dX4_bring_32 : decode cX4_bring 32 = .ok (.iload_n 1, 1) := dk_27 (dk_at dksX4_bring_1 8 rfl rfl)
theorem dX4_bring_33 : decode cX4_bring 33 = .ok (.putfield 22, 3) := dk_181 0 22 (dk_at dksX4_bring_1 9 rfl rfl)
theorem dX4_bring_36 : decode cX4_bring 36 = .ok (.aload_n 0, 1) := dk_42 (dk_at dksX4_bring_1 12 rfl rfl)
theorem dX4_bring_37 : decode cX4_bring 37 = .ok (.getfield 18, 3) := dk_180 0 18 (dk_at dksX4_bring_1 13 rfl rfl)
theorem dX4_bring_40 : decode cX4_bring 40 = .ok (.iload_n 2, 1) := dk_28 (dk_at dksX4_bring_1 16 rfl rfl)
theorem dX4_bring_41 : decode cX4_bring 41 = .ok (.dup2, 1) := dk_92 (dk_at dksX4_bring_1 17 rfl rfl)
theorem dX4_bring_42 : decode cX4_bring 42 = .ok (.iaload, 1) := dk_46 (dk_at dksX4_bring_1 18 rfl rfl)
theorem dX4_bring_43 : decode cX4_bring 43 = .ok (.iload_n 3, 1) := dk_29 (dk_at dksX4_bring_1 19 rfl rfl)
theorem dX4_bring_44 : decode cX4_bring 44 = .ok (.iadd, 1) := dk_96 (dk_at dksX4_bring_1 20 rfl rfl)
theorem dX4_bring_45 : decode cX4_bring 45 = .ok (.iastore, 1) := dk_79 (dk_at dksX4_bring_1 21 rfl rfl)
theorem dX4_bring_46 : decode cX4_bring 46 = .ok (.return_, 1) := dk_177 (dk_at dksX4_bring_1 22 rfl rfl)
abbrev cX4_all : ByteArray := prog_17_method_4_code
def yX4_all : MethodName := ⟨RX4, "all", "(I)I"⟩
def dkwX4_all_0 : List UInt8 := [42, 27, 3, 182, 0, 25, 42, 27, 4, 182, 0, 25, 96, 42, 27, 5, 182, 0, 25, 96, 172]
abbrev dktX4_all_0 : List UInt8 := dkwX4_all_0 ++ []
theorem dksX4_all_0 : cX4_all.data.toList.drop 0 = dktX4_all_0 := by decide +kernel
theorem dX4_all_0 : decode cX4_all 0 = .ok (.aload_n 0, 1) := dk_42 (dk_at dksX4_all_0 0 rfl rfl)
theorem dX4_all_1 : decode cX4_all 1 = .ok (.iload_n 1, 1) := dk_27 (dk_at dksX4_all_0 1 rfl rfl)
theorem dX4_all_2 : decode cX4_all 2 = .ok (.iconst 0, 1) := dk_3 (dk_at dksX4_all_0 2 rfl rfl)
theorem dX4_all_3 : decode cX4_all 3 = .ok (.invokevirtual 25, 3) := dk_182 0 25 (dk_at dksX4_all_0 3 rfl rfl)
theorem dX4_all_6 : decode cX4_all 6 = .ok (.aload_n 0, 1) := dk_42 (dk_at dksX4_all_0 6 rfl rfl)
theorem dX4_all_7 : decode cX4_all 7 = .ok (.iload_n 1, 1) := dk_27 (dk_at dksX4_all_0 7 rfl rfl)
theorem dX4_all_8 : decode cX4_all 8 = .ok (.iconst 1, 1) := dk_4 (dk_at dksX4_all_0 8 rfl rfl)
theorem dX4_all_9 : decode cX4_all 9 = .ok (.invokevirtual 25, 3) := dk_182 0 25 (dk_at dksX4_all_0 9 rfl rfl)
theorem dX4_all_12 : decode cX4_all 12 = .ok (.iadd, 1) := dk_96 (dk_at dksX4_all_0 12 rfl rfl)
theorem dX4_all_13 : decode cX4_all 13 = .ok (.aload_n 0, 1) := dk_42 (dk_at dksX4_all_0 13 rfl rfl)
theorem dX4_all_14 : decode cX4_all 14 = .ok (.iload_n 1, 1) := dk_27 (dk_at dksX4_all_0 14 rfl rfl)
theorem dX4_all_15 : decode cX4_all 15 = .ok (.iconst 2, 1) := dk_5 (dk_at dksX4_all_0 15 rfl rfl)
theorem dX4_all_16 : decode cX4_all 16 = .ok (.invokevirtual 25, 3) := dk_182 0 25 (dk_at dksX4_all_0 16 rfl rfl)
theorem dX4_all_19 : decode cX4_all 19 = .ok (.iadd, 1) := dk_96 (dk_at dksX4_all_0 19 rfl rfl)
theorem dX4_all_20 : decode cX4_all 20 = .ok (.ireturn, 1) := dk_172 (dk_at dksX4_all_0 20 rfl rfl)
theorem q70 : (Jvm.Cond.initialized "BloomclockModel$Grower") ∈ lw_all := lw_g (lw_at lw_m1 15 rfl) rfl
theorem q576 : (Jvm.Cond.selects "BloomclockModel$Grower" ({ cls := "java/lang/Object", name := "getClass", desc := "()Ljava/lang/Class;" } : Jvm.MethodName) ({ cls := "java/lang/Object", name := "getClass", desc := "()Ljava/lang/Class;" } : Jvm.MethodName)) ∈ lw_all := lw_g (lw_at lw_m3 41 rfl) rfl
theorem q1297 : (Jvm.Cond.instantiable "BloomclockModel$Grower" (6 : Nat)) ∈ lw_all := lw_g (lw_at lw_m6 42 rfl) rfl
theorem q1299 : (Jvm.Cond.instanceMethod ({ cls := "BloomclockModel$Grower", name := "<init>", desc := "()V" } : Jvm.MethodName)) ∈ lw_all := lw_g (lw_at lw_m6 44 rfl) rfl
theorem q1300 : (Jvm.Cond.code ({ cls := "BloomclockModel$Grower", name := "<init>", desc := "()V" } : Jvm.MethodName) prog_17_method_1_code (1 : Nat) (Option.none : Option Jvm.ClassFile.FieldType)) ∈ lw_all := lw_g (lw_at lw_m6 45 rfl) rfl
theorem q1301 : (Jvm.Cond.methodLink "BloomclockModel$Grower" (3 : Nat) ({ cls := "java/lang/Object", name := "<init>", desc := "()V" } : Jvm.MethodName)) ∈ lw_all := lw_g (lw_at lw_m6 46 rfl) rfl
theorem q1302 : (Jvm.Cond.fieldLink "BloomclockModel$Grower" (9 : Nat) "BloomclockModel$Grower" "coins" "I") ∈ lw_all := lw_g (lw_at lw_m6 47 rfl) rfl
theorem q1306 : (Jvm.Cond.fieldLink "BloomclockModel$Grower" (15 : Nat) "BloomclockModel$Grower" "mark" "I") ∈ lw_all := lw_g (lw_at lw_m6 51 rfl) rfl
theorem q1310 : (Jvm.Cond.fieldLink "BloomclockModel$Grower" (22 : Nat) "BloomclockModel$Grower" "day" "I") ∈ lw_all := lw_g (lw_at lw_m6 55 rfl) rfl
theorem q1311 : (Jvm.Cond.fieldLink "BloomclockModel$Grower" (18 : Nat) "BloomclockModel$Grower" "brought" "[I") ∈ lw_all := lw_g (lw_at lw_m6 56 rfl) rfl
theorem q1312 : (Jvm.Cond.lays "BloomclockModel$Grower" "BloomclockModel$Grower" "coins" "I") ∈ lw_all := lw_g (lw_at lw_m6 57 rfl) rfl
theorem q1313 : (Jvm.Cond.soleField "BloomclockModel$Grower" "coins") ∈ lw_all := lw_g (lw_at lw_m6 58 rfl) rfl
theorem q1314 : (Jvm.Cond.lays "BloomclockModel$Grower" "BloomclockModel$Grower" "lamps" "I") ∈ lw_all := lw_g (lw_at lw_m6 59 rfl) rfl
theorem q1315 : (Jvm.Cond.soleField "BloomclockModel$Grower" "lamps") ∈ lw_all := lw_g (lw_at lw_m6 60 rfl) rfl
theorem q1316 : (Jvm.Cond.lays "BloomclockModel$Grower" "BloomclockModel$Grower" "mark" "I") ∈ lw_all := lw_g (lw_at lw_m6 61 rfl) rfl
theorem q1317 : (Jvm.Cond.soleField "BloomclockModel$Grower" "mark") ∈ lw_all := lw_g (lw_at lw_m6 62 rfl) rfl
theorem q1318 : (Jvm.Cond.lays "BloomclockModel$Grower" "BloomclockModel$Grower" "sold" "I") ∈ lw_all := lw_g (lw_at lw_m6 63 rfl) rfl
theorem q1319 : (Jvm.Cond.soleField "BloomclockModel$Grower" "sold") ∈ lw_all := lw_g (lw_at lw_m6 64 rfl) rfl
theorem q1320 : (Jvm.Cond.lays "BloomclockModel$Grower" "BloomclockModel$Grower" "day" "I") ∈ lw_all := lw_g (lw_at lw_m6 65 rfl) rfl
theorem q1321 : (Jvm.Cond.soleField "BloomclockModel$Grower" "day") ∈ lw_all := lw_g (lw_at lw_m6 66 rfl) rfl
theorem q1322 : (Jvm.Cond.laysFinal "BloomclockModel$Grower" "BloomclockModel$Grower" "brought" "[I") ∈ lw_all := lw_g (lw_at lw_m6 67 rfl) rfl
theorem q1323 : (Jvm.Cond.soleField "BloomclockModel$Grower" "brought") ∈ lw_all := lw_g (lw_at lw_m6 68 rfl) rfl
theorem q1324 : (Jvm.Cond.superclass "BloomclockModel$Grower" "java/lang/Object") ∈ lw_all := lw_g (lw_at lw_m6 69 rfl) rfl
theorem q1542 : (Jvm.Cond.instanceMethod ({ cls := "BloomclockModel$Grower", name := "broughtOn", desc := "(II)I" } : Jvm.MethodName)) ∈ lw_all := lw_g (lw_at lw_m7 47 rfl) rfl
theorem q1543 : (Jvm.Cond.selects "BloomclockModel$Grower" ({ cls := "BloomclockModel$Grower", name := "broughtOn", desc := "(II)I" } : Jvm.MethodName) ({ cls := "BloomclockModel$Grower", name := "broughtOn", desc := "(II)I" } : Jvm.MethodName)) ∈ lw_all := lw_g (lw_at lw_m7 48 rfl) rfl
theorem q1544 : (Jvm.Cond.code ({ cls := "BloomclockModel$Grower", name := "broughtOn", desc := "(II)I" } : Jvm.MethodName) prog_17_method_2_code (3 : Nat) (Option.some Jvm.ClassFile.FieldType.int)) ∈ lw_all := lw_g (lw_at lw_m7 49 rfl) rfl
theorem q1546 : (Jvm.Cond.instanceMethod ({ cls := "BloomclockModel$Grower", name := "bring", desc := "(III)V" } : Jvm.MethodName)) ∈ lw_all := lw_g (lw_at lw_m7 51 rfl) rfl
theorem q1547 : (Jvm.Cond.selects "BloomclockModel$Grower" ({ cls := "BloomclockModel$Grower", name := "bring", desc := "(III)V" } : Jvm.MethodName) ({ cls := "BloomclockModel$Grower", name := "bring", desc := "(III)V" } : Jvm.MethodName)) ∈ lw_all := lw_g (lw_at lw_m7 52 rfl) rfl
theorem q1548 : (Jvm.Cond.code ({ cls := "BloomclockModel$Grower", name := "bring", desc := "(III)V" } : Jvm.MethodName) prog_17_method_3_code (5 : Nat) (Option.none : Option Jvm.ClassFile.FieldType)) ∈ lw_all := lw_g (lw_at lw_m7 53 rfl) rfl
theorem q1880 : (Jvm.Cond.selects "BloomclockModel$Grower" ({ cls := "java/lang/Object", name := "equals", desc := "(Ljava/lang/Object;)Z" } : Jvm.MethodName) ({ cls := "java/lang/Object", name := "equals", desc := "(Ljava/lang/Object;)Z" } : Jvm.MethodName)) ∈ lw_all := lw_g (lw_at lw_m8 145 rfl) rfl
theorem q1948 : (Jvm.Cond.instanceMethod ({ cls := "BloomclockModel$Grower", name := "all", desc := "(I)I" } : Jvm.MethodName)) ∈ lw_all := lw_g (lw_at lw_m8 213 rfl) rfl
theorem q1949 : (Jvm.Cond.selects "BloomclockModel$Grower" ({ cls := "BloomclockModel$Grower", name := "all", desc := "(I)I" } : Jvm.MethodName) ({ cls := "BloomclockModel$Grower", name := "all", desc := "(I)I" } : Jvm.MethodName)) ∈ lw_all := lw_g (lw_at lw_m8 214 rfl) rfl
theorem q1950 : (Jvm.Cond.code ({ cls := "BloomclockModel$Grower", name := "all", desc := "(I)I" } : Jvm.MethodName) prog_17_method_4_code (2 : Nat) (Option.some Jvm.ClassFile.FieldType.int)) ∈ lw_all := lw_g (lw_at lw_m8 215 rfl) rfl
theorem q1951 : (Jvm.Cond.methodLink "BloomclockModel$Grower" (25 : Nat) ({ cls := "BloomclockModel$Grower", name := "broughtOn", desc := "(II)I" } : Jvm.MethodName)) ∈ lw_all := lw_g (lw_at lw_m8 216 rfl) rfl
theorem q2053 : (Jvm.Cond.castable "BloomclockModel$Grower" "java/lang/Object") ∈ lw_tbl := lw_at lw_m9 78 rfl
theorem in_X4 : ∀ w ∈ wsX40, w ∈ lw_all := lw_in wsX40 [1312, 1314, 1316, 1318, 1320, 1322] (by decide +kernel) (by decide +kernel)
/-! BloomclockModel$Crop -/
set_option maxRecDepth 100000
def RX6 : String := "BloomclockModel$Crop"
def TX6 : u_T := fun k => match k with
  | 0 => ("BloomclockModel$Crop", "grower", "LBloomclockModel$Grower;", true)
  | 1 => ("BloomclockModel$Crop", "number", "I", true)
  | 2 => ("BloomclockModel$Crop", "cultivar", "I", true)
  | 3 => ("BloomclockModel$Crop", "plants", "I", false)
  | 4 => ("BloomclockModel$Crop", "sum", "I", false)
  | 5 => ("BloomclockModel$Crop", "age", "I", false)
  | _ => ("BloomclockModel$Crop", "isReady", "Z", false)
def tyX6 : Nat → FieldType := fun k => match k with
  | 0 => .object "BloomclockModel$Grower"
  | 1 => .int
  | 2 => .int
  | 3 => .int
  | 4 => .int
  | 5 => .int
  | _ => .boolean
abbrev wsX60 : List Cond := u_ws RX6 TX6 7
theorem nmX6 : ∀ a, a < 7 → ∀ b, b < 7 → a ≠ b → (TX6 a).2.1 ≠ (TX6 b).2.1 := by decide +kernel
theorem tyX6_ok : ∀ k, k < 7 → parseFieldDescriptor (TX6 k).2.2.1 = some (tyX6 k) := by decide +kernel
abbrev cX6_init : ByteArray := prog_16_method_1_code
def yX6_init : MethodName := ⟨RX6, "<init>", "(LBloomclockModel$Grower;III)V"⟩
def dkwX6_init_1 : List UInt8 := [181, 0, 22, 177]
abbrev dktX6_init_1 : List UInt8 := dkwX6_init_1 ++ []
def dkwX6_init_0 : List UInt8 := [42, 183, 0, 3, 42, 43, 181, 0, 9, 42, 28, 181, 0, 15, 42, 29, 181, 0, 19, 42, 21, 4]
abbrev dktX6_init_0 : List UInt8 := dkwX6_init_0 ++ dktX6_init_1
theorem dksX6_init_0 : cX6_init.data.toList.drop 0 = dktX6_init_0 := by decide +kernel
theorem dksX6_init_1 : cX6_init.data.toList.drop 22 = dktX6_init_1 := dk_seg dksX6_init_0 22 rfl rfl
theorem dX6_init_0 : decode cX6_init 0 = .ok (.aload_n 0, 1) := dk_42 (dk_at dksX6_init_0 0 rfl rfl)
theorem dX6_init_1 : decode cX6_init 1 = .ok (.invokespecial 3, 3) := dk_183 0 3 (dk_at dksX6_init_0 1 rfl rfl)
theorem dX6_init_4 : decode cX6_init 4 = .ok (.aload_n 0, 1) := dk_42 (dk_at dksX6_init_0 4 rfl rfl)
theorem dX6_init_5 : decode cX6_init 5 = .ok (.aload_n 1, 1) := dk_43 (dk_at dksX6_init_0 5 rfl rfl)
theorem dX6_init_6 : decode cX6_init 6 = .ok (.putfield 9, 3) := dk_181 0 9 (dk_at dksX6_init_0 6 rfl rfl)
theorem dX6_init_9 : decode cX6_init 9 = .ok (.aload_n 0, 1) := dk_42 (dk_at dksX6_init_0 9 rfl rfl)
theorem dX6_init_10 : decode cX6_init 10 = .ok (.iload_n 2, 1) := dk_28 (dk_at dksX6_init_0 10 rfl rfl)
theorem dX6_init_11 : decode cX6_init 11 = .ok (.putfield 15, 3) := dk_181 0 15 (dk_at dksX6_init_0 11 rfl rfl)
theorem dX6_init_14 : decode cX6_init 14 = .ok (.aload_n 0, 1) := dk_42 (dk_at dksX6_init_0 14 rfl rfl)
theorem dX6_init_15 : decode cX6_init 15 = .ok (.iload_n 3, 1) := dk_29 (dk_at dksX6_init_0 15 rfl rfl)
theorem dX6_init_16 : decode cX6_init 16 = .ok (.putfield 19, 3) := dk_181 0 19 (dk_at dksX6_init_0 16 rfl rfl)
theorem dX6_init_19 : decode cX6_init 19 = .ok (.aload_n 0, 1) := dk_42 (dk_at dksX6_init_0 19 rfl rfl)
theorem dX6_init_20 : decode cX6_init 20 = .ok (.iload 4, 2) := dk_21 4 (dk_at dksX6_init_0 20 rfl rfl)
theorem dX6_init_22 : decode cX6_init 22 = .ok (.putfield 22, 3) := dk_181 0 22 (dk_at dksX6_init_1 0 rfl rfl)
theorem dX6_init_25 : decode cX6_init 25 = .ok (.return_, 1) := dk_177 (dk_at dksX6_init_1 3 rfl rfl)
abbrev cX6_grow : ByteArray := prog_16_method_2_code
def yX6_grow : MethodName := ⟨RX6, "grow", "(I)V"⟩
def dkwX6_grow_2 : List UInt8 := [46, 161, 0, 8, 42, 4, 181, 0, 33, 177]
abbrev dktX6_grow_2 : List UInt8 := dkwX6_grow_2 ++ []
def dkwX6_grow_1 : List UInt8 := [153, 0, 13, 42, 89, 180, 0, 37, 4, 96, 181, 0, 37, 42, 180, 0, 25, 178, 0, 40, 42, 180, 0, 19]
abbrev dktX6_grow_1 : List UInt8 := dkwX6_grow_1 ++ dktX6_grow_2
def dkwX6_grow_0 : List UInt8 := [42, 89, 180, 0, 25, 27, 42, 180, 0, 9, 180, 0, 28, 96, 96, 181, 0, 25, 42, 180, 0, 33]
abbrev dktX6_grow_0 : List UInt8 := dkwX6_grow_0 ++ dktX6_grow_1
theorem dksX6_grow_0 : cX6_grow.data.toList.drop 0 = dktX6_grow_0 := by decide +kernel
theorem dksX6_grow_1 : cX6_grow.data.toList.drop 22 = dktX6_grow_1 := dk_seg dksX6_grow_0 22 rfl rfl
theorem dksX6_grow_2 : cX6_grow.data.toList.drop 46 = dktX6_grow_2 := dk_seg dksX6_grow_1 24 rfl rfl
theorem dX6_grow_0 : decode cX6_grow 0 = .ok (.aload_n 0, 1) := dk_42 (dk_at dksX6_grow_0 0 rfl rfl)
theorem dX6_grow_1 : decode cX6_grow 1 = .ok (.dup, 1) := dk_89 (dk_at dksX6_grow_0 1 rfl rfl)
theorem dX6_grow_2 : decode cX6_grow 2 = .ok (.getfield 25, 3) := dk_180 0 25 (dk_at dksX6_grow_0 2 rfl rfl)
theorem dX6_grow_5 : decode cX6_grow 5 = .ok (.iload_n 1, 1) := dk_27 (dk_at dksX6_grow_0 5 rfl rfl)
theorem dX6_grow_6 : decode cX6_grow 6 = .ok (.aload_n 0, 1) := dk_42 (dk_at dksX6_grow_0 6 rfl rfl)
theorem dX6_grow_7 : decode cX6_grow 7 = .ok (.getfield 9, 3) := dk_180 0 9 (dk_at dksX6_grow_0 7 rfl rfl)
theorem dX6_grow_10 : decode cX6_grow 10 = .ok (.getfield 28, 3) := dk_180 0 28 (dk_at dksX6_grow_0 10 rfl rfl)
theorem dX6_grow_13 : decode cX6_grow 13 = .ok (.iadd, 1) := dk_96 (dk_at dksX6_grow_0 13 rfl rfl)
theorem dX6_grow_14 : decode cX6_grow 14 = .ok (.iadd, 1) := dk_96 (dk_at dksX6_grow_0 14 rfl rfl)
theorem dX6_grow_15 : decode cX6_grow 15 = .ok (.putfield 25, 3) := dk_181 0 25 (dk_at dksX6_grow_0 15 rfl rfl)
theorem dX6_grow_18 : decode cX6_grow 18 = .ok (.aload_n 0, 1) := dk_42 (dk_at dksX6_grow_0 18 rfl rfl)
theorem dX6_grow_19 : decode cX6_grow 19 = .ok (.getfield 33, 3) := dk_180 0 33 (dk_at dksX6_grow_0 19 rfl rfl)
theorem dX6_grow_22 : decode cX6_grow 22 = .ok (.ifCond .eq 13, 3) := dk_153 0 13 (dk_at dksX6_grow_1 0 rfl rfl)
theorem dX6_grow_25 : decode cX6_grow 25 = .ok (.aload_n 0, 1) := dk_42 (dk_at dksX6_grow_1 3 rfl rfl)
theorem dX6_grow_26 : decode cX6_grow 26 = .ok (.dup, 1) := dk_89 (dk_at dksX6_grow_1 4 rfl rfl)
theorem dX6_grow_27 : decode cX6_grow 27 = .ok (.getfield 37, 3) := dk_180 0 37 (dk_at dksX6_grow_1 5 rfl rfl)
theorem dX6_grow_30 : decode cX6_grow 30 = .ok (.iconst 1, 1) := dk_4 (dk_at dksX6_grow_1 8 rfl rfl)
theorem dX6_grow_31 : decode cX6_grow 31 = .ok (.iadd, 1) := dk_96 (dk_at dksX6_grow_1 9 rfl rfl)
theorem dX6_grow_32 : decode cX6_grow 32 = .ok (.putfield 37, 3) := dk_181 0 37 (dk_at dksX6_grow_1 10 rfl rfl)
theorem dX6_grow_35 : decode cX6_grow 35 = .ok (.aload_n 0, 1) := dk_42 (dk_at dksX6_grow_1 13 rfl rfl)
theorem dX6_grow_36 : decode cX6_grow 36 = .ok (.getfield 25, 3) := dk_180 0 25 (dk_at dksX6_grow_1 14 rfl rfl)
theorem dX6_grow_39 : decode cX6_grow 39 = .ok (.getstatic 40, 3) := dk_178 0 40 (dk_at dksX6_grow_1 17 rfl rfl)
theorem dX6_grow_42 : decode cX6_grow 42 = .ok (.aload_n 0, 1) := dk_42 (dk_at dksX6_grow_1 20 rfl rfl)
theorem dX6_grow_43 : decode cX6_grow 43 = .ok (.getfield 19, 3) := dk_180 0 19 (dk_at dksX6_grow_1 21 rfl rfl)
theorem dX6_grow_46 : decode cX6_grow 46 = .ok (.iaload, 1) := dk_46 (dk_at dksX6_grow_2 0 rfl rfl)
theorem dX6_grow_47 : decode cX6_grow 47 = .ok (.if_icmp .lt 8, 3) := dk_161 0 8 (dk_at dksX6_grow_2 1 rfl rfl)
theorem dX6_grow_50 : decode cX6_grow 50 = .ok (.aload_n 0, 1) := dk_42 (dk_at dksX6_grow_2 4 rfl rfl)
theorem dX6_grow_51 : decode cX6_grow 51 = .ok (.iconst 1, 1) := dk_4 (dk_at dksX6_grow_2 5 rfl rfl)
theorem dX6_grow_52 : decode cX6_grow 52 = .ok (.putfield 33, 3) := dk_181 0 33 (dk_at dksX6_grow_2 6 rfl rfl)
theorem dX6_grow_55 : decode cX6_grow 55 = .ok (.return_, 1) := dk_177 (dk_at dksX6_grow_2 9 rfl rfl)
abbrev cX6_readyIn : ByteArray := prog_16_method_3_code
def yX6_readyIn : MethodName := ⟨RX6, "readyIn", "(I)I"⟩
def dkwX6_readyIn_2 : List UInt8 := [96, 184, 0, 44, 172]
abbrev dktX6_readyIn_2 : List UInt8 := dkwX6_readyIn_2 ++ []
def dkwX6_readyIn_1 : List UInt8 := [167, 0, 28, 178, 0, 40, 42, 180, 0, 19, 46, 42, 180, 0, 25, 100, 27, 42, 180, 0, 9, 180, 0, 28]
abbrev dktX6_readyIn_1 : List UInt8 := dkwX6_readyIn_1 ++ dktX6_readyIn_2
def dkwX6_readyIn_0 : List UInt8 := [42, 180, 0, 33, 153, 0, 5, 3, 172, 27, 42, 180, 0, 9, 180, 0, 28, 96, 154, 0, 7, 2]
abbrev dktX6_readyIn_0 : List UInt8 := dkwX6_readyIn_0 ++ dktX6_readyIn_1
theorem dksX6_readyIn_0 : cX6_readyIn.data.toList.drop 0 = dktX6_readyIn_0 := by decide +kernel
theorem dksX6_readyIn_1 : cX6_readyIn.data.toList.drop 22 = dktX6_readyIn_1 := dk_seg dksX6_readyIn_0 22 rfl rfl
theorem dksX6_readyIn_2 : cX6_readyIn.data.toList.drop 46 = dktX6_readyIn_2 := dk_seg dksX6_readyIn_1 24 rfl rfl
theorem dX6_readyIn_0 : decode cX6_readyIn 0 = .ok (.aload_n 0, 1) := dk_42 (dk_at dksX6_readyIn_0 0 rfl rfl)
theorem dX6_readyIn_1 : decode cX6_readyIn 1 = .ok (.getfield 33, 3) := dk_180 0 33 (dk_at dksX6_readyIn_0 1 rfl rfl)
theorem dX6_readyIn_4 : decode cX6_readyIn 4 = .ok (.ifCond .eq 5, 3) := dk_153 0 5 (dk_at dksX6_readyIn_0 4 rfl rfl)
theorem dX6_readyIn_7 : decode cX6_readyIn 7 = .ok (.iconst 0, 1) := dk_3 (dk_at dksX6_readyIn_0 7 rfl rfl)
theorem dX6_readyIn_8 : decode cX6_readyIn 8 = .ok (.ireturn, 1) := dk_172 (dk_at dksX6_readyIn_0 8 rfl rfl)
theorem dX6_readyIn_9 : decode cX6_readyIn 9 = .ok (.iload_n 1, 1) := dk_27 (dk_at dksX6_readyIn_0 9 rfl rfl)
theorem dX6_readyIn_10 : decode cX6_readyIn 10 = .ok (.aload_n 0, 1) := dk_42 (dk_at dksX6_readyIn_0 10 rfl rfl)
theorem dX6_readyIn_11 : decode cX6_readyIn 11 = .ok (.getfield 9, 3) := dk_180 0 9 (dk_at dksX6_readyIn_0 11 rfl rfl)
theorem dX6_readyIn_14 : decode cX6_readyIn 14 = .ok (.getfield 28, 3) := dk_180 0 28 (dk_at dksX6_readyIn_0 14 rfl rfl)
theorem dX6_readyIn_17 : decode cX6_readyIn 17 = .ok (.iadd, 1) := dk_96 (dk_at dksX6_readyIn_0 17 rfl rfl)
theorem dX6_readyIn_18 : decode cX6_readyIn 18 = .ok (.ifCond .ne 7, 3) := dk_154 0 7 (dk_at dksX6_readyIn_0 18 rfl rfl)
theorem dX6_readyIn_21 : decode cX6_readyIn 21 = .ok (.iconst (-1), 1) := dk_2 (dk_at dksX6_readyIn_0 21 rfl rfl)
theorem dX6_readyIn_22 : decode cX6_readyIn 22 = .ok (.goto 28, 3) := dk_167 0 28 (dk_at dksX6_readyIn_1 0 rfl rfl)
theorem dX6_readyIn_25 : decode cX6_readyIn 25 = .ok (.getstatic 40, 3) := dk_178 0 40 (dk_at dksX6_readyIn_1 3 rfl rfl)
theorem dX6_readyIn_28 : decode cX6_readyIn 28 = .ok (.aload_n 0, 1) := dk_42 (dk_at dksX6_readyIn_1 6 rfl rfl)
theorem dX6_readyIn_29 : decode cX6_readyIn 29 = .ok (.getfield 19, 3) := dk_180 0 19 (dk_at dksX6_readyIn_1 7 rfl rfl)
theorem dX6_readyIn_32 : decode cX6_readyIn 32 = .ok (.iaload, 1) := dk_46 (dk_at dksX6_readyIn_1 10 rfl rfl)
theorem dX6_readyIn_33 : decode cX6_readyIn 33 = .ok (.aload_n 0, 1) := dk_42 (dk_at dksX6_readyIn_1 11 rfl rfl)
theorem dX6_readyIn_34 : decode cX6_readyIn 34 = .ok (.getfield 25, 3) := dk_180 0 25 (dk_at dksX6_readyIn_1 12 rfl rfl)
theorem dX6_readyIn_37 : decode cX6_readyIn 37 = .ok (.isub, 1) := dk_100 (dk_at dksX6_readyIn_1 15 rfl rfl)
theorem dX6_readyIn_38 : decode cX6_readyIn 38 = .ok (.iload_n 1, 1) := dk_27 (dk_at dksX6_readyIn_1 16 rfl rfl)
theorem dX6_readyIn_39 : decode cX6_readyIn 39 = .ok (.aload_n 0, 1) := dk_42 (dk_at dksX6_readyIn_1 17 rfl rfl)
theorem dX6_readyIn_40 : decode cX6_readyIn 40 = .ok (.getfield 9, 3) := dk_180 0 9 (dk_at dksX6_readyIn_1 18 rfl rfl)
theorem dX6_readyIn_43 : decode cX6_readyIn 43 = .ok (.getfield 28, 3) := dk_180 0 28 (dk_at dksX6_readyIn_1 21 rfl rfl)
theorem dX6_readyIn_46 : decode cX6_readyIn 46 = .ok (.iadd, 1) := dk_96 (dk_at dksX6_readyIn_2 0 rfl rfl)
theorem dX6_readyIn_47 : decode cX6_readyIn 47 = .ok (.invokestatic 44, 3) := dk_184 0 44 (dk_at dksX6_readyIn_2 1 rfl rfl)
theorem dX6_readyIn_50 : decode cX6_readyIn 50 = .ok (.ireturn, 1) := dk_172 (dk_at dksX6_readyIn_2 4 rfl rfl)
theorem q78 : (Jvm.Cond.initialized "BloomclockModel$Crop") ∈ lw_all := lw_g (lw_at lw_m1 23 rfl) rfl
theorem q575 : (Jvm.Cond.selects "BloomclockModel$Crop" ({ cls := "java/lang/Object", name := "getClass", desc := "()Ljava/lang/Class;" } : Jvm.MethodName) ({ cls := "java/lang/Object", name := "getClass", desc := "()Ljava/lang/Class;" } : Jvm.MethodName)) ∈ lw_all := lw_g (lw_at lw_m3 40 rfl) rfl
theorem q1304 : (Jvm.Cond.fieldLink "BloomclockModel$Crop" (28 : Nat) "BloomclockModel$Grower" "lamps" "I") ∈ lw_all := lw_g (lw_at lw_m6 49 rfl) rfl
theorem q1346 : (Jvm.Cond.instantiable "BloomclockModel$Crop" (7 : Nat)) ∈ lw_all := lw_g (lw_at lw_m6 91 rfl) rfl
theorem q1348 : (Jvm.Cond.instanceMethod ({ cls := "BloomclockModel$Crop", name := "<init>", desc := "(LBloomclockModel$Grower;III)V" } : Jvm.MethodName)) ∈ lw_all := lw_g (lw_at lw_m6 93 rfl) rfl
theorem q1349 : (Jvm.Cond.code ({ cls := "BloomclockModel$Crop", name := "<init>", desc := "(LBloomclockModel$Grower;III)V" } : Jvm.MethodName) prog_16_method_1_code (5 : Nat) (Option.none : Option Jvm.ClassFile.FieldType)) ∈ lw_all := lw_g (lw_at lw_m6 94 rfl) rfl
theorem q1350 : (Jvm.Cond.methodLink "BloomclockModel$Crop" (3 : Nat) ({ cls := "java/lang/Object", name := "<init>", desc := "()V" } : Jvm.MethodName)) ∈ lw_all := lw_g (lw_at lw_m6 95 rfl) rfl
theorem q1351 : (Jvm.Cond.fieldLink "BloomclockModel$Crop" (9 : Nat) "BloomclockModel$Crop" "grower" "LBloomclockModel$Grower;") ∈ lw_all := lw_g (lw_at lw_m6 96 rfl) rfl
theorem q1352 : (Jvm.Cond.fieldLink "BloomclockModel$Crop" (15 : Nat) "BloomclockModel$Crop" "number" "I") ∈ lw_all := lw_g (lw_at lw_m6 97 rfl) rfl
theorem q1354 : (Jvm.Cond.fieldLink "BloomclockModel$Crop" (19 : Nat) "BloomclockModel$Crop" "cultivar" "I") ∈ lw_all := lw_g (lw_at lw_m6 99 rfl) rfl
theorem q1356 : (Jvm.Cond.fieldLink "BloomclockModel$Crop" (22 : Nat) "BloomclockModel$Crop" "plants" "I") ∈ lw_all := lw_g (lw_at lw_m6 101 rfl) rfl
theorem q1358 : (Jvm.Cond.fieldLink "BloomclockModel$Crop" (25 : Nat) "BloomclockModel$Crop" "sum" "I") ∈ lw_all := lw_g (lw_at lw_m6 103 rfl) rfl
theorem q1360 : (Jvm.Cond.fieldLink "BloomclockModel$Crop" (37 : Nat) "BloomclockModel$Crop" "age" "I") ∈ lw_all := lw_g (lw_at lw_m6 105 rfl) rfl
theorem q1362 : (Jvm.Cond.fieldLink "BloomclockModel$Crop" (33 : Nat) "BloomclockModel$Crop" "isReady" "Z") ∈ lw_all := lw_g (lw_at lw_m6 107 rfl) rfl
theorem q1364 : (Jvm.Cond.laysFinal "BloomclockModel$Crop" "BloomclockModel$Crop" "grower" "LBloomclockModel$Grower;") ∈ lw_all := lw_g (lw_at lw_m6 109 rfl) rfl
theorem q1365 : (Jvm.Cond.soleField "BloomclockModel$Crop" "grower") ∈ lw_all := lw_g (lw_at lw_m6 110 rfl) rfl
theorem q1366 : (Jvm.Cond.laysFinal "BloomclockModel$Crop" "BloomclockModel$Crop" "number" "I") ∈ lw_all := lw_g (lw_at lw_m6 111 rfl) rfl
theorem q1367 : (Jvm.Cond.soleField "BloomclockModel$Crop" "number") ∈ lw_all := lw_g (lw_at lw_m6 112 rfl) rfl
theorem q1368 : (Jvm.Cond.laysFinal "BloomclockModel$Crop" "BloomclockModel$Crop" "cultivar" "I") ∈ lw_all := lw_g (lw_at lw_m6 113 rfl) rfl
theorem q1369 : (Jvm.Cond.soleField "BloomclockModel$Crop" "cultivar") ∈ lw_all := lw_g (lw_at lw_m6 114 rfl) rfl
theorem q1370 : (Jvm.Cond.lays "BloomclockModel$Crop" "BloomclockModel$Crop" "plants" "I") ∈ lw_all := lw_g (lw_at lw_m6 115 rfl) rfl
theorem q1371 : (Jvm.Cond.soleField "BloomclockModel$Crop" "plants") ∈ lw_all := lw_g (lw_at lw_m6 116 rfl) rfl
theorem q1372 : (Jvm.Cond.lays "BloomclockModel$Crop" "BloomclockModel$Crop" "sum" "I") ∈ lw_all := lw_g (lw_at lw_m6 117 rfl) rfl
theorem q1373 : (Jvm.Cond.soleField "BloomclockModel$Crop" "sum") ∈ lw_all := lw_g (lw_at lw_m6 118 rfl) rfl
theorem q1374 : (Jvm.Cond.lays "BloomclockModel$Crop" "BloomclockModel$Crop" "age" "I") ∈ lw_all := lw_g (lw_at lw_m6 119 rfl) rfl
theorem q1375 : (Jvm.Cond.soleField "BloomclockModel$Crop" "age") ∈ lw_all := lw_g (lw_at lw_m6 120 rfl) rfl
theorem q1376 : (Jvm.Cond.lays "BloomclockModel$Crop" "BloomclockModel$Crop" "isReady" "Z") ∈ lw_all := lw_g (lw_at lw_m6 121 rfl) rfl
theorem q1377 : (Jvm.Cond.soleField "BloomclockModel$Crop" "isReady") ∈ lw_all := lw_g (lw_at lw_m6 122 rfl) rfl
theorem q1378 : (Jvm.Cond.superclass "BloomclockModel$Crop" "java/lang/Object") ∈ lw_all := lw_g (lw_at lw_m6 123 rfl) rfl
theorem q1509 : (Jvm.Cond.instanceMethod ({ cls := "BloomclockModel$Crop", name := "grow", desc := "(I)V" } : Jvm.MethodName)) ∈ lw_all := lw_g (lw_at lw_m7 14 rfl) rfl
theorem q1510 : (Jvm.Cond.selects "BloomclockModel$Crop" ({ cls := "BloomclockModel$Crop", name := "grow", desc := "(I)V" } : Jvm.MethodName) ({ cls := "BloomclockModel$Crop", name := "grow", desc := "(I)V" } : Jvm.MethodName)) ∈ lw_all := lw_g (lw_at lw_m7 15 rfl) rfl
theorem q1511 : (Jvm.Cond.code ({ cls := "BloomclockModel$Crop", name := "grow", desc := "(I)V" } : Jvm.MethodName) prog_16_method_2_code (2 : Nat) (Option.none : Option Jvm.ClassFile.FieldType)) ∈ lw_all := lw_g (lw_at lw_m7 16 rfl) rfl
theorem q1512 : (Jvm.Cond.fieldLinkNest "BloomclockModel$Crop" (40 : Nat) "BloomclockModel" "ASKS" "[I" "BloomclockModel") ∈ lw_tbl := lw_at lw_m7 17 rfl
theorem q1879 : (Jvm.Cond.selects "BloomclockModel$Crop" ({ cls := "java/lang/Object", name := "equals", desc := "(Ljava/lang/Object;)Z" } : Jvm.MethodName) ({ cls := "java/lang/Object", name := "equals", desc := "(Ljava/lang/Object;)Z" } : Jvm.MethodName)) ∈ lw_all := lw_g (lw_at lw_m8 144 rfl) rfl
theorem q2017 : (Jvm.Cond.instanceMethod ({ cls := "BloomclockModel$Crop", name := "readyIn", desc := "(I)I" } : Jvm.MethodName)) ∈ lw_all := lw_g (lw_at lw_m9 42 rfl) rfl
theorem q2018 : (Jvm.Cond.selects "BloomclockModel$Crop" ({ cls := "BloomclockModel$Crop", name := "readyIn", desc := "(I)I" } : Jvm.MethodName) ({ cls := "BloomclockModel$Crop", name := "readyIn", desc := "(I)I" } : Jvm.MethodName)) ∈ lw_all := lw_g (lw_at lw_m9 43 rfl) rfl
theorem q2019 : (Jvm.Cond.code ({ cls := "BloomclockModel$Crop", name := "readyIn", desc := "(I)I" } : Jvm.MethodName) prog_16_method_3_code (2 : Nat) (Option.some Jvm.ClassFile.FieldType.int)) ∈ lw_all := lw_g (lw_at lw_m9 44 rfl) rfl
theorem q2020 : (Jvm.Cond.methodLinkNest "BloomclockModel$Crop" (44 : Nat) ({ cls := "BloomclockModel", name := "up", desc := "(II)I" } : Jvm.MethodName) "BloomclockModel") ∈ lw_tbl := lw_at lw_m9 45 rfl
theorem q2058 : (Jvm.Cond.castable "BloomclockModel$Crop" "java/lang/Object") ∈ lw_tbl := lw_at lw_m9 83 rfl
theorem in_X6 : ∀ w ∈ wsX60, w ∈ lw_all := lw_in wsX60 [1364, 1366, 1368, 1370, 1372, 1374, 1376] (by decide +kernel) (by decide +kernel)
/-! BloomclockModel$Lot -/
set_option maxRecDepth 100000
def RX9 : String := "BloomclockModel$Lot"
def TX9 : u_T := fun k => match k with
  | 0 => ("BloomclockModel$Lot", "grower", "I", true)
  | 1 => ("BloomclockModel$Lot", "cultivar", "I", true)
  | 2 => ("BloomclockModel$Lot", "grade", "I", true)
  | 3 => ("BloomclockModel$Lot", "stems", "I", false)
  | 4 => ("BloomclockModel$Lot", "life", "I", false)
  | 5 => ("BloomclockModel$Lot", "buckets", "I", false)
  | 6 => ("BloomclockModel$Lot", "place", "I", false)
  | 7 => ("BloomclockModel$Lot", "state", "I", false)
  | 8 => ("BloomclockModel$Lot", "told", "I", false)
  | _ => ("BloomclockModel$Lot", "minimum", "I", false)
def tyX9 : Nat → FieldType := fun k => match k with
  | 0 => .int
  | 1 => .int
  | 2 => .int
  | 3 => .int
  | 4 => .int
  | 5 => .int
  | 6 => .int
  | 7 => .int
  | 8 => .int
  | _ => .int
abbrev wsX90 : List Cond := u_ws RX9 TX9 10
theorem nmX9 : ∀ a, a < 10 → ∀ b, b < 10 → a ≠ b → (TX9 a).2.1 ≠ (TX9 b).2.1 := by decide +kernel
theorem tyX9_ok : ∀ k, k < 10 → parseFieldDescriptor (TX9 k).2.2.1 = some (tyX9 k) := by decide +kernel
abbrev cX9_init : ByteArray := prog_18_method_1_code
def yX9_init : MethodName := ⟨RX9, "<init>", "(IIII)V"⟩
def dkwX9_init_3 : List UInt8 := [46, 5, 21, 4, 104, 100, 184, 0, 40, 181, 0, 46, 42, 29, 16, 20, 184, 0, 49, 181, 0, 52, 177]
abbrev dktX9_init_3 : List UInt8 := dkwX9_init_3 ++ []
def dkwX9_init_2 : List UInt8 := [167, 0, 15, 21, 4, 16, 20, 163, 0, 7, 4, 167, 0, 4, 5, 181, 0, 33, 42, 3, 178, 0, 36, 28]
abbrev dktX9_init_2 : List UInt8 := dkwX9_init_2 ++ dktX9_init_3
def dkwX9_init_1 : List UInt8 := [42, 27, 181, 0, 24, 42, 28, 181, 0, 27, 42, 29, 181, 0, 30, 42, 21, 4, 16, 10, 163, 0, 7, 3]
abbrev dktX9_init_1 : List UInt8 := dkwX9_init_1 ++ dktX9_init_2
def dkwX9_init_0 : List UInt8 := [42, 183, 0, 3, 42, 4, 181, 0, 9, 42, 3, 181, 0, 15, 42, 2, 181, 0, 18, 42, 2, 181, 0, 21]
abbrev dktX9_init_0 : List UInt8 := dkwX9_init_0 ++ dktX9_init_1
theorem dksX9_init_0 : cX9_init.data.toList.drop 0 = dktX9_init_0 := by decide +kernel
theorem dksX9_init_1 : cX9_init.data.toList.drop 24 = dktX9_init_1 := dk_seg dksX9_init_0 24 rfl rfl
theorem dksX9_init_2 : cX9_init.data.toList.drop 48 = dktX9_init_2 := dk_seg dksX9_init_1 24 rfl rfl
theorem dksX9_init_3 : cX9_init.data.toList.drop 72 = dktX9_init_3 := dk_seg dksX9_init_2 24 rfl rfl
theorem dX9_init_0 : decode cX9_init 0 = .ok (.aload_n 0, 1) := dk_42 (dk_at dksX9_init_0 0 rfl rfl)
theorem dX9_init_1 : decode cX9_init 1 = .ok (.invokespecial 3, 3) := dk_183 0 3 (dk_at dksX9_init_0 1 rfl rfl)
theorem dX9_init_4 : decode cX9_init 4 = .ok (.aload_n 0, 1) := dk_42 (dk_at dksX9_init_0 4 rfl rfl)
theorem dX9_init_5 : decode cX9_init 5 = .ok (.iconst 1, 1) := dk_4 (dk_at dksX9_init_0 5 rfl rfl)
theorem dX9_init_6 : decode cX9_init 6 = .ok (.putfield 9, 3) := dk_181 0 9 (dk_at dksX9_init_0 6 rfl rfl)
theorem dX9_init_9 : decode cX9_init 9 = .ok (.aload_n 0, 1) := dk_42 (dk_at dksX9_init_0 9 rfl rfl)
theorem dX9_init_10 : decode cX9_init 10 = .ok (.iconst 0, 1) := dk_3 (dk_at dksX9_init_0 10 rfl rfl)
theorem dX9_init_11 : decode cX9_init 11 = .ok (.putfield 15, 3) := dk_181 0 15 (dk_at dksX9_init_0 11 rfl rfl)
theorem dX9_init_14 : decode cX9_init 14 = .ok (.aload_n 0, 1) := dk_42 (dk_at dksX9_init_0 14 rfl rfl)
theorem dX9_init_15 : decode cX9_init 15 = .ok (.iconst (-1), 1) := dk_2 (dk_at dksX9_init_0 15 rfl rfl)
theorem dX9_init_16 : decode cX9_init 16 = .ok (.putfield 18, 3) := dk_181 0 18 (dk_at dksX9_init_0 16 rfl rfl)
theorem dX9_init_19 : decode cX9_init 19 = .ok (.aload_n 0, 1) := dk_42 (dk_at dksX9_init_0 19 rfl rfl)
theorem dX9_init_20 : decode cX9_init 20 = .ok (.iconst (-1), 1) := dk_2 (dk_at dksX9_init_0 20 rfl rfl)
theorem dX9_init_21 : decode cX9_init 21 = .ok (.putfield 21, 3) := dk_181 0 21 (dk_at dksX9_init_0 21 rfl rfl)
theorem dX9_init_24 : decode cX9_init 24 = .ok (.aload_n 0, 1) := dk_42 (dk_at dksX9_init_1 0 rfl rfl)
theorem dX9_init_25 : decode cX9_init 25 = .ok (.iload_n 1, 1) := dk_27 (dk_at dksX9_init_1 1 rfl rfl)
theorem dX9_init_26 : decode cX9_init 26 = .ok (.putfield 24, 3) := dk_181 0 24 (dk_at dksX9_init_1 2 rfl rfl)
theorem dX9_init_29 : decode cX9_init 29 = .ok (.aload_n 0, 1) := dk_42 (dk_at dksX9_init_1 5 rfl rfl)
theorem dX9_init_30 : decode cX9_init 30 = .ok (.iload_n 2, 1) := dk_28 (dk_at dksX9_init_1 6 rfl rfl)
theorem dX9_init_31 : decode cX9_init 31 = .ok (.putfield 27, 3) := dk_181 0 27 (dk_at dksX9_init_1 7 rfl rfl)
theorem dX9_init_34 : decode cX9_init 34 = .ok (.aload_n 0, 1) := dk_42 (dk_at dksX9_init_1 10 rfl rfl)
theorem dX9_init_35 : decode cX9_init 35 = .ok (.iload_n 3, 1) := dk_29 (dk_at dksX9_init_1 11 rfl rfl)
theorem dX9_init_36 : decode cX9_init 36 = .ok (.putfield 30, 3) := dk_181 0 30 (dk_at dksX9_init_1 12 rfl rfl)
theorem dX9_init_39 : decode cX9_init 39 = .ok (.aload_n 0, 1) := dk_42 (dk_at dksX9_init_1 15 rfl rfl)
theorem dX9_init_40 : decode cX9_init 40 = .ok (.iload 4, 2) := dk_21 4 (dk_at dksX9_init_1 16 rfl rfl)
theorem dX9_init_42 : decode cX9_init 42 = .ok (.bipush 10, 2) := dk_16 10 (dk_at dksX9_init_1 18 rfl rfl)
theorem dX9_init_44 : decode cX9_init 44 = .ok (.if_icmp .gt 7, 3) := dk_163 0 7 (dk_at dksX9_init_1 20 rfl rfl)
theorem dX9_init_47 : decode cX9_init 47 = .ok (.iconst 0, 1) := dk_3 (dk_at dksX9_init_1 23 rfl rfl)
theorem dX9_init_48 : decode cX9_init 48 = .ok (.goto 15, 3) := dk_167 0 15 (dk_at dksX9_init_2 0 rfl rfl)
theorem dX9_init_51 : decode cX9_init 51 = .ok (.iload 4, 2) := dk_21 4 (dk_at dksX9_init_2 3 rfl rfl)
theorem dX9_init_53 : decode cX9_init 53 = .ok (.bipush 20, 2) := dk_16 20 (dk_at dksX9_init_2 5 rfl rfl)
theorem dX9_init_55 : decode cX9_init 55 = .ok (.if_icmp .gt 7, 3) := dk_163 0 7 (dk_at dksX9_init_2 7 rfl rfl)
theorem dX9_init_58 : decode cX9_init 58 = .ok (.iconst 1, 1) := dk_4 (dk_at dksX9_init_2 10 rfl rfl)
theorem dX9_init_59 : decode cX9_init 59 = .ok (.goto 4, 3) := dk_167 0 4 (dk_at dksX9_init_2 11 rfl rfl)
theorem dX9_init_62 : decode cX9_init 62 = .ok (.iconst 2, 1) := dk_5 (dk_at dksX9_init_2 14 rfl rfl)
theorem dX9_init_63 : decode cX9_init 63 = .ok (.putfield 33, 3) := dk_181 0 33 (dk_at dksX9_init_2 15 rfl rfl)
theorem dX9_init_66 : decode cX9_init 66 = .ok (.aload_n 0, 1) := dk_42 (dk_at dksX9_init_2 18 rfl rfl)
theorem dX9_init_67 : decode cX9_init 67 = .ok (.iconst 0, 1) := dk_3 (dk_at dksX9_init_2 19 rfl rfl)
theorem dX9_init_68 : decode cX9_init 68 = .ok (.getstatic 36, 3) := dk_178 0 36 (dk_at dksX9_init_2 20 rfl rfl)
theorem dX9_init_71 : decode cX9_init 71 = .ok (.iload_n 2, 1) := dk_28 (dk_at dksX9_init_2 23 rfl rfl)
theorem dX9_init_72 : decode cX9_init 72 = .ok (.iaload, 1) := dk_46 (dk_at dksX9_init_3 0 rfl rfl)
theorem dX9_init_73 : decode cX9_init 73 = .ok (.iconst 2, 1) := dk_5 (dk_at dksX9_init_3 1 rfl rfl)
theorem dX9_init_74 : decode cX9_init 74 = .ok (.iload 4, 2) := dk_21 4 (dk_at dksX9_init_3 2 rfl rfl)
theorem dX9_init_76 : decode cX9_init 76 = .ok (.imul, 1) := dk_104 (dk_at dksX9_init_3 4 rfl rfl)
theorem dX9_init_77 : decode cX9_init 77 = .ok (.isub, 1) := dk_100 (dk_at dksX9_init_3 5 rfl rfl)
theorem dX9_init_78 : decode cX9_init 78 = .ok (.invokestatic 40, 3) := dk_184 0 40 (dk_at dksX9_init_3 6 rfl rfl)
theorem dX9_init_81 : decode cX9_init 81 = .ok (.putfield 46, 3) := dk_181 0 46 (dk_at dksX9_init_3 9 rfl rfl)
theorem dX9_init_84 : decode cX9_init 84 = .ok (.aload_n 0, 1) := dk_42 (dk_at dksX9_init_3 12 rfl rfl)
theorem dX9_init_85 : decode cX9_init 85 = .ok (.iload_n 3, 1) := dk_29 (dk_at dksX9_init_3 13 rfl rfl)
theorem dX9_init_86 : decode cX9_init 86 = .ok (.bipush 20, 2) := dk_16 20 (dk_at dksX9_init_3 14 rfl rfl)
theorem dX9_init_88 : decode cX9_init 88 = .ok (.invokestatic 49, 3) := dk_184 0 49 (dk_at dksX9_init_3 16 rfl rfl)
theorem dX9_init_91 : decode cX9_init 91 = .ok (.putfield 52, 3) := dk_181 0 52 (dk_at dksX9_init_3 19 rfl rfl)
theorem dX9_init_94 : decode cX9_init 94 = .ok (.return_, 1) := dk_177 (dk_at dksX9_init_3 22 rfl rfl)
abbrev cX9_bucketsFor : ByteArray := prog_18_method_2_code
def yX9_bucketsFor : MethodName := ⟨RX9, "bucketsFor", "(I)I"⟩
def dkwX9_bucketsFor_1 : List UInt8 := [184, 0, 49, 184, 0, 55, 172]
abbrev dktX9_bucketsFor_1 : List UInt8 := dkwX9_bucketsFor_1 ++ []
def dkwX9_bucketsFor_0 : List UInt8 := [27, 42, 180, 0, 30, 160, 0, 10, 42, 180, 0, 52, 167, 0, 16, 42, 180, 0, 52, 27, 16, 20]
abbrev dktX9_bucketsFor_0 : List UInt8 := dkwX9_bucketsFor_0 ++ dktX9_bucketsFor_1
theorem dksX9_bucketsFor_0 : cX9_bucketsFor.data.toList.drop 0 = dktX9_bucketsFor_0 := by decide +kernel
theorem dksX9_bucketsFor_1 : cX9_bucketsFor.data.toList.drop 22 = dktX9_bucketsFor_1 := dk_seg dksX9_bucketsFor_0 22 rfl rfl
theorem dX9_bucketsFor_0 : decode cX9_bucketsFor 0 = .ok (.iload_n 1, 1) := dk_27 (dk_at dksX9_bucketsFor_0 0 rfl rfl)
theorem dX9_bucketsFor_1 : decode cX9_bucketsFor 1 = .ok (.aload_n 0, 1) := dk_42 (dk_at dksX9_bucketsFor_0 1 rfl rfl)
theorem dX9_bucketsFor_2 : decode cX9_bucketsFor 2 = .ok (.getfield 30, 3) := dk_180 0 30 (dk_at dksX9_bucketsFor_0 2 rfl rfl)
theorem dX9_bucketsFor_5 : decode cX9_bucketsFor 5 = .ok (.if_icmp .ne 10, 3) := dk_160 0 10 (dk_at dksX9_bucketsFor_0 5 rfl rfl)
theorem dX9_bucketsFor_8 : decode cX9_bucketsFor 8 = .ok (.aload_n 0, 1) := dk_42 (dk_at dksX9_bucketsFor_0 8 rfl rfl)
theorem dX9_bucketsFor_9 : decode cX9_bucketsFor 9 = .ok (.getfield 52, 3) := dk_180 0 52 (dk_at dksX9_bucketsFor_0 9 rfl rfl)
theorem dX9_bucketsFor_12 : decode cX9_bucketsFor 12 = .ok (.goto 16, 3) := dk_167 0 16 (dk_at dksX9_bucketsFor_0 12 rfl rfl)
theorem dX9_bucketsFor_15 : decode cX9_bucketsFor 15 = .ok (.aload_n 0, 1) := dk_42 (dk_at dksX9_bucketsFor_0 15 rfl rfl)
theorem dX9_bucketsFor_16 : decode cX9_bucketsFor 16 = .ok (.getfield 52, 3) := dk_180 0 52 (dk_at dksX9_bucketsFor_0 16 rfl rfl)
theorem dX9_bucketsFor_19 : decode cX9_bucketsFor 19 = .ok (.iload_n 1, 1) := dk_27 (dk_at dksX9_bucketsFor_0 19 rfl rfl)
theorem dX9_bucketsFor_20 : decode cX9_bucketsFor 20 = .ok (.bipush 20, 2) := dk_16 20 (dk_at dksX9_bucketsFor_0 20 rfl rfl)
theorem dX9_bucketsFor_22 : decode cX9_bucketsFor 22 = .ok (.invokestatic 49, 3) := dk_184 0 49 (dk_at dksX9_bucketsFor_1 0 rfl rfl)
theorem dX9_bucketsFor_25 : decode cX9_bucketsFor 25 = .ok (.invokestatic 55, 3) := dk_184 0 55 (dk_at dksX9_bucketsFor_1 3 rfl rfl)
theorem dX9_bucketsFor_28 : decode cX9_bucketsFor 28 = .ok (.ireturn, 1) := dk_172 (dk_at dksX9_bucketsFor_1 6 rfl rfl)
theorem q83 : (Jvm.Cond.initialized "BloomclockModel$Lot") ∈ lw_all := lw_g (lw_at lw_m1 28 rfl) rfl
theorem q577 : (Jvm.Cond.selects "BloomclockModel$Lot" ({ cls := "java/lang/Object", name := "getClass", desc := "()Ljava/lang/Class;" } : Jvm.MethodName) ({ cls := "java/lang/Object", name := "getClass", desc := "()Ljava/lang/Class;" } : Jvm.MethodName)) ∈ lw_all := lw_g (lw_at lw_m3 42 rfl) rfl
theorem q1391 : (Jvm.Cond.instantiable "BloomclockModel$Lot" (10 : Nat)) ∈ lw_all := lw_g (lw_at lw_m6 136 rfl) rfl
theorem q1393 : (Jvm.Cond.instanceMethod ({ cls := "BloomclockModel$Lot", name := "<init>", desc := "(IIII)V" } : Jvm.MethodName)) ∈ lw_all := lw_g (lw_at lw_m6 138 rfl) rfl
theorem q1394 : (Jvm.Cond.code ({ cls := "BloomclockModel$Lot", name := "<init>", desc := "(IIII)V" } : Jvm.MethodName) prog_18_method_1_code (5 : Nat) (Option.none : Option Jvm.ClassFile.FieldType)) ∈ lw_all := lw_g (lw_at lw_m6 139 rfl) rfl
theorem q1395 : (Jvm.Cond.methodLink "BloomclockModel$Lot" (3 : Nat) ({ cls := "java/lang/Object", name := "<init>", desc := "()V" } : Jvm.MethodName)) ∈ lw_all := lw_g (lw_at lw_m6 140 rfl) rfl
theorem q1396 : (Jvm.Cond.fieldLinkNest "BloomclockModel$Lot" (36 : Nat) "BloomclockModel" "LIVES" "[I" "BloomclockModel") ∈ lw_tbl := lw_at lw_m6 141 rfl
theorem q1398 : (Jvm.Cond.methodLink "BloomclockModel$Lot" (40 : Nat) ({ cls := "java/lang/Math", name := "max", desc := "(II)I" } : Jvm.MethodName)) ∈ lw_all := lw_g (lw_at lw_m6 143 rfl) rfl
theorem q1399 : (Jvm.Cond.methodLinkNest "BloomclockModel$Lot" (49 : Nat) ({ cls := "BloomclockModel", name := "up", desc := "(II)I" } : Jvm.MethodName) "BloomclockModel") ∈ lw_tbl := lw_at lw_m6 144 rfl
theorem q1400 : (Jvm.Cond.fieldLink "BloomclockModel$Lot" (24 : Nat) "BloomclockModel$Lot" "grower" "I") ∈ lw_all := lw_g (lw_at lw_m6 145 rfl) rfl
theorem q1403 : (Jvm.Cond.fieldLink "BloomclockModel$Lot" (27 : Nat) "BloomclockModel$Lot" "cultivar" "I") ∈ lw_all := lw_g (lw_at lw_m6 148 rfl) rfl
theorem q1406 : (Jvm.Cond.fieldLink "BloomclockModel$Lot" (33 : Nat) "BloomclockModel$Lot" "grade" "I") ∈ lw_all := lw_g (lw_at lw_m6 151 rfl) rfl
theorem q1409 : (Jvm.Cond.fieldLink "BloomclockModel$Lot" (30 : Nat) "BloomclockModel$Lot" "stems" "I") ∈ lw_all := lw_g (lw_at lw_m6 154 rfl) rfl
theorem q1412 : (Jvm.Cond.fieldLink "BloomclockModel$Lot" (46 : Nat) "BloomclockModel$Lot" "life" "I") ∈ lw_all := lw_g (lw_at lw_m6 157 rfl) rfl
theorem q1414 : (Jvm.Cond.fieldLink "BloomclockModel$Lot" (52 : Nat) "BloomclockModel$Lot" "buckets" "I") ∈ lw_all := lw_g (lw_at lw_m6 159 rfl) rfl
theorem q1417 : (Jvm.Cond.fieldLink "BloomclockModel$Lot" (9 : Nat) "BloomclockModel$Lot" "place" "I") ∈ lw_all := lw_g (lw_at lw_m6 162 rfl) rfl
theorem q1419 : (Jvm.Cond.fieldLink "BloomclockModel$Lot" (15 : Nat) "BloomclockModel$Lot" "state" "I") ∈ lw_all := lw_g (lw_at lw_m6 164 rfl) rfl
theorem q1421 : (Jvm.Cond.fieldLink "BloomclockModel$Lot" (18 : Nat) "BloomclockModel$Lot" "told" "I") ∈ lw_all := lw_g (lw_at lw_m6 166 rfl) rfl
theorem q1423 : (Jvm.Cond.fieldLink "BloomclockModel$Lot" (21 : Nat) "BloomclockModel$Lot" "minimum" "I") ∈ lw_all := lw_g (lw_at lw_m6 168 rfl) rfl
theorem q1425 : (Jvm.Cond.laysFinal "BloomclockModel$Lot" "BloomclockModel$Lot" "grower" "I") ∈ lw_all := lw_g (lw_at lw_m6 170 rfl) rfl
theorem q1426 : (Jvm.Cond.soleField "BloomclockModel$Lot" "grower") ∈ lw_all := lw_g (lw_at lw_m6 171 rfl) rfl
theorem q1427 : (Jvm.Cond.laysFinal "BloomclockModel$Lot" "BloomclockModel$Lot" "cultivar" "I") ∈ lw_all := lw_g (lw_at lw_m6 172 rfl) rfl
theorem q1428 : (Jvm.Cond.soleField "BloomclockModel$Lot" "cultivar") ∈ lw_all := lw_g (lw_at lw_m6 173 rfl) rfl
theorem q1429 : (Jvm.Cond.laysFinal "BloomclockModel$Lot" "BloomclockModel$Lot" "grade" "I") ∈ lw_all := lw_g (lw_at lw_m6 174 rfl) rfl
theorem q1430 : (Jvm.Cond.soleField "BloomclockModel$Lot" "grade") ∈ lw_all := lw_g (lw_at lw_m6 175 rfl) rfl
theorem q1431 : (Jvm.Cond.lays "BloomclockModel$Lot" "BloomclockModel$Lot" "stems" "I") ∈ lw_all := lw_g (lw_at lw_m6 176 rfl) rfl
theorem q1432 : (Jvm.Cond.soleField "BloomclockModel$Lot" "stems") ∈ lw_all := lw_g (lw_at lw_m6 177 rfl) rfl
theorem q1433 : (Jvm.Cond.lays "BloomclockModel$Lot" "BloomclockModel$Lot" "life" "I") ∈ lw_all := lw_g (lw_at lw_m6 178 rfl) rfl
theorem q1434 : (Jvm.Cond.soleField "BloomclockModel$Lot" "life") ∈ lw_all := lw_g (lw_at lw_m6 179 rfl) rfl
theorem q1435 : (Jvm.Cond.lays "BloomclockModel$Lot" "BloomclockModel$Lot" "buckets" "I") ∈ lw_all := lw_g (lw_at lw_m6 180 rfl) rfl
theorem q1436 : (Jvm.Cond.soleField "BloomclockModel$Lot" "buckets") ∈ lw_all := lw_g (lw_at lw_m6 181 rfl) rfl
theorem q1437 : (Jvm.Cond.lays "BloomclockModel$Lot" "BloomclockModel$Lot" "place" "I") ∈ lw_all := lw_g (lw_at lw_m6 182 rfl) rfl
theorem q1438 : (Jvm.Cond.soleField "BloomclockModel$Lot" "place") ∈ lw_all := lw_g (lw_at lw_m6 183 rfl) rfl
theorem q1439 : (Jvm.Cond.lays "BloomclockModel$Lot" "BloomclockModel$Lot" "state" "I") ∈ lw_all := lw_g (lw_at lw_m6 184 rfl) rfl
theorem q1440 : (Jvm.Cond.soleField "BloomclockModel$Lot" "state") ∈ lw_all := lw_g (lw_at lw_m6 185 rfl) rfl
theorem q1441 : (Jvm.Cond.lays "BloomclockModel$Lot" "BloomclockModel$Lot" "told" "I") ∈ lw_all := lw_g (lw_at lw_m6 186 rfl) rfl
theorem q1442 : (Jvm.Cond.soleField "BloomclockModel$Lot" "told") ∈ lw_all := lw_g (lw_at lw_m6 187 rfl) rfl
theorem q1443 : (Jvm.Cond.lays "BloomclockModel$Lot" "BloomclockModel$Lot" "minimum" "I") ∈ lw_all := lw_g (lw_at lw_m6 188 rfl) rfl
theorem q1444 : (Jvm.Cond.soleField "BloomclockModel$Lot" "minimum") ∈ lw_all := lw_g (lw_at lw_m6 189 rfl) rfl
theorem q1445 : (Jvm.Cond.superclass "BloomclockModel$Lot" "java/lang/Object") ∈ lw_all := lw_g (lw_at lw_m6 190 rfl) rfl
theorem q1761 : (Jvm.Cond.instanceMethod ({ cls := "BloomclockModel$Lot", name := "bucketsFor", desc := "(I)I" } : Jvm.MethodName)) ∈ lw_all := lw_g (lw_at lw_m8 26 rfl) rfl
theorem q1762 : (Jvm.Cond.selects "BloomclockModel$Lot" ({ cls := "BloomclockModel$Lot", name := "bucketsFor", desc := "(I)I" } : Jvm.MethodName) ({ cls := "BloomclockModel$Lot", name := "bucketsFor", desc := "(I)I" } : Jvm.MethodName)) ∈ lw_all := lw_g (lw_at lw_m8 27 rfl) rfl
theorem q1763 : (Jvm.Cond.code ({ cls := "BloomclockModel$Lot", name := "bucketsFor", desc := "(I)I" } : Jvm.MethodName) prog_18_method_2_code (2 : Nat) (Option.some Jvm.ClassFile.FieldType.int)) ∈ lw_all := lw_g (lw_at lw_m8 28 rfl) rfl
theorem q1764 : (Jvm.Cond.methodLink "BloomclockModel$Lot" (55 : Nat) ({ cls := "java/lang/Math", name := "min", desc := "(II)I" } : Jvm.MethodName)) ∈ lw_all := lw_g (lw_at lw_m8 29 rfl) rfl
theorem q1881 : (Jvm.Cond.selects "BloomclockModel$Lot" ({ cls := "java/lang/Object", name := "equals", desc := "(Ljava/lang/Object;)Z" } : Jvm.MethodName) ({ cls := "java/lang/Object", name := "equals", desc := "(Ljava/lang/Object;)Z" } : Jvm.MethodName)) ∈ lw_all := lw_g (lw_at lw_m8 146 rfl) rfl
theorem q2062 : (Jvm.Cond.castable "BloomclockModel$Lot" "java/lang/Object") ∈ lw_tbl := lw_at lw_m9 87 rfl
theorem in_X9 : ∀ w ∈ wsX90, w ∈ lw_all := lw_in wsX90 [1425, 1427, 1429, 1431, 1433, 1435, 1437, 1439, 1441, 1443] (by decide +kernel) (by decide +kernel)
