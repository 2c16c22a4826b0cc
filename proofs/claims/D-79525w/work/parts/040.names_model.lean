/-! FlintMineModel -/
set_option maxRecDepth 100000
def RX4 : String := "FlintMineModel"
def TX4 : u_T := fun k => match k with
  | 0 => ("FlintMineModel", "thrown", "I", false)
  | 1 => ("FlintMineModel", "now", "[I", true)
  | 2 => ("FlintMineModel", "saved", "[I", true)
  | 3 => ("FlintMineModel", "history", "[[I", true)
  | 4 => ("FlintMineModel", "kept", "I", false)
  | 5 => ("FlintMineModel", "reason", "I", false)
  | 6 => ("FlintMineModel", "detail", "I", false)
  | 7 => ("FlintMineModel", "isSaved", "Z", false)
  | 8 => ("FlintMineModel", "isInText", "Z", false)
  | 9 => ("FlintMineModel", "far", "[I", true)
  | 10 => ("FlintMineModel", "queue", "[I", true)
  | 11 => ("FlintMineModel", "text", "[C", true)
  | 12 => ("FlintMineModel", "length", "I", false)
  | 13 => ("FlintMineModel", "at", "I", false)
  | 14 => ("FlintMineModel", "fault", "I", false)
  | 15 => ("FlintMineModel", "isWrong", "Z", false)
  | 16 => ("FlintMineModel", "isPropTold", "Z", false)
  | 17 => ("FlintMineModel", "told", "C", false)
  | 18 => ("FlintMineModel", "toldOne", "I", false)
  | 19 => ("FlintMineModel", "toldTwo", "I", false)
  | _ => ("FlintMineModel", "ahead", "[I", true)
def tyX4 : Nat → FieldType := fun k => match k with
  | 0 => .int
  | 1 => .array .int
  | 2 => .array .int
  | 3 => .array (.array .int)
  | 4 => .int
  | 5 => .int
  | 6 => .int
  | 7 => .boolean
  | 8 => .boolean
  | 9 => .array .int
  | 10 => .array .int
  | 11 => .array .char
  | 12 => .int
  | 13 => .int
  | 14 => .int
  | 15 => .boolean
  | 16 => .boolean
  | 17 => .char
  | 18 => .int
  | 19 => .int
  | _ => .array .int
abbrev wsX40 : List Cond := u_ws RX4 TX4 21
set_option maxRecDepth 100000 in
theorem nmX4 : ∀ a, a < 21 → ∀ b, b < 21 → a ≠ b → (TX4 a).2.1 ≠ (TX4 b).2.1 := by decide +kernel
set_option maxRecDepth 100000 in
theorem tyX4_ok : ∀ k, k < 21 → parseFieldDescriptor (TX4 k).2.2.1 = some (tyX4 k) := by decide +kernel
abbrev cX4_init : ByteArray := prog_24_method_1_code
def yX4_init : MethodName := ⟨RX4, "<init>", "()V"⟩
def dkwX4_init_5 : List UInt8 := [79, 177]
abbrev dktX4_init_5 : List UInt8 := dkwX4_init_5 ++ []
def dkwX4_init_4 : List UInt8 := [180, 0, 9, 17, 0, 192, 27, 96, 2, 79, 132, 1, 1, 167, 255, 226, 42, 180, 0, 9, 17, 1, 99, 6]
abbrev dktX4_init_4 : List UInt8 := dkwX4_init_4 ++ dktX4_init_5
def dkwX4_init_3 : List UInt8 := [181, 0, 35, 3, 60, 27, 16, 64, 162, 0, 30, 42, 180, 0, 9, 16, 64, 27, 96, 6, 79, 42]
abbrev dktX4_init_3 : List UInt8 := dkwX4_init_3 ++ dktX4_init_4
def dkwX4_init_2 : List UInt8 := [188, 10, 181, 0, 24, 42, 16, 60, 188, 5, 181, 0, 27, 42, 2, 181, 0, 31, 42, 17, 1, 100, 188, 10]
abbrev dktX4_init_2 : List UInt8 := dkwX4_init_2 ++ dktX4_init_3
def dkwX4_init_1 : List UInt8 := [16, 8, 17, 1, 100, 197, 0, 16, 2, 181, 0, 18, 42, 16, 64, 188, 10, 181, 0, 21, 42, 16, 64]
abbrev dktX4_init_1 : List UInt8 := dkwX4_init_1 ++ dktX4_init_2
def dkwX4_init_0 : List UInt8 := [42, 183, 0, 3, 42, 17, 1, 100, 188, 10, 181, 0, 9, 42, 17, 1, 100, 188, 10, 181, 0, 13, 42]
abbrev dktX4_init_0 : List UInt8 := dkwX4_init_0 ++ dktX4_init_1
theorem dksX4_init_0 : cX4_init.data.toList.drop 0 = dktX4_init_0 := by decide +kernel
theorem dksX4_init_1 : cX4_init.data.toList.drop 23 = dktX4_init_1 := dk_seg dksX4_init_0 23 rfl rfl
theorem dksX4_init_2 : cX4_init.data.toList.drop 46 = dktX4_init_2 := dk_seg dksX4_init_1 23 rfl rfl
theorem dksX4_init_3 : cX4_init.data.toList.drop 70 = dktX4_init_3 := dk_seg dksX4_init_2 24 rfl rfl
theorem dksX4_init_4 : cX4_init.data.toList.drop 92 = dktX4_init_4 := dk_seg dksX4_init_3 22 rfl rfl
theorem dksX4_init_5 : cX4_init.data.toList.drop 116 = dktX4_init_5 := dk_seg dksX4_init_4 24 rfl rfl
theorem dX4_init_0 : decode cX4_init 0 = .ok (.aload_n 0, 1) := dk_42 (dk_at dksX4_init_0 0 rfl rfl)
theorem dX4_init_1 : decode cX4_init 1 = .ok (.invokespecial 3, 3) := dk_183 0 3 (dk_at dksX4_init_0 1 rfl rfl)
theorem dX4_init_4 : decode cX4_init 4 = .ok (.aload_n 0, 1) := dk_42 (dk_at dksX4_init_0 4 rfl rfl)
theorem dX4_init_5 : decode cX4_init 5 = .ok (.sipush 356, 3) := dk_17 1 100 (dk_at dksX4_init_0 5 rfl rfl)
theorem dX4_init_8 : decode cX4_init 8 = .ok (.newarray .int, 2) := dk_188_10 (dk_at dksX4_init_0 8 rfl rfl)
theorem dX4_init_10 : decode cX4_init 10 = .ok (.putfield 9, 3) := dk_181 0 9 (dk_at dksX4_init_0 10 rfl rfl)
theorem dX4_init_13 : decode cX4_init 13 = .ok (.aload_n 0, 1) := dk_42 (dk_at dksX4_init_0 13 rfl rfl)
theorem dX4_init_14 : decode cX4_init 14 = .ok (.sipush 356, 3) := dk_17 1 100 (dk_at dksX4_init_0 14 rfl rfl)
theorem dX4_init_17 : decode cX4_init 17 = .ok (.newarray .int, 2) := dk_188_10 (dk_at dksX4_init_0 17 rfl rfl)
theorem dX4_init_19 : decode cX4_init 19 = .ok (.putfield 13, 3) := dk_181 0 13 (dk_at dksX4_init_0 19 rfl rfl)
theorem dX4_init_22 : decode cX4_init 22 = .ok (.aload_n 0, 1) := dk_42 (dk_at dksX4_init_0 22 rfl rfl)
theorem dX4_init_23 : decode cX4_init 23 = .ok (.bipush 8, 2) := dk_16 8 (dk_at dksX4_init_1 0 rfl rfl)
theorem dX4_init_25 : decode cX4_init 25 = .ok (.sipush 356, 3) := dk_17 1 100 (dk_at dksX4_init_1 2 rfl rfl)
theorem dX4_init_28 : decode cX4_init 28 = .ok (.multianewarray 16 2, 4) := by decide +kernel
theorem dX4_init_32 : decode cX4_init 32 = .ok (.putfield 18, 3) := dk_181 0 18 (dk_at dksX4_init_1 9 rfl rfl)
theorem dX4_init_35 : decode cX4_init 35 = .ok (.aload_n 0, 1) := dk_42 (dk_at dksX4_init_1 12 rfl rfl)
theorem dX4_init_36 : decode cX4_init 36 = .ok (.bipush 64, 2) := dk_16 64 (dk_at dksX4_init_1 13 rfl rfl)
theorem dX4_init_38 : decode cX4_init 38 = .ok (.newarray .int, 2) := dk_188_10 (dk_at dksX4_init_1 15 rfl rfl)
theorem dX4_init_40 : decode cX4_init 40 = .ok (.putfield 21, 3) := dk_181 0 21 (dk_at dksX4_init_1 17 rfl rfl)
theorem dX4_init_43 : decode cX4_init 43 = .ok (.aload_n 0, 1) := dk_42 (dk_at dksX4_init_1 20 rfl rfl)
theorem dX4_init_44 : decode cX4_init 44 = .ok (.bipush 64, 2) := dk_16 64 (dk_at dksX4_init_1 21 rfl rfl)
theorem dX4_init_46 : decode cX4_init 46 = .ok (.newarray .int, 2) := dk_188_10 (dk_at dksX4_init_2 0 rfl rfl)
theorem dX4_init_48 : decode cX4_init 48 = .ok (.putfield 24, 3) := dk_181 0 24 (dk_at dksX4_init_2 2 rfl rfl)
theorem dX4_init_51 : decode cX4_init 51 = .ok (.aload_n 0, 1) := dk_42 (dk_at dksX4_init_2 5 rfl rfl)
theorem dX4_init_52 : decode cX4_init 52 = .ok (.bipush 60, 2) := dk_16 60 (dk_at dksX4_init_2 6 rfl rfl)
theorem dX4_init_54 : decode cX4_init 54 = .ok (.newarray .char, 2) := dk_188_5 (dk_at dksX4_init_2 8 rfl rfl)
theorem dX4_init_56 : decode cX4_init 56 = .ok (.putfield 27, 3) := dk_181 0 27 (dk_at dksX4_init_2 10 rfl rfl)
theorem dX4_init_59 : decode cX4_init 59 = .ok (.aload_n 0, 1) := dk_42 (dk_at dksX4_init_2 13 rfl rfl)
theorem dX4_init_60 : decode cX4_init 60 = .ok (.iconst (-1), 1) := dk_2 (dk_at dksX4_init_2 14 rfl rfl)
theorem dX4_init_61 : decode cX4_init 61 = .ok (.putfield 31, 3) := dk_181 0 31 (dk_at dksX4_init_2 15 rfl rfl)
theorem dX4_init_64 : decode cX4_init 64 = .ok (.aload_n 0, 1) := dk_42 (dk_at dksX4_init_2 18 rfl rfl)
theorem dX4_init_65 : decode cX4_init 65 = .ok (.sipush 356, 3) := dk_17 1 100 (dk_at dksX4_init_2 19 rfl rfl)
theorem dX4_init_68 : decode cX4_init 68 = .ok (.newarray .int, 2) := dk_188_10 (dk_at dksX4_init_2 22 rfl rfl)
theorem dX4_init_70 : decode cX4_init 70 = .ok (.putfield 35, 3) := dk_181 0 35 (dk_at dksX4_init_3 0 rfl rfl)
theorem dX4_init_73 : decode cX4_init 73 = .ok (.iconst 0, 1) := dk_3 (dk_at dksX4_init_3 3 rfl rfl)
theorem dX4_init_74 : decode cX4_init 74 = .ok (.istore_n 1, 1) := dk_60 (dk_at dksX4_init_3 4 rfl rfl)
theorem dX4_init_75 : decode cX4_init 75 = .ok (.iload_n 1, 1) := dk_27 (dk_at dksX4_init_3 5 rfl rfl)
theorem dX4_init_76 : decode cX4_init 76 = .ok (.bipush 64, 2) := dk_16 64 (dk_at dksX4_init_3 6 rfl rfl)
theorem dX4_init_78 : decode cX4_init 78 = .ok (.if_icmp .ge 30, 3) := dk_162 0 30 (dk_at dksX4_init_3 8 rfl rfl)
theorem dX4_init_81 : decode cX4_init 81 = .ok (.aload_n 0, 1) := dk_42 (dk_at dksX4_init_3 11 rfl rfl)
theorem dX4_init_82 : decode cX4_init 82 = .ok (.getfield 9, 3) := dk_180 0 9 (dk_at dksX4_init_3 12 rfl rfl)
theorem dX4_init_85 : decode cX4_init 85 = .ok (.bipush 64, 2) := dk_16 64 (dk_at dksX4_init_3 15 rfl rfl)
theorem dX4_init_87 : decode cX4_init 87 = .ok (.iload_n 1, 1) := dk_27 (dk_at dksX4_init_3 17 rfl rfl)
theorem dX4_init_88 : decode cX4_init 88 = .ok (.iadd, 1) := dk_96 (dk_at dksX4_init_3 18 rfl rfl)
theorem dX4_init_89 : decode cX4_init 89 = .ok (.iconst 3, 1) := dk_6 (dk_at dksX4_init_3 19 rfl rfl)
theorem dX4_init_90 : decode cX4_init 90 = .ok (.iastore, 1) := dk_79 (dk_at dksX4_init_3 20 rfl rfl)
theorem dX4_init_91 : decode cX4_init 91 = .ok (.aload_n 0, 1) := dk_42 (dk_at dksX4_init_3 21 rfl rfl)
theorem dX4_init_92 : decode cX4_init 92 = .ok (.getfield 9, 3) := dk_180 0 9 (dk_at dksX4_init_4 0 rfl rfl)
theorem dX4_init_95 : decode cX4_init 95 = .ok (.sipush 192, 3) := dk_17 0 192 (dk_at dksX4_init_4 3 rfl rfl)
theorem dX4_init_98 : decode cX4_init 98 = .ok (.iload_n 1, 1) := dk_27 (dk_at dksX4_init_4 6 rfl rfl)
theorem dX4_init_99 : decode cX4_init 99 = .ok (.iadd, 1) := dk_96 (dk_at dksX4_init_4 7 rfl rfl)
theorem dX4_init_100 : decode cX4_init 100 = .ok (.iconst (-1), 1) := dk_2 (dk_at dksX4_init_4 8 rfl rfl)
theorem dX4_init_101 : decode cX4_init 101 = .ok (.iastore, 1) := dk_79 (dk_at dksX4_init_4 9 rfl rfl)
theorem dX4_init_102 : decode cX4_init 102 = .ok (.iinc 1 1, 3) := dk_132 1 1 (dk_at dksX4_init_4 10 rfl rfl)
theorem dX4_init_105 : decode cX4_init 105 = .ok (.goto (-30), 3) := dk_167 255 226 (dk_at dksX4_init_4 13 rfl rfl)
theorem dX4_init_108 : decode cX4_init 108 = .ok (.aload_n 0, 1) := dk_42 (dk_at dksX4_init_4 16 rfl rfl)
theorem dX4_init_109 : decode cX4_init 109 = .ok (.getfield 9, 3) := dk_180 0 9 (dk_at dksX4_init_4 17 rfl rfl)
theorem dX4_init_112 : decode cX4_init 112 = .ok (.sipush 355, 3) := dk_17 1 99 (dk_at dksX4_init_4 20 rfl rfl)
theorem dX4_init_115 : decode cX4_init 115 = .ok (.iconst 3, 1) := dk_6 (dk_at dksX4_init_4 23 rfl rfl)
theorem dX4_init_116 : decode cX4_init 116 = .ok (.iastore, 1) := dk_79 (dk_at dksX4_init_5 0 rfl rfl)
theorem dX4_init_117 : decode cX4_init 117 = .ok (.return_, 1) := dk_177 (dk_at dksX4_init_5 1 rfl rfl)
abbrev cX4_thrown : ByteArray := prog_24_method_2_code
def yX4_thrown : MethodName := ⟨RX4, "thrown", "()I"⟩
theorem dX4_thrown_0 : decode cX4_thrown 0 = .ok (.aload_n 0, 1) := by decide +kernel
theorem dX4_thrown_1 : decode cX4_thrown 1 = .ok (.getfield 38, 3) := by decide +kernel
theorem dX4_thrown_4 : decode cX4_thrown 4 = .ok (.ireturn, 1) := by decide +kernel
abbrev cX4_rock : ByteArray := prog_24_method_23_code
def yX4_rock : MethodName := ⟨RX4, "rock", "(III)I"⟩
def dkwX4_rock_4 : List UInt8 := [16, 64, 27, 96, 28, 79, 42, 180, 0, 9, 17, 0, 128, 27, 96, 29, 79, 42, 27, 182, 0, 109, 172]
abbrev dktX4_rock_4 : List UInt8 := dkwX4_rock_4 ++ []
def dkwX4_rock_3 : List UInt8 := [182, 0, 105, 182, 0, 98, 153, 0, 5, 3, 172, 42, 42, 180, 0, 9, 182, 0, 58, 42, 180, 0, 9]
abbrev dktX4_rock_3 : List UInt8 := dkwX4_rock_3 ++ dktX4_rock_4
def dkwX4_rock_2 : List UInt8 := [182, 0, 98, 154, 0, 30, 42, 6, 42, 42, 27, 182, 0, 102, 154, 0, 7, 4, 167, 0, 4, 3, 4, 27]
abbrev dktX4_rock_2 : List UInt8 := dkwX4_rock_2 ++ dktX4_rock_3
def dkwX4_rock_1 : List UInt8 := [16, 9, 184, 0, 62, 153, 0, 13, 29, 3, 16, 9, 184, 0, 62, 154, 0, 7, 4, 167, 0, 4, 3]
abbrev dktX4_rock_1 : List UInt8 := dkwX4_rock_1 ++ dktX4_rock_2
def dkwX4_rock_0 : List UInt8 := [42, 4, 27, 184, 0, 95, 154, 0, 7, 4, 167, 0, 4, 3, 182, 0, 98, 154, 0, 63, 42, 5, 28, 4]
abbrev dktX4_rock_0 : List UInt8 := dkwX4_rock_0 ++ dktX4_rock_1
theorem dksX4_rock_0 : cX4_rock.data.toList.drop 0 = dktX4_rock_0 := by decide +kernel
theorem dksX4_rock_1 : cX4_rock.data.toList.drop 24 = dktX4_rock_1 := dk_seg dksX4_rock_0 24 rfl rfl
theorem dksX4_rock_2 : cX4_rock.data.toList.drop 47 = dktX4_rock_2 := dk_seg dksX4_rock_1 23 rfl rfl
theorem dksX4_rock_3 : cX4_rock.data.toList.drop 71 = dktX4_rock_3 := dk_seg dksX4_rock_2 24 rfl rfl
theorem dksX4_rock_4 : cX4_rock.data.toList.drop 94 = dktX4_rock_4 := dk_seg dksX4_rock_3 23 rfl rfl
theorem dX4_rock_0 : decode cX4_rock 0 = .ok (.aload_n 0, 1) := dk_42 (dk_at dksX4_rock_0 0 rfl rfl)
theorem dX4_rock_1 : decode cX4_rock 1 = .ok (.iconst 1, 1) := dk_4 (dk_at dksX4_rock_0 1 rfl rfl)
theorem dX4_rock_2 : decode cX4_rock 2 = .ok (.iload_n 1, 1) := dk_27 (dk_at dksX4_rock_0 2 rfl rfl)
theorem dX4_rock_3 : decode cX4_rock 3 = .ok (.invokestatic 95, 3) := dk_184 0 95 (dk_at dksX4_rock_0 3 rfl rfl)
theorem dX4_rock_6 : decode cX4_rock 6 = .ok (.ifCond .ne 7, 3) := dk_154 0 7 (dk_at dksX4_rock_0 6 rfl rfl)
theorem dX4_rock_9 : decode cX4_rock 9 = .ok (.iconst 1, 1) := dk_4 (dk_at dksX4_rock_0 9 rfl rfl)
theorem dX4_rock_10 : decode cX4_rock 10 = .ok (.goto 4, 3) := dk_167 0 4 (dk_at dksX4_rock_0 10 rfl rfl)
theorem dX4_rock_13 : decode cX4_rock 13 = .ok (.iconst 0, 1) := dk_3 (dk_at dksX4_rock_0 13 rfl rfl)
theorem dX4_rock_14 : decode cX4_rock 14 = .ok (.invokevirtual 98, 3) := dk_182 0 98 (dk_at dksX4_rock_0 14 rfl rfl)
theorem dX4_rock_17 : decode cX4_rock 17 = .ok (.ifCond .ne 63, 3) := dk_154 0 63 (dk_at dksX4_rock_0 17 rfl rfl)
theorem dX4_rock_20 : decode cX4_rock 20 = .ok (.aload_n 0, 1) := dk_42 (dk_at dksX4_rock_0 20 rfl rfl)
theorem dX4_rock_21 : decode cX4_rock 21 = .ok (.iconst 2, 1) := dk_5 (dk_at dksX4_rock_0 21 rfl rfl)
theorem dX4_rock_22 : decode cX4_rock 22 = .ok (.iload_n 2, 1) := dk_28 (dk_at dksX4_rock_0 22 rfl rfl)
theorem dX4_rock_23 : decode cX4_rock 23 = .ok (.iconst 1, 1) := dk_4 (dk_at dksX4_rock_0 23 rfl rfl)
theorem dX4_rock_24 : decode cX4_rock 24 = .ok (.bipush 9, 2) := dk_16 9 (dk_at dksX4_rock_1 0 rfl rfl)
theorem dX4_rock_26 : decode cX4_rock 26 = .ok (.invokestatic 62, 3) := dk_184 0 62 (dk_at dksX4_rock_1 2 rfl rfl)
theorem dX4_rock_29 : decode cX4_rock 29 = .ok (.ifCond .eq 13, 3) := dk_153 0 13 (dk_at dksX4_rock_1 5 rfl rfl)
theorem dX4_rock_32 : decode cX4_rock 32 = .ok (.iload_n 3, 1) := dk_29 (dk_at dksX4_rock_1 8 rfl rfl)
theorem dX4_rock_33 : decode cX4_rock 33 = .ok (.iconst 0, 1) := dk_3 (dk_at dksX4_rock_1 9 rfl rfl)
theorem dX4_rock_34 : decode cX4_rock 34 = .ok (.bipush 9, 2) := dk_16 9 (dk_at dksX4_rock_1 10 rfl rfl)
theorem dX4_rock_36 : decode cX4_rock 36 = .ok (.invokestatic 62, 3) := dk_184 0 62 (dk_at dksX4_rock_1 12 rfl rfl)
theorem dX4_rock_39 : decode cX4_rock 39 = .ok (.ifCond .ne 7, 3) := dk_154 0 7 (dk_at dksX4_rock_1 15 rfl rfl)
theorem dX4_rock_42 : decode cX4_rock 42 = .ok (.iconst 1, 1) := dk_4 (dk_at dksX4_rock_1 18 rfl rfl)
theorem dX4_rock_43 : decode cX4_rock 43 = .ok (.goto 4, 3) := dk_167 0 4 (dk_at dksX4_rock_1 19 rfl rfl)
theorem dX4_rock_46 : decode cX4_rock 46 = .ok (.iconst 0, 1) := dk_3 (dk_at dksX4_rock_1 22 rfl rfl)
theorem dX4_rock_47 : decode cX4_rock 47 = .ok (.invokevirtual 98, 3) := dk_182 0 98 (dk_at dksX4_rock_2 0 rfl rfl)
theorem dX4_rock_50 : decode cX4_rock 50 = .ok (.ifCond .ne 30, 3) := dk_154 0 30 (dk_at dksX4_rock_2 3 rfl rfl)
theorem dX4_rock_53 : decode cX4_rock 53 = .ok (.aload_n 0, 1) := dk_42 (dk_at dksX4_rock_2 6 rfl rfl)
theorem dX4_rock_54 : decode cX4_rock 54 = .ok (.iconst 3, 1) := dk_6 (dk_at dksX4_rock_2 7 rfl rfl)
theorem dX4_rock_55 : decode cX4_rock 55 = .ok (.aload_n 0, 1) := dk_42 (dk_at dksX4_rock_2 8 rfl rfl)
theorem dX4_rock_56 : decode cX4_rock 56 = .ok (.aload_n 0, 1) := dk_42 (dk_at dksX4_rock_2 9 rfl rfl)
theorem dX4_rock_57 : decode cX4_rock 57 = .ok (.iload_n 1, 1) := dk_27 (dk_at dksX4_rock_2 10 rfl rfl)
theorem dX4_rock_58 : decode cX4_rock 58 = .ok (.invokevirtual 102, 3) := dk_182 0 102 (dk_at dksX4_rock_2 11 rfl rfl)
theorem dX4_rock_61 : decode cX4_rock 61 = .ok (.ifCond .ne 7, 3) := dk_154 0 7 (dk_at dksX4_rock_2 14 rfl rfl)
theorem dX4_rock_64 : decode cX4_rock 64 = .ok (.iconst 1, 1) := dk_4 (dk_at dksX4_rock_2 17 rfl rfl)
theorem dX4_rock_65 : decode cX4_rock 65 = .ok (.goto 4, 3) := dk_167 0 4 (dk_at dksX4_rock_2 18 rfl rfl)
theorem dX4_rock_68 : decode cX4_rock 68 = .ok (.iconst 0, 1) := dk_3 (dk_at dksX4_rock_2 21 rfl rfl)
theorem dX4_rock_69 : decode cX4_rock 69 = .ok (.iconst 1, 1) := dk_4 (dk_at dksX4_rock_2 22 rfl rfl)
theorem dX4_rock_70 : decode cX4_rock 70 = .ok (.iload_n 1, 1) := dk_27 (dk_at dksX4_rock_2 23 rfl rfl)
theorem dX4_rock_71 : decode cX4_rock 71 = .ok (.invokevirtual 105, 3) := dk_182 0 105 (dk_at dksX4_rock_3 0 rfl rfl)
theorem dX4_rock_74 : decode cX4_rock 74 = .ok (.invokevirtual 98, 3) := dk_182 0 98 (dk_at dksX4_rock_3 3 rfl rfl)
theorem dX4_rock_77 : decode cX4_rock 77 = .ok (.ifCond .eq 5, 3) := dk_153 0 5 (dk_at dksX4_rock_3 6 rfl rfl)
theorem dX4_rock_80 : decode cX4_rock 80 = .ok (.iconst 0, 1) := dk_3 (dk_at dksX4_rock_3 9 rfl rfl)
theorem dX4_rock_81 : decode cX4_rock 81 = .ok (.ireturn, 1) := dk_172 (dk_at dksX4_rock_3 10 rfl rfl)
theorem dX4_rock_82 : decode cX4_rock 82 = .ok (.aload_n 0, 1) := dk_42 (dk_at dksX4_rock_3 11 rfl rfl)
theorem dX4_rock_83 : decode cX4_rock 83 = .ok (.aload_n 0, 1) := dk_42 (dk_at dksX4_rock_3 12 rfl rfl)
theorem dX4_rock_84 : decode cX4_rock 84 = .ok (.getfield 9, 3) := dk_180 0 9 (dk_at dksX4_rock_3 13 rfl rfl)
theorem dX4_rock_87 : decode cX4_rock 87 = .ok (.invokevirtual 58, 3) := dk_182 0 58 (dk_at dksX4_rock_3 16 rfl rfl)
theorem dX4_rock_90 : decode cX4_rock 90 = .ok (.aload_n 0, 1) := dk_42 (dk_at dksX4_rock_3 19 rfl rfl)
theorem dX4_rock_91 : decode cX4_rock 91 = .ok (.getfield 9, 3) := dk_180 0 9 (dk_at dksX4_rock_3 20 rfl rfl)
theorem dX4_rock_94 : decode cX4_rock 94 = .ok (.bipush 64, 2) := dk_16 64 (dk_at dksX4_rock_4 0 rfl rfl)
theorem dX4_rock_96 : decode cX4_rock 96 = .ok (.iload_n 1, 1) := dk_27 (dk_at dksX4_rock_4 2 rfl rfl)
theorem dX4_rock_97 : decode cX4_rock 97 = .ok (.iadd, 1) := dk_96 (dk_at dksX4_rock_4 3 rfl rfl)
theorem dX4_rock_98 : decode cX4_rock 98 = .ok (.iload_n 2, 1) := dk_28 (dk_at dksX4_rock_4 4 rfl rfl)
theorem dX4_rock_99 : decode cX4_rock 99 = .ok (.iastore, 1) := dk_79 (dk_at dksX4_rock_4 5 rfl rfl)
theorem dX4_rock_100 : decode cX4_rock 100 = .ok (.aload_n 0, 1) := dk_42 (dk_at dksX4_rock_4 6 rfl rfl)
theorem dX4_rock_101 : decode cX4_rock 101 = .ok (.getfield 9, 3) := dk_180 0 9 (dk_at dksX4_rock_4 7 rfl rfl)
theorem dX4_rock_104 : decode cX4_rock 104 = .ok (.sipush 128, 3) := dk_17 0 128 (dk_at dksX4_rock_4 10 rfl rfl)
theorem dX4_rock_107 : decode cX4_rock 107 = .ok (.iload_n 1, 1) := dk_27 (dk_at dksX4_rock_4 13 rfl rfl)
theorem dX4_rock_108 : decode cX4_rock 108 = .ok (.iadd, 1) := dk_96 (dk_at dksX4_rock_4 14 rfl rfl)
theorem dX4_rock_109 : decode cX4_rock 109 = .ok (.iload_n 3, 1) := dk_29 (dk_at dksX4_rock_4 15 rfl rfl)
theorem dX4_rock_110 : decode cX4_rock 110 = .ok (.iastore, 1) := dk_79 (dk_at dksX4_rock_4 16 rfl rfl)
theorem dX4_rock_111 : decode cX4_rock 111 = .ok (.aload_n 0, 1) := dk_42 (dk_at dksX4_rock_4 17 rfl rfl)
theorem dX4_rock_112 : decode cX4_rock 112 = .ok (.iload_n 1, 1) := dk_27 (dk_at dksX4_rock_4 18 rfl rfl)
theorem dX4_rock_113 : decode cX4_rock 113 = .ok (.invokevirtual 109, 3) := dk_182 0 109 (dk_at dksX4_rock_4 19 rfl rfl)
theorem dX4_rock_116 : decode cX4_rock 116 = .ok (.ireturn, 1) := dk_172 (dk_at dksX4_rock_4 22 rfl rfl)
abbrev cX4_isCell : ByteArray := prog_24_method_9_code
def yX4_isCell : MethodName := ⟨RX4, "isCell", "(I)Z"⟩
def dkwX4_isCell_0 : List UInt8 := [26, 3, 16, 63, 184, 0, 62, 172]
abbrev dktX4_isCell_0 : List UInt8 := dkwX4_isCell_0 ++ []
theorem dksX4_isCell_0 : cX4_isCell.data.toList.drop 0 = dktX4_isCell_0 := by decide +kernel
theorem dX4_isCell_0 : decode cX4_isCell 0 = .ok (.iload_n 0, 1) := dk_26 (dk_at dksX4_isCell_0 0 rfl rfl)
theorem dX4_isCell_1 : decode cX4_isCell 1 = .ok (.iconst 0, 1) := dk_3 (dk_at dksX4_isCell_0 1 rfl rfl)
theorem dX4_isCell_2 : decode cX4_isCell 2 = .ok (.bipush 63, 2) := dk_16 63 (dk_at dksX4_isCell_0 2 rfl rfl)
theorem dX4_isCell_4 : decode cX4_isCell 4 = .ok (.invokestatic 62, 3) := dk_184 0 62 (dk_at dksX4_isCell_0 4 rfl rfl)
theorem dX4_isCell_7 : decode cX4_isCell 7 = .ok (.ireturn, 1) := dk_172 (dk_at dksX4_isCell_0 7 rfl rfl)
abbrev cX4_isBetween : ByteArray := prog_24_method_3_code
def yX4_isBetween : MethodName := ⟨RX4, "isBetween", "(III)Z"⟩
def dkwX4_isBetween_0 : List UInt8 := [26, 27, 161, 0, 12, 26, 28, 163, 0, 7, 4, 167, 0, 4, 3, 172]
abbrev dktX4_isBetween_0 : List UInt8 := dkwX4_isBetween_0 ++ []
theorem dksX4_isBetween_0 : cX4_isBetween.data.toList.drop 0 = dktX4_isBetween_0 := by decide +kernel
theorem dX4_isBetween_0 : decode cX4_isBetween 0 = .ok (.iload_n 0, 1) := dk_26 (dk_at dksX4_isBetween_0 0 rfl rfl)
theorem dX4_isBetween_1 : decode cX4_isBetween 1 = .ok (.iload_n 1, 1) := dk_27 (dk_at dksX4_isBetween_0 1 rfl rfl)
theorem dX4_isBetween_2 : decode cX4_isBetween 2 = .ok (.if_icmp .lt 12, 3) := dk_161 0 12 (dk_at dksX4_isBetween_0 2 rfl rfl)
theorem dX4_isBetween_5 : decode cX4_isBetween 5 = .ok (.iload_n 0, 1) := dk_26 (dk_at dksX4_isBetween_0 5 rfl rfl)
theorem dX4_isBetween_6 : decode cX4_isBetween 6 = .ok (.iload_n 2, 1) := dk_28 (dk_at dksX4_isBetween_0 6 rfl rfl)
theorem dX4_isBetween_7 : decode cX4_isBetween 7 = .ok (.if_icmp .gt 7, 3) := dk_163 0 7 (dk_at dksX4_isBetween_0 7 rfl rfl)
theorem dX4_isBetween_10 : decode cX4_isBetween 10 = .ok (.iconst 1, 1) := dk_4 (dk_at dksX4_isBetween_0 10 rfl rfl)
theorem dX4_isBetween_11 : decode cX4_isBetween 11 = .ok (.goto 4, 3) := dk_167 0 4 (dk_at dksX4_isBetween_0 11 rfl rfl)
theorem dX4_isBetween_14 : decode cX4_isBetween 14 = .ok (.iconst 0, 1) := dk_3 (dk_at dksX4_isBetween_0 14 rfl rfl)
theorem dX4_isBetween_15 : decode cX4_isBetween 15 = .ok (.ireturn, 1) := dk_172 (dk_at dksX4_isBetween_0 15 rfl rfl)
abbrev cX4_fails : ByteArray := prog_24_method_5_code
def yX4_fails : MethodName := ⟨RX4, "fails", "(IZ)Z"⟩
def dkwX4_fails_0 : List UInt8 := [42, 28, 153, 0, 7, 27, 167, 0, 4, 3, 181, 0, 38, 28, 172]
abbrev dktX4_fails_0 : List UInt8 := dkwX4_fails_0 ++ []
theorem dksX4_fails_0 : cX4_fails.data.toList.drop 0 = dktX4_fails_0 := by decide +kernel
theorem dX4_fails_0 : decode cX4_fails 0 = .ok (.aload_n 0, 1) := dk_42 (dk_at dksX4_fails_0 0 rfl rfl)
theorem dX4_fails_1 : decode cX4_fails 1 = .ok (.iload_n 2, 1) := dk_28 (dk_at dksX4_fails_0 1 rfl rfl)
theorem dX4_fails_2 : decode cX4_fails 2 = .ok (.ifCond .eq 7, 3) := dk_153 0 7 (dk_at dksX4_fails_0 2 rfl rfl)
theorem dX4_fails_5 : decode cX4_fails 5 = .ok (.iload_n 1, 1) := dk_27 (dk_at dksX4_fails_0 5 rfl rfl)
theorem dX4_fails_6 : decode cX4_fails 6 = .ok (.goto 4, 3) := dk_167 0 4 (dk_at dksX4_fails_0 6 rfl rfl)
theorem dX4_fails_9 : decode cX4_fails 9 = .ok (.iconst 0, 1) := dk_3 (dk_at dksX4_fails_0 9 rfl rfl)
theorem dX4_fails_10 : decode cX4_fails 10 = .ok (.putfield 38, 3) := dk_181 0 38 (dk_at dksX4_fails_0 10 rfl rfl)
theorem dX4_fails_13 : decode cX4_fails 13 = .ok (.iload_n 2, 1) := dk_28 (dk_at dksX4_fails_0 13 rfl rfl)
theorem dX4_fails_14 : decode cX4_fails 14 = .ok (.ireturn, 1) := dk_172 (dk_at dksX4_fails_0 14 rfl rfl)
abbrev cX4_isChalk : ByteArray := prog_24_method_13_code
def yX4_isChalk : MethodName := ⟨RX4, "isChalk", "(I)Z"⟩
def dkwX4_isChalk_0 : List UInt8 := [42, 180, 0, 9, 3, 27, 96, 46, 154, 0, 7, 4, 167, 0, 4, 3, 172]
abbrev dktX4_isChalk_0 : List UInt8 := dkwX4_isChalk_0 ++ []
theorem dksX4_isChalk_0 : cX4_isChalk.data.toList.drop 0 = dktX4_isChalk_0 := by decide +kernel
theorem dX4_isChalk_0 : decode cX4_isChalk 0 = .ok (.aload_n 0, 1) := dk_42 (dk_at dksX4_isChalk_0 0 rfl rfl)
theorem dX4_isChalk_1 : decode cX4_isChalk 1 = .ok (.getfield 9, 3) := dk_180 0 9 (dk_at dksX4_isChalk_0 1 rfl rfl)
theorem dX4_isChalk_4 : decode cX4_isChalk 4 = .ok (.iconst 0, 1) := dk_3 (dk_at dksX4_isChalk_0 4 rfl rfl)
theorem dX4_isChalk_5 : decode cX4_isChalk 5 = .ok (.iload_n 1, 1) := dk_27 (dk_at dksX4_isChalk_0 5 rfl rfl)
theorem dX4_isChalk_6 : decode cX4_isChalk 6 = .ok (.iadd, 1) := dk_96 (dk_at dksX4_isChalk_0 6 rfl rfl)
theorem dX4_isChalk_7 : decode cX4_isChalk 7 = .ok (.iaload, 1) := dk_46 (dk_at dksX4_isChalk_0 7 rfl rfl)
theorem dX4_isChalk_8 : decode cX4_isChalk 8 = .ok (.ifCond .ne 7, 3) := dk_154 0 7 (dk_at dksX4_isChalk_0 8 rfl rfl)
theorem dX4_isChalk_11 : decode cX4_isChalk 11 = .ok (.iconst 1, 1) := dk_4 (dk_at dksX4_isChalk_0 11 rfl rfl)
theorem dX4_isChalk_12 : decode cX4_isChalk 12 = .ok (.goto 4, 3) := dk_167 0 4 (dk_at dksX4_isChalk_0 12 rfl rfl)
theorem dX4_isChalk_15 : decode cX4_isChalk 15 = .ok (.iconst 0, 1) := dk_3 (dk_at dksX4_isChalk_0 15 rfl rfl)
theorem dX4_isChalk_16 : decode cX4_isChalk 16 = .ok (.ireturn, 1) := dk_172 (dk_at dksX4_isChalk_0 16 rfl rfl)
abbrev cX4_refuse : ByteArray := prog_24_method_6_code
def yX4_refuse : MethodName := ⟨RX4, "refuse", "(ZII)Z"⟩
def dkwX4_refuse_0 : List UInt8 := [27, 153, 0, 13, 42, 28, 181, 0, 41, 42, 29, 181, 0, 44, 27, 172]
abbrev dktX4_refuse_0 : List UInt8 := dkwX4_refuse_0 ++ []
theorem dksX4_refuse_0 : cX4_refuse.data.toList.drop 0 = dktX4_refuse_0 := by decide +kernel
theorem dX4_refuse_0 : decode cX4_refuse 0 = .ok (.iload_n 1, 1) := dk_27 (dk_at dksX4_refuse_0 0 rfl rfl)
theorem dX4_refuse_1 : decode cX4_refuse 1 = .ok (.ifCond .eq 13, 3) := dk_153 0 13 (dk_at dksX4_refuse_0 1 rfl rfl)
theorem dX4_refuse_4 : decode cX4_refuse 4 = .ok (.aload_n 0, 1) := dk_42 (dk_at dksX4_refuse_0 4 rfl rfl)
theorem dX4_refuse_5 : decode cX4_refuse 5 = .ok (.iload_n 2, 1) := dk_28 (dk_at dksX4_refuse_0 5 rfl rfl)
theorem dX4_refuse_6 : decode cX4_refuse 6 = .ok (.putfield 41, 3) := dk_181 0 41 (dk_at dksX4_refuse_0 6 rfl rfl)
theorem dX4_refuse_9 : decode cX4_refuse 9 = .ok (.aload_n 0, 1) := dk_42 (dk_at dksX4_refuse_0 9 rfl rfl)
theorem dX4_refuse_10 : decode cX4_refuse 10 = .ok (.iload_n 3, 1) := dk_29 (dk_at dksX4_refuse_0 10 rfl rfl)
theorem dX4_refuse_11 : decode cX4_refuse 11 = .ok (.putfield 44, 3) := dk_181 0 44 (dk_at dksX4_refuse_0 11 rfl rfl)
theorem dX4_refuse_14 : decode cX4_refuse 14 = .ok (.iload_n 1, 1) := dk_27 (dk_at dksX4_refuse_0 14 rfl rfl)
theorem dX4_refuse_15 : decode cX4_refuse 15 = .ok (.ireturn, 1) := dk_172 (dk_at dksX4_refuse_0 15 rfl rfl)
abbrev cX4_remember : ByteArray := prog_24_method_7_code
def yX4_remember : MethodName := ⟨RX4, "remember", "([I)V"⟩
def dkwX4_remember_3 : List UInt8 := [4, 96, 181, 0, 47, 177]
abbrev dktX4_remember_3 : List UInt8 := dkwX4_remember_3 ++ []
def dkwX4_remember_2 : List UInt8 := [132, 2, 1, 167, 255, 228, 43, 42, 180, 0, 18, 42, 180, 0, 47, 50, 184, 0, 50, 42, 89, 180, 0, 47]
abbrev dktX4_remember_2 : List UInt8 := dkwX4_remember_2 ++ dktX4_remember_3
def dkwX4_remember_1 : List UInt8 := [180, 0, 47, 162, 0, 26, 42, 180, 0, 18, 28, 4, 96, 50, 42, 180, 0, 18, 28, 50, 184, 0, 50]
abbrev dktX4_remember_1 : List UInt8 := dkwX4_remember_1 ++ dktX4_remember_2
def dkwX4_remember_0 : List UInt8 := [42, 180, 0, 47, 16, 8, 160, 0, 46, 42, 89, 180, 0, 47, 4, 100, 181, 0, 47, 3, 61, 28, 42]
abbrev dktX4_remember_0 : List UInt8 := dkwX4_remember_0 ++ dktX4_remember_1
theorem dksX4_remember_0 : cX4_remember.data.toList.drop 0 = dktX4_remember_0 := by decide +kernel
theorem dksX4_remember_1 : cX4_remember.data.toList.drop 23 = dktX4_remember_1 := dk_seg dksX4_remember_0 23 rfl rfl
theorem dksX4_remember_2 : cX4_remember.data.toList.drop 46 = dktX4_remember_2 := dk_seg dksX4_remember_1 23 rfl rfl
theorem dksX4_remember_3 : cX4_remember.data.toList.drop 70 = dktX4_remember_3 := dk_seg dksX4_remember_2 24 rfl rfl
theorem dX4_remember_0 : decode cX4_remember 0 = .ok (.aload_n 0, 1) := dk_42 (dk_at dksX4_remember_0 0 rfl rfl)
theorem dX4_remember_1 : decode cX4_remember 1 = .ok (.getfield 47, 3) := dk_180 0 47 (dk_at dksX4_remember_0 1 rfl rfl)
theorem dX4_remember_4 : decode cX4_remember 4 = .ok (.bipush 8, 2) := dk_16 8 (dk_at dksX4_remember_0 4 rfl rfl)
theorem dX4_remember_6 : decode cX4_remember 6 = .ok (.if_icmp .ne 46, 3) := dk_160 0 46 (dk_at dksX4_remember_0 6 rfl rfl)
theorem dX4_remember_9 : decode cX4_remember 9 = .ok (.aload_n 0, 1) := dk_42 (dk_at dksX4_remember_0 9 rfl rfl)
theorem dX4_remember_10 : decode cX4_remember 10 = .ok (.dup, 1) := dk_89 (dk_at dksX4_remember_0 10 rfl rfl)
theorem dX4_remember_11 : decode cX4_remember 11 = .ok (.getfield 47, 3) := dk_180 0 47 (dk_at dksX4_remember_0 11 rfl rfl)
theorem dX4_remember_14 : decode cX4_remember 14 = .ok (.iconst 1, 1) := dk_4 (dk_at dksX4_remember_0 14 rfl rfl)
theorem dX4_remember_15 : decode cX4_remember 15 = .ok (.isub, 1) := dk_100 (dk_at dksX4_remember_0 15 rfl rfl)
theorem dX4_remember_16 : decode cX4_remember 16 = .ok (.putfield 47, 3) := dk_181 0 47 (dk_at dksX4_remember_0 16 rfl rfl)
theorem dX4_remember_19 : decode cX4_remember 19 = .ok (.iconst 0, 1) := dk_3 (dk_at dksX4_remember_0 19 rfl rfl)
theorem dX4_remember_20 : decode cX4_remember 20 = .ok (.istore_n 2, 1) := dk_61 (dk_at dksX4_remember_0 20 rfl rfl)
theorem dX4_remember_21 : decode cX4_remember 21 = .ok (.iload_n 2, 1) := dk_28 (dk_at dksX4_remember_0 21 rfl rfl)
theorem dX4_remember_22 : decode cX4_remember 22 = .ok (.aload_n 0, 1) := dk_42 (dk_at dksX4_remember_0 22 rfl rfl)
theorem dX4_remember_23 : decode cX4_remember 23 = .ok (.getfield 47, 3) := dk_180 0 47 (dk_at dksX4_remember_1 0 rfl rfl)
theorem dX4_remember_26 : decode cX4_remember 26 = .ok (.if_icmp .ge 26, 3) := dk_162 0 26 (dk_at dksX4_remember_1 3 rfl rfl)
theorem dX4_remember_29 : decode cX4_remember 29 = .ok (.aload_n 0, 1) := dk_42 (dk_at dksX4_remember_1 6 rfl rfl)
theorem dX4_remember_30 : decode cX4_remember 30 = .ok (.getfield 18, 3) := dk_180 0 18 (dk_at dksX4_remember_1 7 rfl rfl)
theorem dX4_remember_33 : decode cX4_remember 33 = .ok (.iload_n 2, 1) := dk_28 (dk_at dksX4_remember_1 10 rfl rfl)
theorem dX4_remember_34 : decode cX4_remember 34 = .ok (.iconst 1, 1) := dk_4 (dk_at dksX4_remember_1 11 rfl rfl)
theorem dX4_remember_35 : decode cX4_remember 35 = .ok (.iadd, 1) := dk_96 (dk_at dksX4_remember_1 12 rfl rfl)
theorem dX4_remember_36 : decode cX4_remember 36 = .ok (.aaload, 1) := dk_50 (dk_at dksX4_remember_1 13 rfl rfl)
theorem dX4_remember_37 : decode cX4_remember 37 = .ok (.aload_n 0, 1) := dk_42 (dk_at dksX4_remember_1 14 rfl rfl)
theorem dX4_remember_38 : decode cX4_remember 38 = .ok (.getfield 18, 3) := dk_180 0 18 (dk_at dksX4_remember_1 15 rfl rfl)
theorem dX4_remember_41 : decode cX4_remember 41 = .ok (.iload_n 2, 1) := dk_28 (dk_at dksX4_remember_1 18 rfl rfl)
theorem dX4_remember_42 : decode cX4_remember 42 = .ok (.aaload, 1) := dk_50 (dk_at dksX4_remember_1 19 rfl rfl)
theorem dX4_remember_43 : decode cX4_remember 43 = .ok (.invokestatic 50, 3) := dk_184 0 50 (dk_at dksX4_remember_1 20 rfl rfl)
theorem dX4_remember_46 : decode cX4_remember 46 = .ok (.iinc 2 1, 3) := dk_132 2 1 (dk_at dksX4_remember_2 0 rfl rfl)
theorem dX4_remember_49 : decode cX4_remember 49 = .ok (.goto (-28), 3) := dk_167 255 228 (dk_at dksX4_remember_2 3 rfl rfl)
theorem dX4_remember_52 : decode cX4_remember 52 = .ok (.aload_n 1, 1) := dk_43 (dk_at dksX4_remember_2 6 rfl rfl)
theorem dX4_remember_53 : decode cX4_remember 53 = .ok (.aload_n 0, 1) := dk_42 (dk_at dksX4_remember_2 7 rfl rfl)
theorem dX4_remember_54 : decode cX4_remember 54 = .ok (.getfield 18, 3) := dk_180 0 18 (dk_at dksX4_remember_2 8 rfl rfl)
theorem dX4_remember_57 : decode cX4_remember 57 = .ok (.aload_n 0, 1) := dk_42 (dk_at dksX4_remember_2 11 rfl rfl)
theorem dX4_remember_58 : decode cX4_remember 58 = .ok (.getfield 47, 3) := dk_180 0 47 (dk_at dksX4_remember_2 12 rfl rfl)
theorem dX4_remember_61 : decode cX4_remember 61 = .ok (.aaload, 1) := dk_50 (dk_at dksX4_remember_2 15 rfl rfl)
theorem dX4_remember_62 : decode cX4_remember 62 = .ok (.invokestatic 50, 3) := dk_184 0 50 (dk_at dksX4_remember_2 16 rfl rfl)
theorem dX4_remember_65 : decode cX4_remember 65 = .ok (.aload_n 0, 1) := dk_42 (dk_at dksX4_remember_2 19 rfl rfl)
theorem dX4_remember_66 : decode cX4_remember 66 = .ok (.dup, 1) := dk_89 (dk_at dksX4_remember_2 20 rfl rfl)
theorem dX4_remember_67 : decode cX4_remember 67 = .ok (.getfield 47, 3) := dk_180 0 47 (dk_at dksX4_remember_2 21 rfl rfl)
theorem dX4_remember_70 : decode cX4_remember 70 = .ok (.iconst 1, 1) := dk_4 (dk_at dksX4_remember_3 0 rfl rfl)
theorem dX4_remember_71 : decode cX4_remember 71 = .ok (.iadd, 1) := dk_96 (dk_at dksX4_remember_3 1 rfl rfl)
theorem dX4_remember_72 : decode cX4_remember 72 = .ok (.putfield 47, 3) := dk_181 0 47 (dk_at dksX4_remember_3 2 rfl rfl)
theorem dX4_remember_75 : decode cX4_remember 75 = .ok (.return_, 1) := dk_177 (dk_at dksX4_remember_3 5 rfl rfl)
abbrev cX4_copyRow : ByteArray := prog_24_method_4_code
def yX4_copyRow : MethodName := ⟨RX4, "copyRow", "([I[I)V"⟩
def dkwX4_copyRow_0 : List UInt8 := [3, 61, 28, 17, 1, 100, 162, 0, 15, 43, 28, 42, 28, 46, 79, 132, 2, 1, 167, 255, 240, 177]
abbrev dktX4_copyRow_0 : List UInt8 := dkwX4_copyRow_0 ++ []
theorem dksX4_copyRow_0 : cX4_copyRow.data.toList.drop 0 = dktX4_copyRow_0 := by decide +kernel
theorem dX4_copyRow_0 : decode cX4_copyRow 0 = .ok (.iconst 0, 1) := dk_3 (dk_at dksX4_copyRow_0 0 rfl rfl)
theorem dX4_copyRow_1 : decode cX4_copyRow 1 = .ok (.istore_n 2, 1) := dk_61 (dk_at dksX4_copyRow_0 1 rfl rfl)
theorem dX4_copyRow_2 : decode cX4_copyRow 2 = .ok (.iload_n 2, 1) := dk_28 (dk_at dksX4_copyRow_0 2 rfl rfl)
theorem dX4_copyRow_3 : decode cX4_copyRow 3 = .ok (.sipush 356, 3) := dk_17 1 100 (dk_at dksX4_copyRow_0 3 rfl rfl)
theorem dX4_copyRow_6 : decode cX4_copyRow 6 = .ok (.if_icmp .ge 15, 3) := dk_162 0 15 (dk_at dksX4_copyRow_0 6 rfl rfl)
theorem dX4_copyRow_9 : decode cX4_copyRow 9 = .ok (.aload_n 1, 1) := dk_43 (dk_at dksX4_copyRow_0 9 rfl rfl)
theorem dX4_copyRow_10 : decode cX4_copyRow 10 = .ok (.iload_n 2, 1) := dk_28 (dk_at dksX4_copyRow_0 10 rfl rfl)
theorem dX4_copyRow_11 : decode cX4_copyRow 11 = .ok (.aload_n 0, 1) := dk_42 (dk_at dksX4_copyRow_0 11 rfl rfl)
theorem dX4_copyRow_12 : decode cX4_copyRow 12 = .ok (.iload_n 2, 1) := dk_28 (dk_at dksX4_copyRow_0 12 rfl rfl)
theorem dX4_copyRow_13 : decode cX4_copyRow 13 = .ok (.iaload, 1) := dk_46 (dk_at dksX4_copyRow_0 13 rfl rfl)
theorem dX4_copyRow_14 : decode cX4_copyRow 14 = .ok (.iastore, 1) := dk_79 (dk_at dksX4_copyRow_0 14 rfl rfl)
theorem dX4_copyRow_15 : decode cX4_copyRow 15 = .ok (.iinc 2 1, 3) := dk_132 2 1 (dk_at dksX4_copyRow_0 15 rfl rfl)
theorem dX4_copyRow_18 : decode cX4_copyRow 18 = .ok (.goto (-16), 3) := dk_167 255 240 (dk_at dksX4_copyRow_0 18 rfl rfl)
theorem dX4_copyRow_21 : decode cX4_copyRow 21 = .ok (.return_, 1) := dk_177 (dk_at dksX4_copyRow_0 21 rfl rfl)
abbrev cX4_strokesOf : ByteArray := prog_24_method_14_code
def yX4_strokesOf : MethodName := ⟨RX4, "strokesOf", "(I)I"⟩
def dkwX4_strokesOf_0 : List UInt8 := [5, 42, 180, 0, 9, 16, 64, 27, 96, 46, 104, 42, 180, 0, 9, 17, 0, 128, 27, 96, 46, 96, 172]
abbrev dktX4_strokesOf_0 : List UInt8 := dkwX4_strokesOf_0 ++ []
theorem dksX4_strokesOf_0 : cX4_strokesOf.data.toList.drop 0 = dktX4_strokesOf_0 := by decide +kernel
theorem dX4_strokesOf_0 : decode cX4_strokesOf 0 = .ok (.iconst 2, 1) := dk_5 (dk_at dksX4_strokesOf_0 0 rfl rfl)
theorem dX4_strokesOf_1 : decode cX4_strokesOf 1 = .ok (.aload_n 0, 1) := dk_42 (dk_at dksX4_strokesOf_0 1 rfl rfl)
theorem dX4_strokesOf_2 : decode cX4_strokesOf 2 = .ok (.getfield 9, 3) := dk_180 0 9 (dk_at dksX4_strokesOf_0 2 rfl rfl)
theorem dX4_strokesOf_5 : decode cX4_strokesOf 5 = .ok (.bipush 64, 2) := dk_16 64 (dk_at dksX4_strokesOf_0 5 rfl rfl)
theorem dX4_strokesOf_7 : decode cX4_strokesOf 7 = .ok (.iload_n 1, 1) := dk_27 (dk_at dksX4_strokesOf_0 7 rfl rfl)
theorem dX4_strokesOf_8 : decode cX4_strokesOf 8 = .ok (.iadd, 1) := dk_96 (dk_at dksX4_strokesOf_0 8 rfl rfl)
theorem dX4_strokesOf_9 : decode cX4_strokesOf 9 = .ok (.iaload, 1) := dk_46 (dk_at dksX4_strokesOf_0 9 rfl rfl)
theorem dX4_strokesOf_10 : decode cX4_strokesOf 10 = .ok (.imul, 1) := dk_104 (dk_at dksX4_strokesOf_0 10 rfl rfl)
theorem dX4_strokesOf_11 : decode cX4_strokesOf 11 = .ok (.aload_n 0, 1) := dk_42 (dk_at dksX4_strokesOf_0 11 rfl rfl)
theorem dX4_strokesOf_12 : decode cX4_strokesOf 12 = .ok (.getfield 9, 3) := dk_180 0 9 (dk_at dksX4_strokesOf_0 12 rfl rfl)
theorem dX4_strokesOf_15 : decode cX4_strokesOf 15 = .ok (.sipush 128, 3) := dk_17 0 128 (dk_at dksX4_strokesOf_0 15 rfl rfl)
theorem dX4_strokesOf_18 : decode cX4_strokesOf 18 = .ok (.iload_n 1, 1) := dk_27 (dk_at dksX4_strokesOf_0 18 rfl rfl)
theorem dX4_strokesOf_19 : decode cX4_strokesOf 19 = .ok (.iadd, 1) := dk_96 (dk_at dksX4_strokesOf_0 19 rfl rfl)
theorem dX4_strokesOf_20 : decode cX4_strokesOf 20 = .ok (.iaload, 1) := dk_46 (dk_at dksX4_strokesOf_0 20 rfl rfl)
theorem dX4_strokesOf_21 : decode cX4_strokesOf 21 = .ok (.iadd, 1) := dk_96 (dk_at dksX4_strokesOf_0 21 rfl rfl)
theorem dX4_strokesOf_22 : decode cX4_strokesOf 22 = .ok (.ireturn, 1) := dk_172 (dk_at dksX4_strokesOf_0 22 rfl rfl)
abbrev cX4_roof : ByteArray := prog_24_method_24_code
def yX4_roof : MethodName := ⟨RX4, "roof", "(I)I"⟩
def dkwX4_roof_3 : List UInt8 := [61, 42, 180, 0, 9, 17, 1, 99, 27, 79, 28, 172]
abbrev dktX4_roof_3 : List UInt8 := dkwX4_roof_3 ++ []
def dkwX4_roof_2 : List UInt8 := [182, 0, 98, 153, 0, 5, 3, 172, 42, 42, 180, 0, 9, 182, 0, 58, 42, 180, 0, 9, 17, 1, 99, 46]
abbrev dktX4_roof_2 : List UInt8 := dkwX4_roof_2 ++ dktX4_roof_3
def dkwX4_roof_1 : List UInt8 := [5, 42, 42, 182, 0, 112, 27, 164, 0, 7, 4, 167, 0, 4, 3, 7, 42, 182, 0, 112, 182, 0, 105]
abbrev dktX4_roof_1 : List UInt8 := dkwX4_roof_1 ++ dktX4_roof_2
def dkwX4_roof_0 : List UInt8 := [42, 4, 27, 5, 16, 8, 184, 0, 62, 154, 0, 7, 4, 167, 0, 4, 3, 182, 0, 98, 154, 0, 33, 42]
abbrev dktX4_roof_0 : List UInt8 := dkwX4_roof_0 ++ dktX4_roof_1
theorem dksX4_roof_0 : cX4_roof.data.toList.drop 0 = dktX4_roof_0 := by decide +kernel
theorem dksX4_roof_1 : cX4_roof.data.toList.drop 24 = dktX4_roof_1 := dk_seg dksX4_roof_0 24 rfl rfl
theorem dksX4_roof_2 : cX4_roof.data.toList.drop 47 = dktX4_roof_2 := dk_seg dksX4_roof_1 23 rfl rfl
theorem dksX4_roof_3 : cX4_roof.data.toList.drop 71 = dktX4_roof_3 := dk_seg dksX4_roof_2 24 rfl rfl
theorem dX4_roof_0 : decode cX4_roof 0 = .ok (.aload_n 0, 1) := dk_42 (dk_at dksX4_roof_0 0 rfl rfl)
theorem dX4_roof_1 : decode cX4_roof 1 = .ok (.iconst 1, 1) := dk_4 (dk_at dksX4_roof_0 1 rfl rfl)
theorem dX4_roof_2 : decode cX4_roof 2 = .ok (.iload_n 1, 1) := dk_27 (dk_at dksX4_roof_0 2 rfl rfl)
theorem dX4_roof_3 : decode cX4_roof 3 = .ok (.iconst 2, 1) := dk_5 (dk_at dksX4_roof_0 3 rfl rfl)
theorem dX4_roof_4 : decode cX4_roof 4 = .ok (.bipush 8, 2) := dk_16 8 (dk_at dksX4_roof_0 4 rfl rfl)
theorem dX4_roof_6 : decode cX4_roof 6 = .ok (.invokestatic 62, 3) := dk_184 0 62 (dk_at dksX4_roof_0 6 rfl rfl)
theorem dX4_roof_9 : decode cX4_roof 9 = .ok (.ifCond .ne 7, 3) := dk_154 0 7 (dk_at dksX4_roof_0 9 rfl rfl)
theorem dX4_roof_12 : decode cX4_roof 12 = .ok (.iconst 1, 1) := dk_4 (dk_at dksX4_roof_0 12 rfl rfl)
theorem dX4_roof_13 : decode cX4_roof 13 = .ok (.goto 4, 3) := dk_167 0 4 (dk_at dksX4_roof_0 13 rfl rfl)
theorem dX4_roof_16 : decode cX4_roof 16 = .ok (.iconst 0, 1) := dk_3 (dk_at dksX4_roof_0 16 rfl rfl)
theorem dX4_roof_17 : decode cX4_roof 17 = .ok (.invokevirtual 98, 3) := dk_182 0 98 (dk_at dksX4_roof_0 17 rfl rfl)
theorem dX4_roof_20 : decode cX4_roof 20 = .ok (.ifCond .ne 33, 3) := dk_154 0 33 (dk_at dksX4_roof_0 20 rfl rfl)
theorem dX4_roof_23 : decode cX4_roof 23 = .ok (.aload_n 0, 1) := dk_42 (dk_at dksX4_roof_0 23 rfl rfl)
theorem dX4_roof_24 : decode cX4_roof 24 = .ok (.iconst 2, 1) := dk_5 (dk_at dksX4_roof_1 0 rfl rfl)
theorem dX4_roof_25 : decode cX4_roof 25 = .ok (.aload_n 0, 1) := dk_42 (dk_at dksX4_roof_1 1 rfl rfl)
theorem dX4_roof_26 : decode cX4_roof 26 = .ok (.aload_n 0, 1) := dk_42 (dk_at dksX4_roof_1 2 rfl rfl)
theorem dX4_roof_27 : decode cX4_roof 27 = .ok (.invokevirtual 112, 3) := dk_182 0 112 (dk_at dksX4_roof_1 3 rfl rfl)
theorem dX4_roof_30 : decode cX4_roof 30 = .ok (.iload_n 1, 1) := dk_27 (dk_at dksX4_roof_1 6 rfl rfl)
theorem dX4_roof_31 : decode cX4_roof 31 = .ok (.if_icmp .le 7, 3) := dk_164 0 7 (dk_at dksX4_roof_1 7 rfl rfl)
theorem dX4_roof_34 : decode cX4_roof 34 = .ok (.iconst 1, 1) := dk_4 (dk_at dksX4_roof_1 10 rfl rfl)
theorem dX4_roof_35 : decode cX4_roof 35 = .ok (.goto 4, 3) := dk_167 0 4 (dk_at dksX4_roof_1 11 rfl rfl)
theorem dX4_roof_38 : decode cX4_roof 38 = .ok (.iconst 0, 1) := dk_3 (dk_at dksX4_roof_1 14 rfl rfl)
theorem dX4_roof_39 : decode cX4_roof 39 = .ok (.iconst 4, 1) := dk_7 (dk_at dksX4_roof_1 15 rfl rfl)
theorem dX4_roof_40 : decode cX4_roof 40 = .ok (.aload_n 0, 1) := dk_42 (dk_at dksX4_roof_1 16 rfl rfl)
theorem dX4_roof_41 : decode cX4_roof 41 = .ok (.invokevirtual 112, 3) := dk_182 0 112 (dk_at dksX4_roof_1 17 rfl rfl)
theorem dX4_roof_44 : decode cX4_roof 44 = .ok (.invokevirtual 105, 3) := dk_182 0 105 (dk_at dksX4_roof_1 20 rfl rfl)
theorem dX4_roof_47 : decode cX4_roof 47 = .ok (.invokevirtual 98, 3) := dk_182 0 98 (dk_at dksX4_roof_2 0 rfl rfl)
theorem dX4_roof_50 : decode cX4_roof 50 = .ok (.ifCond .eq 5, 3) := dk_153 0 5 (dk_at dksX4_roof_2 3 rfl rfl)
theorem dX4_roof_53 : decode cX4_roof 53 = .ok (.iconst 0, 1) := dk_3 (dk_at dksX4_roof_2 6 rfl rfl)
theorem dX4_roof_54 : decode cX4_roof 54 = .ok (.ireturn, 1) := dk_172 (dk_at dksX4_roof_2 7 rfl rfl)
theorem dX4_roof_55 : decode cX4_roof 55 = .ok (.aload_n 0, 1) := dk_42 (dk_at dksX4_roof_2 8 rfl rfl)
theorem dX4_roof_56 : decode cX4_roof 56 = .ok (.aload_n 0, 1) := dk_42 (dk_at dksX4_roof_2 9 rfl rfl)
theorem dX4_roof_57 : decode cX4_roof 57 = .ok (.getfield 9, 3) := dk_180 0 9 (dk_at dksX4_roof_2 10 rfl rfl)
theorem dX4_roof_60 : decode cX4_roof 60 = .ok (.invokevirtual 58, 3) := dk_182 0 58 (dk_at dksX4_roof_2 13 rfl rfl)
theorem dX4_roof_63 : decode cX4_roof 63 = .ok (.aload_n 0, 1) := dk_42 (dk_at dksX4_roof_2 16 rfl rfl)
theorem dX4_roof_64 : decode cX4_roof 64 = .ok (.getfield 9, 3) := dk_180 0 9 (dk_at dksX4_roof_2 17 rfl rfl)
theorem dX4_roof_67 : decode cX4_roof 67 = .ok (.sipush 355, 3) := dk_17 1 99 (dk_at dksX4_roof_2 20 rfl rfl)
theorem dX4_roof_70 : decode cX4_roof 70 = .ok (.iaload, 1) := dk_46 (dk_at dksX4_roof_2 23 rfl rfl)
theorem dX4_roof_71 : decode cX4_roof 71 = .ok (.istore_n 2, 1) := dk_61 (dk_at dksX4_roof_3 0 rfl rfl)
theorem dX4_roof_72 : decode cX4_roof 72 = .ok (.aload_n 0, 1) := dk_42 (dk_at dksX4_roof_3 1 rfl rfl)
theorem dX4_roof_73 : decode cX4_roof 73 = .ok (.getfield 9, 3) := dk_180 0 9 (dk_at dksX4_roof_3 2 rfl rfl)
theorem dX4_roof_76 : decode cX4_roof 76 = .ok (.sipush 355, 3) := dk_17 1 99 (dk_at dksX4_roof_3 5 rfl rfl)
theorem dX4_roof_79 : decode cX4_roof 79 = .ok (.iload_n 1, 1) := dk_27 (dk_at dksX4_roof_3 8 rfl rfl)
theorem dX4_roof_80 : decode cX4_roof 80 = .ok (.iastore, 1) := dk_79 (dk_at dksX4_roof_3 9 rfl rfl)
theorem dX4_roof_81 : decode cX4_roof 81 = .ok (.iload_n 2, 1) := dk_28 (dk_at dksX4_roof_3 10 rfl rfl)
theorem dX4_roof_82 : decode cX4_roof 82 = .ok (.ireturn, 1) := dk_172 (dk_at dksX4_roof_3 11 rfl rfl)
abbrev cX4_longestSpan : ByteArray := prog_24_method_22_code
def yX4_longestSpan : MethodName := ⟨RX4, "longestSpan", "()I"⟩
def dkwX4_longestSpan_1 : List UInt8 := [167, 0, 4, 3, 62, 29, 27, 164, 0, 7, 29, 167, 0, 4, 27, 60, 132, 2, 1, 167, 255, 218, 27, 172]
abbrev dktX4_longestSpan_1 : List UInt8 := dkwX4_longestSpan_1 ++ []
def dkwX4_longestSpan_0 : List UInt8 := [3, 60, 3, 61, 28, 16, 64, 162, 0, 38, 42, 28, 182, 0, 81, 153, 0, 11, 42, 28, 182, 0, 91]
abbrev dktX4_longestSpan_0 : List UInt8 := dkwX4_longestSpan_0 ++ dktX4_longestSpan_1
theorem dksX4_longestSpan_0 : cX4_longestSpan.data.toList.drop 0 = dktX4_longestSpan_0 := by decide +kernel
theorem dksX4_longestSpan_1 : cX4_longestSpan.data.toList.drop 23 = dktX4_longestSpan_1 := dk_seg dksX4_longestSpan_0 23 rfl rfl
theorem dX4_longestSpan_0 : decode cX4_longestSpan 0 = .ok (.iconst 0, 1) := dk_3 (dk_at dksX4_longestSpan_0 0 rfl rfl)
theorem dX4_longestSpan_1 : decode cX4_longestSpan 1 = .ok (.istore_n 1, 1) := dk_60 (dk_at dksX4_longestSpan_0 1 rfl rfl)
theorem dX4_longestSpan_2 : decode cX4_longestSpan 2 = .ok (.iconst 0, 1) := dk_3 (dk_at dksX4_longestSpan_0 2 rfl rfl)
theorem dX4_longestSpan_3 : decode cX4_longestSpan 3 = .ok (.istore_n 2, 1) := dk_61 (dk_at dksX4_longestSpan_0 3 rfl rfl)
theorem dX4_longestSpan_4 : decode cX4_longestSpan 4 = .ok (.iload_n 2, 1) := dk_28 (dk_at dksX4_longestSpan_0 4 rfl rfl)
theorem dX4_longestSpan_5 : decode cX4_longestSpan 5 = .ok (.bipush 64, 2) := dk_16 64 (dk_at dksX4_longestSpan_0 5 rfl rfl)
theorem dX4_longestSpan_7 : decode cX4_longestSpan 7 = .ok (.if_icmp .ge 38, 3) := dk_162 0 38 (dk_at dksX4_longestSpan_0 7 rfl rfl)
theorem dX4_longestSpan_10 : decode cX4_longestSpan 10 = .ok (.aload_n 0, 1) := dk_42 (dk_at dksX4_longestSpan_0 10 rfl rfl)
theorem dX4_longestSpan_11 : decode cX4_longestSpan 11 = .ok (.iload_n 2, 1) := dk_28 (dk_at dksX4_longestSpan_0 11 rfl rfl)
theorem dX4_longestSpan_12 : decode cX4_longestSpan 12 = .ok (.invokevirtual 81, 3) := dk_182 0 81 (dk_at dksX4_longestSpan_0 12 rfl rfl)
theorem dX4_longestSpan_15 : decode cX4_longestSpan 15 = .ok (.ifCond .eq 11, 3) := dk_153 0 11 (dk_at dksX4_longestSpan_0 15 rfl rfl)
theorem dX4_longestSpan_18 : decode cX4_longestSpan 18 = .ok (.aload_n 0, 1) := dk_42 (dk_at dksX4_longestSpan_0 18 rfl rfl)
theorem dX4_longestSpan_19 : decode cX4_longestSpan 19 = .ok (.iload_n 2, 1) := dk_28 (dk_at dksX4_longestSpan_0 19 rfl rfl)
theorem dX4_longestSpan_20 : decode cX4_longestSpan 20 = .ok (.invokevirtual 91, 3) := dk_182 0 91 (dk_at dksX4_longestSpan_0 20 rfl rfl)
theorem dX4_longestSpan_23 : decode cX4_longestSpan 23 = .ok (.goto 4, 3) := dk_167 0 4 (dk_at dksX4_longestSpan_1 0 rfl rfl)
theorem dX4_longestSpan_26 : decode cX4_longestSpan 26 = .ok (.iconst 0, 1) := dk_3 (dk_at dksX4_longestSpan_1 3 rfl rfl)
theorem dX4_longestSpan_27 : decode cX4_longestSpan 27 = .ok (.istore_n 3, 1) := dk_62 (dk_at dksX4_longestSpan_1 4 rfl rfl)
theorem dX4_longestSpan_28 : decode cX4_longestSpan 28 = .ok (.iload_n 3, 1) := dk_29 (dk_at dksX4_longestSpan_1 5 rfl rfl)
theorem dX4_longestSpan_29 : decode cX4_longestSpan 29 = .ok (.iload_n 1, 1) := dk_27 (dk_at dksX4_longestSpan_1 6 rfl rfl)
theorem dX4_longestSpan_30 : decode cX4_longestSpan 30 = .ok (.if_icmp .le 7, 3) := dk_164 0 7 (dk_at dksX4_longestSpan_1 7 rfl rfl)
theorem dX4_longestSpan_33 : decode cX4_longestSpan 33 = .ok (.iload_n 3, 1) := dk_29 (dk_at dksX4_longestSpan_1 10 rfl rfl)
theorem dX4_longestSpan_34 : decode cX4_longestSpan 34 = .ok (.goto 4, 3) := dk_167 0 4 (dk_at dksX4_longestSpan_1 11 rfl rfl)
theorem dX4_longestSpan_37 : decode cX4_longestSpan 37 = .ok (.iload_n 1, 1) := dk_27 (dk_at dksX4_longestSpan_1 14 rfl rfl)
theorem dX4_longestSpan_38 : decode cX4_longestSpan 38 = .ok (.istore_n 1, 1) := dk_60 (dk_at dksX4_longestSpan_1 15 rfl rfl)
theorem dX4_longestSpan_39 : decode cX4_longestSpan 39 = .ok (.iinc 2 1, 3) := dk_132 2 1 (dk_at dksX4_longestSpan_1 16 rfl rfl)
theorem dX4_longestSpan_42 : decode cX4_longestSpan 42 = .ok (.goto (-38), 3) := dk_167 255 218 (dk_at dksX4_longestSpan_1 19 rfl rfl)
theorem dX4_longestSpan_45 : decode cX4_longestSpan 45 = .ok (.iload_n 1, 1) := dk_27 (dk_at dksX4_longestSpan_1 22 rfl rfl)
theorem dX4_longestSpan_46 : decode cX4_longestSpan 46 = .ok (.ireturn, 1) := dk_172 (dk_at dksX4_longestSpan_1 23 rfl rfl)
abbrev cX4_isBare : ByteArray := prog_24_method_17_code
def yX4_isBare : MethodName := ⟨RX4, "isBare", "(I)Z"⟩
def dkwX4_isBare_1 : List UInt8 := [167, 0, 4, 3, 172]
abbrev dktX4_isBare_1 : List UInt8 := dkwX4_isBare_1 ++ []
def dkwX4_isBare_0 : List UInt8 := [42, 27, 182, 0, 66, 153, 0, 20, 42, 180, 0, 9, 17, 1, 0, 27, 96, 46, 154, 0, 7, 4]
abbrev dktX4_isBare_0 : List UInt8 := dkwX4_isBare_0 ++ dktX4_isBare_1
theorem dksX4_isBare_0 : cX4_isBare.data.toList.drop 0 = dktX4_isBare_0 := by decide +kernel
theorem dksX4_isBare_1 : cX4_isBare.data.toList.drop 22 = dktX4_isBare_1 := dk_seg dksX4_isBare_0 22 rfl rfl
theorem dX4_isBare_0 : decode cX4_isBare 0 = .ok (.aload_n 0, 1) := dk_42 (dk_at dksX4_isBare_0 0 rfl rfl)
theorem dX4_isBare_1 : decode cX4_isBare 1 = .ok (.iload_n 1, 1) := dk_27 (dk_at dksX4_isBare_0 1 rfl rfl)
theorem dX4_isBare_2 : decode cX4_isBare 2 = .ok (.invokevirtual 66, 3) := dk_182 0 66 (dk_at dksX4_isBare_0 2 rfl rfl)
theorem dX4_isBare_5 : decode cX4_isBare 5 = .ok (.ifCond .eq 20, 3) := dk_153 0 20 (dk_at dksX4_isBare_0 5 rfl rfl)
theorem dX4_isBare_8 : decode cX4_isBare 8 = .ok (.aload_n 0, 1) := dk_42 (dk_at dksX4_isBare_0 8 rfl rfl)
theorem dX4_isBare_9 : decode cX4_isBare 9 = .ok (.getfield 9, 3) := dk_180 0 9 (dk_at dksX4_isBare_0 9 rfl rfl)
theorem dX4_isBare_12 : decode cX4_isBare 12 = .ok (.sipush 256, 3) := dk_17 1 0 (dk_at dksX4_isBare_0 12 rfl rfl)
theorem dX4_isBare_15 : decode cX4_isBare 15 = .ok (.iload_n 1, 1) := dk_27 (dk_at dksX4_isBare_0 15 rfl rfl)
theorem dX4_isBare_16 : decode cX4_isBare 16 = .ok (.iadd, 1) := dk_96 (dk_at dksX4_isBare_0 16 rfl rfl)
theorem dX4_isBare_17 : decode cX4_isBare 17 = .ok (.iaload, 1) := dk_46 (dk_at dksX4_isBare_0 17 rfl rfl)
theorem dX4_isBare_18 : decode cX4_isBare 18 = .ok (.ifCond .ne 7, 3) := dk_154 0 7 (dk_at dksX4_isBare_0 18 rfl rfl)
theorem dX4_isBare_21 : decode cX4_isBare 21 = .ok (.iconst 1, 1) := dk_4 (dk_at dksX4_isBare_0 21 rfl rfl)
theorem dX4_isBare_22 : decode cX4_isBare 22 = .ok (.goto 4, 3) := dk_167 0 4 (dk_at dksX4_isBare_1 0 rfl rfl)
theorem dX4_isBare_25 : decode cX4_isBare 25 = .ok (.iconst 0, 1) := dk_3 (dk_at dksX4_isBare_1 3 rfl rfl)
theorem dX4_isBare_26 : decode cX4_isBare 26 = .ok (.ireturn, 1) := dk_172 (dk_at dksX4_isBare_1 4 rfl rfl)
abbrev cX4_isOpen : ByteArray := prog_24_method_11_code
def yX4_isOpen : MethodName := ⟨RX4, "isOpen", "(I)Z"⟩
def dkwX4_isOpen_0 : List UInt8 := [27, 155, 0, 19, 42, 180, 0, 9, 3, 27, 96, 46, 4, 160, 0, 7, 4, 167, 0, 4, 3, 172]
abbrev dktX4_isOpen_0 : List UInt8 := dkwX4_isOpen_0 ++ []
theorem dksX4_isOpen_0 : cX4_isOpen.data.toList.drop 0 = dktX4_isOpen_0 := by decide +kernel
theorem dX4_isOpen_0 : decode cX4_isOpen 0 = .ok (.iload_n 1, 1) := dk_27 (dk_at dksX4_isOpen_0 0 rfl rfl)
theorem dX4_isOpen_1 : decode cX4_isOpen 1 = .ok (.ifCond .lt 19, 3) := dk_155 0 19 (dk_at dksX4_isOpen_0 1 rfl rfl)
theorem dX4_isOpen_4 : decode cX4_isOpen 4 = .ok (.aload_n 0, 1) := dk_42 (dk_at dksX4_isOpen_0 4 rfl rfl)
theorem dX4_isOpen_5 : decode cX4_isOpen 5 = .ok (.getfield 9, 3) := dk_180 0 9 (dk_at dksX4_isOpen_0 5 rfl rfl)
theorem dX4_isOpen_8 : decode cX4_isOpen 8 = .ok (.iconst 0, 1) := dk_3 (dk_at dksX4_isOpen_0 8 rfl rfl)
theorem dX4_isOpen_9 : decode cX4_isOpen 9 = .ok (.iload_n 1, 1) := dk_27 (dk_at dksX4_isOpen_0 9 rfl rfl)
theorem dX4_isOpen_10 : decode cX4_isOpen 10 = .ok (.iadd, 1) := dk_96 (dk_at dksX4_isOpen_0 10 rfl rfl)
theorem dX4_isOpen_11 : decode cX4_isOpen 11 = .ok (.iaload, 1) := dk_46 (dk_at dksX4_isOpen_0 11 rfl rfl)
theorem dX4_isOpen_12 : decode cX4_isOpen 12 = .ok (.iconst 1, 1) := dk_4 (dk_at dksX4_isOpen_0 12 rfl rfl)
theorem dX4_isOpen_13 : decode cX4_isOpen 13 = .ok (.if_icmp .ne 7, 3) := dk_160 0 7 (dk_at dksX4_isOpen_0 13 rfl rfl)
theorem dX4_isOpen_16 : decode cX4_isOpen 16 = .ok (.iconst 1, 1) := dk_4 (dk_at dksX4_isOpen_0 16 rfl rfl)
theorem dX4_isOpen_17 : decode cX4_isOpen 17 = .ok (.goto 4, 3) := dk_167 0 4 (dk_at dksX4_isOpen_0 17 rfl rfl)
theorem dX4_isOpen_20 : decode cX4_isOpen 20 = .ok (.iconst 0, 1) := dk_3 (dk_at dksX4_isOpen_0 20 rfl rfl)
theorem dX4_isOpen_21 : decode cX4_isOpen 21 = .ok (.ireturn, 1) := dk_172 (dk_at dksX4_isOpen_0 21 rfl rfl)
abbrev cX4_longerSpanWith : ByteArray := prog_24_method_21_code
def yX4_longerSpanWith : MethodName := ⟨RX4, "longerSpanWith", "(I)I"⟩
def dkwX4_longerSpanWith_1 : List UInt8 := [172]
abbrev dktX4_longerSpanWith_1 : List UInt8 := dkwX4_longerSpanWith_1 ++ []
def dkwX4_longerSpanWith_0 : List UInt8 := [42, 27, 3, 182, 0, 87, 61, 42, 27, 4, 182, 0, 87, 62, 28, 29, 164, 0, 7, 28, 167, 0, 4, 29]
abbrev dktX4_longerSpanWith_0 : List UInt8 := dkwX4_longerSpanWith_0 ++ dktX4_longerSpanWith_1
theorem dksX4_longerSpanWith_0 : cX4_longerSpanWith.data.toList.drop 0 = dktX4_longerSpanWith_0 := by decide +kernel
theorem dksX4_longerSpanWith_1 : cX4_longerSpanWith.data.toList.drop 24 = dktX4_longerSpanWith_1 := dk_seg dksX4_longerSpanWith_0 24 rfl rfl
theorem dX4_longerSpanWith_0 : decode cX4_longerSpanWith 0 = .ok (.aload_n 0, 1) := dk_42 (dk_at dksX4_longerSpanWith_0 0 rfl rfl)
theorem dX4_longerSpanWith_1 : decode cX4_longerSpanWith 1 = .ok (.iload_n 1, 1) := dk_27 (dk_at dksX4_longerSpanWith_0 1 rfl rfl)
theorem dX4_longerSpanWith_2 : decode cX4_longerSpanWith 2 = .ok (.iconst 0, 1) := dk_3 (dk_at dksX4_longerSpanWith_0 2 rfl rfl)
theorem dX4_longerSpanWith_3 : decode cX4_longerSpanWith 3 = .ok (.invokevirtual 87, 3) := dk_182 0 87 (dk_at dksX4_longerSpanWith_0 3 rfl rfl)
theorem dX4_longerSpanWith_6 : decode cX4_longerSpanWith 6 = .ok (.istore_n 2, 1) := dk_61 (dk_at dksX4_longerSpanWith_0 6 rfl rfl)
theorem dX4_longerSpanWith_7 : decode cX4_longerSpanWith 7 = .ok (.aload_n 0, 1) := dk_42 (dk_at dksX4_longerSpanWith_0 7 rfl rfl)
theorem dX4_longerSpanWith_8 : decode cX4_longerSpanWith 8 = .ok (.iload_n 1, 1) := dk_27 (dk_at dksX4_longerSpanWith_0 8 rfl rfl)
theorem dX4_longerSpanWith_9 : decode cX4_longerSpanWith 9 = .ok (.iconst 1, 1) := dk_4 (dk_at dksX4_longerSpanWith_0 9 rfl rfl)
theorem dX4_longerSpanWith_10 : decode cX4_longerSpanWith 10 = .ok (.invokevirtual 87, 3) := dk_182 0 87 (dk_at dksX4_longerSpanWith_0 10 rfl rfl)
theorem dX4_longerSpanWith_13 : decode cX4_longerSpanWith 13 = .ok (.istore_n 3, 1) := dk_62 (dk_at dksX4_longerSpanWith_0 13 rfl rfl)
theorem dX4_longerSpanWith_14 : decode cX4_longerSpanWith 14 = .ok (.iload_n 2, 1) := dk_28 (dk_at dksX4_longerSpanWith_0 14 rfl rfl)
theorem dX4_longerSpanWith_15 : decode cX4_longerSpanWith 15 = .ok (.iload_n 3, 1) := dk_29 (dk_at dksX4_longerSpanWith_0 15 rfl rfl)
theorem dX4_longerSpanWith_16 : decode cX4_longerSpanWith 16 = .ok (.if_icmp .le 7, 3) := dk_164 0 7 (dk_at dksX4_longerSpanWith_0 16 rfl rfl)
theorem dX4_longerSpanWith_19 : decode cX4_longerSpanWith 19 = .ok (.iload_n 2, 1) := dk_28 (dk_at dksX4_longerSpanWith_0 19 rfl rfl)
theorem dX4_longerSpanWith_20 : decode cX4_longerSpanWith 20 = .ok (.goto 4, 3) := dk_167 0 4 (dk_at dksX4_longerSpanWith_0 20 rfl rfl)
theorem dX4_longerSpanWith_23 : decode cX4_longerSpanWith 23 = .ok (.iload_n 3, 1) := dk_29 (dk_at dksX4_longerSpanWith_0 23 rfl rfl)
theorem dX4_longerSpanWith_24 : decode cX4_longerSpanWith 24 = .ok (.ireturn, 1) := dk_172 (dk_at dksX4_longerSpanWith_1 0 rfl rfl)
abbrev cX4_spanWith : ByteArray := prog_24_method_19_code
def yX4_spanWith : MethodName := ⟨RX4, "spanWith", "(IZ)I"⟩
def dkwX4_spanWith_1 : List UInt8 := [167, 0, 4, 5, 182, 0, 84, 96, 172]
abbrev dktX4_spanWith_1 : List UInt8 := dkwX4_spanWith_1 ++ []
def dkwX4_spanWith_0 : List UInt8 := [4, 42, 27, 28, 153, 0, 7, 3, 167, 0, 4, 4, 182, 0, 84, 96, 42, 27, 28, 153, 0, 7, 6]
abbrev dktX4_spanWith_0 : List UInt8 := dkwX4_spanWith_0 ++ dktX4_spanWith_1
theorem dksX4_spanWith_0 : cX4_spanWith.data.toList.drop 0 = dktX4_spanWith_0 := by decide +kernel
theorem dksX4_spanWith_1 : cX4_spanWith.data.toList.drop 23 = dktX4_spanWith_1 := dk_seg dksX4_spanWith_0 23 rfl rfl
theorem dX4_spanWith_0 : decode cX4_spanWith 0 = .ok (.iconst 1, 1) := dk_4 (dk_at dksX4_spanWith_0 0 rfl rfl)
theorem dX4_spanWith_1 : decode cX4_spanWith 1 = .ok (.aload_n 0, 1) := dk_42 (dk_at dksX4_spanWith_0 1 rfl rfl)
theorem dX4_spanWith_2 : decode cX4_spanWith 2 = .ok (.iload_n 1, 1) := dk_27 (dk_at dksX4_spanWith_0 2 rfl rfl)
theorem dX4_spanWith_3 : decode cX4_spanWith 3 = .ok (.iload_n 2, 1) := dk_28 (dk_at dksX4_spanWith_0 3 rfl rfl)
theorem dX4_spanWith_4 : decode cX4_spanWith 4 = .ok (.ifCond .eq 7, 3) := dk_153 0 7 (dk_at dksX4_spanWith_0 4 rfl rfl)
theorem dX4_spanWith_7 : decode cX4_spanWith 7 = .ok (.iconst 0, 1) := dk_3 (dk_at dksX4_spanWith_0 7 rfl rfl)
theorem dX4_spanWith_8 : decode cX4_spanWith 8 = .ok (.goto 4, 3) := dk_167 0 4 (dk_at dksX4_spanWith_0 8 rfl rfl)
theorem dX4_spanWith_11 : decode cX4_spanWith 11 = .ok (.iconst 1, 1) := dk_4 (dk_at dksX4_spanWith_0 11 rfl rfl)
theorem dX4_spanWith_12 : decode cX4_spanWith 12 = .ok (.invokevirtual 84, 3) := dk_182 0 84 (dk_at dksX4_spanWith_0 12 rfl rfl)
theorem dX4_spanWith_15 : decode cX4_spanWith 15 = .ok (.iadd, 1) := dk_96 (dk_at dksX4_spanWith_0 15 rfl rfl)
theorem dX4_spanWith_16 : decode cX4_spanWith 16 = .ok (.aload_n 0, 1) := dk_42 (dk_at dksX4_spanWith_0 16 rfl rfl)
theorem dX4_spanWith_17 : decode cX4_spanWith 17 = .ok (.iload_n 1, 1) := dk_27 (dk_at dksX4_spanWith_0 17 rfl rfl)
theorem dX4_spanWith_18 : decode cX4_spanWith 18 = .ok (.iload_n 2, 1) := dk_28 (dk_at dksX4_spanWith_0 18 rfl rfl)
theorem dX4_spanWith_19 : decode cX4_spanWith 19 = .ok (.ifCond .eq 7, 3) := dk_153 0 7 (dk_at dksX4_spanWith_0 19 rfl rfl)
theorem dX4_spanWith_22 : decode cX4_spanWith 22 = .ok (.iconst 3, 1) := dk_6 (dk_at dksX4_spanWith_0 22 rfl rfl)
theorem dX4_spanWith_23 : decode cX4_spanWith 23 = .ok (.goto 4, 3) := dk_167 0 4 (dk_at dksX4_spanWith_1 0 rfl rfl)
theorem dX4_spanWith_26 : decode cX4_spanWith 26 = .ok (.iconst 2, 1) := dk_5 (dk_at dksX4_spanWith_1 3 rfl rfl)
theorem dX4_spanWith_27 : decode cX4_spanWith 27 = .ok (.invokevirtual 84, 3) := dk_182 0 84 (dk_at dksX4_spanWith_1 4 rfl rfl)
theorem dX4_spanWith_30 : decode cX4_spanWith 30 = .ok (.iadd, 1) := dk_96 (dk_at dksX4_spanWith_1 7 rfl rfl)
theorem dX4_spanWith_31 : decode cX4_spanWith 31 = .ok (.ireturn, 1) := dk_172 (dk_at dksX4_spanWith_1 8 rfl rfl)
abbrev cX4_bareFrom : ByteArray := prog_24_method_18_code
def yX4_bareFrom : MethodName := ⟨RX4, "bareFrom", "(II)I"⟩
def dkwX4_bareFrom_1 : List UInt8 := [184, 0, 70, 54, 4, 167, 255, 236, 29, 172]
abbrev dktX4_bareFrom_1 : List UInt8 := dkwX4_bareFrom_1 ++ []
def dkwX4_bareFrom_0 : List UInt8 := [3, 62, 27, 28, 184, 0, 70, 54, 4, 42, 21, 4, 182, 0, 81, 153, 0, 17, 132, 3, 1, 21, 4, 28]
abbrev dktX4_bareFrom_0 : List UInt8 := dkwX4_bareFrom_0 ++ dktX4_bareFrom_1
theorem dksX4_bareFrom_0 : cX4_bareFrom.data.toList.drop 0 = dktX4_bareFrom_0 := by decide +kernel
theorem dksX4_bareFrom_1 : cX4_bareFrom.data.toList.drop 24 = dktX4_bareFrom_1 := dk_seg dksX4_bareFrom_0 24 rfl rfl
theorem dX4_bareFrom_0 : decode cX4_bareFrom 0 = .ok (.iconst 0, 1) := dk_3 (dk_at dksX4_bareFrom_0 0 rfl rfl)
theorem dX4_bareFrom_1 : decode cX4_bareFrom 1 = .ok (.istore_n 3, 1) := dk_62 (dk_at dksX4_bareFrom_0 1 rfl rfl)
theorem dX4_bareFrom_2 : decode cX4_bareFrom 2 = .ok (.iload_n 1, 1) := dk_27 (dk_at dksX4_bareFrom_0 2 rfl rfl)
theorem dX4_bareFrom_3 : decode cX4_bareFrom 3 = .ok (.iload_n 2, 1) := dk_28 (dk_at dksX4_bareFrom_0 3 rfl rfl)
theorem dX4_bareFrom_4 : decode cX4_bareFrom 4 = .ok (.invokestatic 70, 3) := dk_184 0 70 (dk_at dksX4_bareFrom_0 4 rfl rfl)
theorem dX4_bareFrom_7 : decode cX4_bareFrom 7 = .ok (.istore 4, 2) := dk_54 4 (dk_at dksX4_bareFrom_0 7 rfl rfl)
theorem dX4_bareFrom_9 : decode cX4_bareFrom 9 = .ok (.aload_n 0, 1) := dk_42 (dk_at dksX4_bareFrom_0 9 rfl rfl)
theorem dX4_bareFrom_10 : decode cX4_bareFrom 10 = .ok (.iload 4, 2) := dk_21 4 (dk_at dksX4_bareFrom_0 10 rfl rfl)
theorem dX4_bareFrom_12 : decode cX4_bareFrom 12 = .ok (.invokevirtual 81, 3) := dk_182 0 81 (dk_at dksX4_bareFrom_0 12 rfl rfl)
theorem dX4_bareFrom_15 : decode cX4_bareFrom 15 = .ok (.ifCond .eq 17, 3) := dk_153 0 17 (dk_at dksX4_bareFrom_0 15 rfl rfl)
theorem dX4_bareFrom_18 : decode cX4_bareFrom 18 = .ok (.iinc 3 1, 3) := dk_132 3 1 (dk_at dksX4_bareFrom_0 18 rfl rfl)
theorem dX4_bareFrom_21 : decode cX4_bareFrom 21 = .ok (.iload 4, 2) := dk_21 4 (dk_at dksX4_bareFrom_0 21 rfl rfl)
theorem dX4_bareFrom_23 : decode cX4_bareFrom 23 = .ok (.iload_n 2, 1) := dk_28 (dk_at dksX4_bareFrom_0 23 rfl rfl)
theorem dX4_bareFrom_24 : decode cX4_bareFrom 24 = .ok (.invokestatic 70, 3) := dk_184 0 70 (dk_at dksX4_bareFrom_1 0 rfl rfl)
theorem dX4_bareFrom_27 : decode cX4_bareFrom 27 = .ok (.istore 4, 2) := dk_54 4 (dk_at dksX4_bareFrom_1 3 rfl rfl)
theorem dX4_bareFrom_29 : decode cX4_bareFrom 29 = .ok (.goto (-20), 3) := dk_167 255 236 (dk_at dksX4_bareFrom_1 5 rfl rfl)
theorem dX4_bareFrom_32 : decode cX4_bareFrom 32 = .ok (.iload_n 3, 1) := dk_29 (dk_at dksX4_bareFrom_1 8 rfl rfl)
theorem dX4_bareFrom_33 : decode cX4_bareFrom 33 = .ok (.ireturn, 1) := dk_172 (dk_at dksX4_bareFrom_1 9 rfl rfl)
abbrev cX4_beside : ByteArray := prog_24_method_10_code
def yX4_beside : MethodName := ⟨RX4, "beside", "(II)I"⟩
def dkwX4_beside_3 : List UInt8 := [104, 29, 96, 167, 0, 4, 2, 172]
abbrev dktX4_beside_3 : List UInt8 := dkwX4_beside_3 ++ []
def dkwX4_beside_2 : List UInt8 := [62, 28, 3, 16, 7, 184, 0, 62, 153, 0, 22, 29, 3, 16, 7, 184, 0, 62, 153, 0, 12, 16, 8, 28]
abbrev dktX4_beside_2 : List UInt8 := dkwX4_beside_2 ++ dktX4_beside_3
def dkwX4_beside_1 : List UInt8 := [26, 16, 8, 112, 27, 4, 160, 0, 7, 2, 167, 0, 13, 27, 5, 160, 0, 7, 4, 167, 0, 4, 3, 96]
abbrev dktX4_beside_1 : List UInt8 := dkwX4_beside_1 ++ dktX4_beside_2
def dkwX4_beside_0 : List UInt8 := [26, 16, 8, 108, 27, 154, 0, 7, 2, 167, 0, 13, 27, 6, 160, 0, 7, 4, 167, 0, 4, 3, 96, 61]
abbrev dktX4_beside_0 : List UInt8 := dkwX4_beside_0 ++ dktX4_beside_1
theorem dksX4_beside_0 : cX4_beside.data.toList.drop 0 = dktX4_beside_0 := by decide +kernel
theorem dksX4_beside_1 : cX4_beside.data.toList.drop 24 = dktX4_beside_1 := dk_seg dksX4_beside_0 24 rfl rfl
theorem dksX4_beside_2 : cX4_beside.data.toList.drop 48 = dktX4_beside_2 := dk_seg dksX4_beside_1 24 rfl rfl
theorem dksX4_beside_3 : cX4_beside.data.toList.drop 72 = dktX4_beside_3 := dk_seg dksX4_beside_2 24 rfl rfl
theorem dX4_beside_0 : decode cX4_beside 0 = .ok (.iload_n 0, 1) := dk_26 (dk_at dksX4_beside_0 0 rfl rfl)
theorem dX4_beside_1 : decode cX4_beside 1 = .ok (.bipush 8, 2) := dk_16 8 (dk_at dksX4_beside_0 1 rfl rfl)
theorem dX4_beside_3 : decode cX4_beside 3 = .ok (.idiv, 1) := dk_108 (dk_at dksX4_beside_0 3 rfl rfl)
theorem dX4_beside_4 : decode cX4_beside 4 = .ok (.iload_n 1, 1) := dk_27 (dk_at dksX4_beside_0 4 rfl rfl)
theorem dX4_beside_5 : decode cX4_beside 5 = .ok (.ifCond .ne 7, 3) := dk_154 0 7 (dk_at dksX4_beside_0 5 rfl rfl)
theorem dX4_beside_8 : decode cX4_beside 8 = .ok (.iconst (-1), 1) := dk_2 (dk_at dksX4_beside_0 8 rfl rfl)
theorem dX4_beside_9 : decode cX4_beside 9 = .ok (.goto 13, 3) := dk_167 0 13 (dk_at dksX4_beside_0 9 rfl rfl)
theorem dX4_beside_12 : decode cX4_beside 12 = .ok (.iload_n 1, 1) := dk_27 (dk_at dksX4_beside_0 12 rfl rfl)
theorem dX4_beside_13 : decode cX4_beside 13 = .ok (.iconst 3, 1) := dk_6 (dk_at dksX4_beside_0 13 rfl rfl)
theorem dX4_beside_14 : decode cX4_beside 14 = .ok (.if_icmp .ne 7, 3) := dk_160 0 7 (dk_at dksX4_beside_0 14 rfl rfl)
theorem dX4_beside_17 : decode cX4_beside 17 = .ok (.iconst 1, 1) := dk_4 (dk_at dksX4_beside_0 17 rfl rfl)
theorem dX4_beside_18 : decode cX4_beside 18 = .ok (.goto 4, 3) := dk_167 0 4 (dk_at dksX4_beside_0 18 rfl rfl)
theorem dX4_beside_21 : decode cX4_beside 21 = .ok (.iconst 0, 1) := dk_3 (dk_at dksX4_beside_0 21 rfl rfl)
theorem dX4_beside_22 : decode cX4_beside 22 = .ok (.iadd, 1) := dk_96 (dk_at dksX4_beside_0 22 rfl rfl)
theorem dX4_beside_23 : decode cX4_beside 23 = .ok (.istore_n 2, 1) := dk_61 (dk_at dksX4_beside_0 23 rfl rfl)
theorem dX4_beside_24 : decode cX4_beside 24 = .ok (.iload_n 0, 1) := dk_26 (dk_at dksX4_beside_1 0 rfl rfl)
theorem dX4_beside_25 : decode cX4_beside 25 = .ok (.bipush 8, 2) := dk_16 8 (dk_at dksX4_beside_1 1 rfl rfl)
theorem dX4_beside_27 : decode cX4_beside 27 = .ok (.irem, 1) := dk_112 (dk_at dksX4_beside_1 3 rfl rfl)
theorem dX4_beside_28 : decode cX4_beside 28 = .ok (.iload_n 1, 1) := dk_27 (dk_at dksX4_beside_1 4 rfl rfl)
theorem dX4_beside_29 : decode cX4_beside 29 = .ok (.iconst 1, 1) := dk_4 (dk_at dksX4_beside_1 5 rfl rfl)
theorem dX4_beside_30 : decode cX4_beside 30 = .ok (.if_icmp .ne 7, 3) := dk_160 0 7 (dk_at dksX4_beside_1 6 rfl rfl)
theorem dX4_beside_33 : decode cX4_beside 33 = .ok (.iconst (-1), 1) := dk_2 (dk_at dksX4_beside_1 9 rfl rfl)
theorem dX4_beside_34 : decode cX4_beside 34 = .ok (.goto 13, 3) := dk_167 0 13 (dk_at dksX4_beside_1 10 rfl rfl)
theorem dX4_beside_37 : decode cX4_beside 37 = .ok (.iload_n 1, 1) := dk_27 (dk_at dksX4_beside_1 13 rfl rfl)
theorem dX4_beside_38 : decode cX4_beside 38 = .ok (.iconst 2, 1) := dk_5 (dk_at dksX4_beside_1 14 rfl rfl)
theorem dX4_beside_39 : decode cX4_beside 39 = .ok (.if_icmp .ne 7, 3) := dk_160 0 7 (dk_at dksX4_beside_1 15 rfl rfl)
theorem dX4_beside_42 : decode cX4_beside 42 = .ok (.iconst 1, 1) := dk_4 (dk_at dksX4_beside_1 18 rfl rfl)
theorem dX4_beside_43 : decode cX4_beside 43 = .ok (.goto 4, 3) := dk_167 0 4 (dk_at dksX4_beside_1 19 rfl rfl)
theorem dX4_beside_46 : decode cX4_beside 46 = .ok (.iconst 0, 1) := dk_3 (dk_at dksX4_beside_1 22 rfl rfl)
theorem dX4_beside_47 : decode cX4_beside 47 = .ok (.iadd, 1) := dk_96 (dk_at dksX4_beside_1 23 rfl rfl)
theorem dX4_beside_48 : decode cX4_beside 48 = .ok (.istore_n 3, 1) := dk_62 (dk_at dksX4_beside_2 0 rfl rfl)
theorem dX4_beside_49 : decode cX4_beside 49 = .ok (.iload_n 2, 1) := dk_28 (dk_at dksX4_beside_2 1 rfl rfl)
theorem dX4_beside_50 : decode cX4_beside 50 = .ok (.iconst 0, 1) := dk_3 (dk_at dksX4_beside_2 2 rfl rfl)
theorem dX4_beside_51 : decode cX4_beside 51 = .ok (.bipush 7, 2) := dk_16 7 (dk_at dksX4_beside_2 3 rfl rfl)
theorem dX4_beside_53 : decode cX4_beside 53 = .ok (.invokestatic 62, 3) := dk_184 0 62 (dk_at dksX4_beside_2 5 rfl rfl)
theorem dX4_beside_56 : decode cX4_beside 56 = .ok (.ifCond .eq 22, 3) := dk_153 0 22 (dk_at dksX4_beside_2 8 rfl rfl)
theorem dX4_beside_59 : decode cX4_beside 59 = .ok (.iload_n 3, 1) := dk_29 (dk_at dksX4_beside_2 11 rfl rfl)
theorem dX4_beside_60 : decode cX4_beside 60 = .ok (.iconst 0, 1) := dk_3 (dk_at dksX4_beside_2 12 rfl rfl)
theorem dX4_beside_61 : decode cX4_beside 61 = .ok (.bipush 7, 2) := dk_16 7 (dk_at dksX4_beside_2 13 rfl rfl)
theorem dX4_beside_63 : decode cX4_beside 63 = .ok (.invokestatic 62, 3) := dk_184 0 62 (dk_at dksX4_beside_2 15 rfl rfl)
theorem dX4_beside_66 : decode cX4_beside 66 = .ok (.ifCond .eq 12, 3) := dk_153 0 12 (dk_at dksX4_beside_2 18 rfl rfl)
theorem dX4_beside_69 : decode cX4_beside 69 = .ok (.bipush 8, 2) := dk_16 8 (dk_at dksX4_beside_2 21 rfl rfl)
theorem dX4_beside_71 : decode cX4_beside 71 = .ok (.iload_n 2, 1) := dk_28 (dk_at dksX4_beside_2 23 rfl rfl)
theorem dX4_beside_72 : decode cX4_beside 72 = .ok (.imul, 1) := dk_104 (dk_at dksX4_beside_3 0 rfl rfl)
theorem dX4_beside_73 : decode cX4_beside 73 = .ok (.iload_n 3, 1) := dk_29 (dk_at dksX4_beside_3 1 rfl rfl)
theorem dX4_beside_74 : decode cX4_beside 74 = .ok (.iadd, 1) := dk_96 (dk_at dksX4_beside_3 2 rfl rfl)
theorem dX4_beside_75 : decode cX4_beside 75 = .ok (.goto 4, 3) := dk_167 0 4 (dk_at dksX4_beside_3 3 rfl rfl)
theorem dX4_beside_78 : decode cX4_beside 78 = .ok (.iconst (-1), 1) := dk_2 (dk_at dksX4_beside_3 6 rfl rfl)
theorem dX4_beside_79 : decode cX4_beside 79 = .ok (.ireturn, 1) := dk_172 (dk_at dksX4_beside_3 7 rfl rfl)
abbrev cX4_props : ByteArray := prog_24_method_26_code
def yX4_props : MethodName := ⟨RX4, "props", "(I)I"⟩
def dkwX4_props_1 : List UInt8 := [172, 42, 182, 0, 116, 42, 27, 182, 0, 119, 42, 180, 0, 9, 17, 1, 96, 46, 172]
abbrev dktX4_props_1 : List UInt8 := dkwX4_props_1 ++ []
def dkwX4_props_0 : List UInt8 := [42, 4, 27, 4, 16, 99, 184, 0, 62, 154, 0, 7, 4, 167, 0, 4, 3, 182, 0, 98, 153, 0, 5, 3]
abbrev dktX4_props_0 : List UInt8 := dkwX4_props_0 ++ dktX4_props_1
theorem dksX4_props_0 : cX4_props.data.toList.drop 0 = dktX4_props_0 := by decide +kernel
theorem dksX4_props_1 : cX4_props.data.toList.drop 24 = dktX4_props_1 := dk_seg dksX4_props_0 24 rfl rfl
theorem dX4_props_0 : decode cX4_props 0 = .ok (.aload_n 0, 1) := dk_42 (dk_at dksX4_props_0 0 rfl rfl)
theorem dX4_props_1 : decode cX4_props 1 = .ok (.iconst 1, 1) := dk_4 (dk_at dksX4_props_0 1 rfl rfl)
theorem dX4_props_2 : decode cX4_props 2 = .ok (.iload_n 1, 1) := dk_27 (dk_at dksX4_props_0 2 rfl rfl)
theorem dX4_props_3 : decode cX4_props 3 = .ok (.iconst 1, 1) := dk_4 (dk_at dksX4_props_0 3 rfl rfl)
theorem dX4_props_4 : decode cX4_props 4 = .ok (.bipush 99, 2) := dk_16 99 (dk_at dksX4_props_0 4 rfl rfl)
theorem dX4_props_6 : decode cX4_props 6 = .ok (.invokestatic 62, 3) := dk_184 0 62 (dk_at dksX4_props_0 6 rfl rfl)
theorem dX4_props_9 : decode cX4_props 9 = .ok (.ifCond .ne 7, 3) := dk_154 0 7 (dk_at dksX4_props_0 9 rfl rfl)
theorem dX4_props_12 : decode cX4_props 12 = .ok (.iconst 1, 1) := dk_4 (dk_at dksX4_props_0 12 rfl rfl)
theorem dX4_props_13 : decode cX4_props 13 = .ok (.goto 4, 3) := dk_167 0 4 (dk_at dksX4_props_0 13 rfl rfl)
theorem dX4_props_16 : decode cX4_props 16 = .ok (.iconst 0, 1) := dk_3 (dk_at dksX4_props_0 16 rfl rfl)
theorem dX4_props_17 : decode cX4_props 17 = .ok (.invokevirtual 98, 3) := dk_182 0 98 (dk_at dksX4_props_0 17 rfl rfl)
theorem dX4_props_20 : decode cX4_props 20 = .ok (.ifCond .eq 5, 3) := dk_153 0 5 (dk_at dksX4_props_0 20 rfl rfl)
theorem dX4_props_23 : decode cX4_props 23 = .ok (.iconst 0, 1) := dk_3 (dk_at dksX4_props_0 23 rfl rfl)
theorem dX4_props_24 : decode cX4_props 24 = .ok (.ireturn, 1) := dk_172 (dk_at dksX4_props_1 0 rfl rfl)
theorem dX4_props_25 : decode cX4_props 25 = .ok (.aload_n 0, 1) := dk_42 (dk_at dksX4_props_1 1 rfl rfl)
theorem dX4_props_26 : decode cX4_props 26 = .ok (.invokevirtual 116, 3) := dk_182 0 116 (dk_at dksX4_props_1 2 rfl rfl)
theorem dX4_props_29 : decode cX4_props 29 = .ok (.aload_n 0, 1) := dk_42 (dk_at dksX4_props_1 5 rfl rfl)
theorem dX4_props_30 : decode cX4_props 30 = .ok (.iload_n 1, 1) := dk_27 (dk_at dksX4_props_1 6 rfl rfl)
theorem dX4_props_31 : decode cX4_props 31 = .ok (.invokevirtual 119, 3) := dk_182 0 119 (dk_at dksX4_props_1 7 rfl rfl)
theorem dX4_props_34 : decode cX4_props 34 = .ok (.aload_n 0, 1) := dk_42 (dk_at dksX4_props_1 10 rfl rfl)
theorem dX4_props_35 : decode cX4_props 35 = .ok (.getfield 9, 3) := dk_180 0 9 (dk_at dksX4_props_1 11 rfl rfl)
theorem dX4_props_38 : decode cX4_props 38 = .ok (.sipush 352, 3) := dk_17 1 96 (dk_at dksX4_props_1 14 rfl rfl)
theorem dX4_props_41 : decode cX4_props 41 = .ok (.iaload, 1) := dk_46 (dk_at dksX4_props_1 17 rfl rfl)
theorem dX4_props_42 : decode cX4_props 42 = .ok (.ireturn, 1) := dk_172 (dk_at dksX4_props_1 18 rfl rfl)
abbrev cX4_change : ByteArray := prog_24_method_8_code
def yX4_change : MethodName := ⟨RX4, "change", "()V"⟩
def dkwX4_change_0 : List UInt8 := [42, 180, 0, 54, 154, 0, 11, 42, 42, 180, 0, 9, 182, 0, 58, 177]
abbrev dktX4_change_0 : List UInt8 := dkwX4_change_0 ++ []
theorem dksX4_change_0 : cX4_change.data.toList.drop 0 = dktX4_change_0 := by decide +kernel
theorem dX4_change_0 : decode cX4_change 0 = .ok (.aload_n 0, 1) := dk_42 (dk_at dksX4_change_0 0 rfl rfl)
theorem dX4_change_1 : decode cX4_change 1 = .ok (.getfield 54, 3) := dk_180 0 54 (dk_at dksX4_change_0 1 rfl rfl)
theorem dX4_change_4 : decode cX4_change 4 = .ok (.ifCond .ne 11, 3) := dk_154 0 11 (dk_at dksX4_change_0 4 rfl rfl)
theorem dX4_change_7 : decode cX4_change 7 = .ok (.aload_n 0, 1) := dk_42 (dk_at dksX4_change_0 7 rfl rfl)
theorem dX4_change_8 : decode cX4_change 8 = .ok (.aload_n 0, 1) := dk_42 (dk_at dksX4_change_0 8 rfl rfl)
theorem dX4_change_9 : decode cX4_change 9 = .ok (.getfield 9, 3) := dk_180 0 9 (dk_at dksX4_change_0 9 rfl rfl)
theorem dX4_change_12 : decode cX4_change 12 = .ok (.invokevirtual 58, 3) := dk_182 0 58 (dk_at dksX4_change_0 12 rfl rfl)
theorem dX4_change_15 : decode cX4_change 15 = .ok (.return_, 1) := dk_177 (dk_at dksX4_change_0 15 rfl rfl)
abbrev cX4_addProps : ByteArray := prog_24_method_25_code
def yX4_addProps : MethodName := ⟨RX4, "addProps", "(I)V"⟩
def dkwX4_addProps_1 : List UInt8 := [167, 0, 13, 42, 180, 0, 9, 17, 1, 96, 46, 27, 96, 79, 177]
abbrev dktX4_addProps_1 : List UInt8 := dkwX4_addProps_1 ++ []
def dkwX4_addProps_0 : List UInt8 := [42, 180, 0, 9, 17, 1, 96, 42, 180, 0, 9, 17, 1, 96, 46, 27, 96, 16, 99, 164, 0, 8, 16, 99]
abbrev dktX4_addProps_0 : List UInt8 := dkwX4_addProps_0 ++ dktX4_addProps_1
theorem dksX4_addProps_0 : cX4_addProps.data.toList.drop 0 = dktX4_addProps_0 := by decide +kernel
theorem dksX4_addProps_1 : cX4_addProps.data.toList.drop 24 = dktX4_addProps_1 := dk_seg dksX4_addProps_0 24 rfl rfl
theorem dX4_addProps_0 : decode cX4_addProps 0 = .ok (.aload_n 0, 1) := dk_42 (dk_at dksX4_addProps_0 0 rfl rfl)
theorem dX4_addProps_1 : decode cX4_addProps 1 = .ok (.getfield 9, 3) := dk_180 0 9 (dk_at dksX4_addProps_0 1 rfl rfl)
theorem dX4_addProps_4 : decode cX4_addProps 4 = .ok (.sipush 352, 3) := dk_17 1 96 (dk_at dksX4_addProps_0 4 rfl rfl)
theorem dX4_addProps_7 : decode cX4_addProps 7 = .ok (.aload_n 0, 1) := dk_42 (dk_at dksX4_addProps_0 7 rfl rfl)
theorem dX4_addProps_8 : decode cX4_addProps 8 = .ok (.getfield 9, 3) := dk_180 0 9 (dk_at dksX4_addProps_0 8 rfl rfl)
theorem dX4_addProps_11 : decode cX4_addProps 11 = .ok (.sipush 352, 3) := dk_17 1 96 (dk_at dksX4_addProps_0 11 rfl rfl)
theorem dX4_addProps_14 : decode cX4_addProps 14 = .ok (.iaload, 1) := dk_46 (dk_at dksX4_addProps_0 14 rfl rfl)
theorem dX4_addProps_15 : decode cX4_addProps 15 = .ok (.iload_n 1, 1) := dk_27 (dk_at dksX4_addProps_0 15 rfl rfl)
theorem dX4_addProps_16 : decode cX4_addProps 16 = .ok (.iadd, 1) := dk_96 (dk_at dksX4_addProps_0 16 rfl rfl)
theorem dX4_addProps_17 : decode cX4_addProps 17 = .ok (.bipush 99, 2) := dk_16 99 (dk_at dksX4_addProps_0 17 rfl rfl)
theorem dX4_addProps_19 : decode cX4_addProps 19 = .ok (.if_icmp .le 8, 3) := dk_164 0 8 (dk_at dksX4_addProps_0 19 rfl rfl)
theorem dX4_addProps_22 : decode cX4_addProps 22 = .ok (.bipush 99, 2) := dk_16 99 (dk_at dksX4_addProps_0 22 rfl rfl)
theorem dX4_addProps_24 : decode cX4_addProps 24 = .ok (.goto 13, 3) := dk_167 0 13 (dk_at dksX4_addProps_1 0 rfl rfl)
theorem dX4_addProps_27 : decode cX4_addProps 27 = .ok (.aload_n 0, 1) := dk_42 (dk_at dksX4_addProps_1 3 rfl rfl)
theorem dX4_addProps_28 : decode cX4_addProps 28 = .ok (.getfield 9, 3) := dk_180 0 9 (dk_at dksX4_addProps_1 4 rfl rfl)
theorem dX4_addProps_31 : decode cX4_addProps 31 = .ok (.sipush 352, 3) := dk_17 1 96 (dk_at dksX4_addProps_1 7 rfl rfl)
theorem dX4_addProps_34 : decode cX4_addProps 34 = .ok (.iaload, 1) := dk_46 (dk_at dksX4_addProps_1 10 rfl rfl)
theorem dX4_addProps_35 : decode cX4_addProps 35 = .ok (.iload_n 1, 1) := dk_27 (dk_at dksX4_addProps_1 11 rfl rfl)
theorem dX4_addProps_36 : decode cX4_addProps 36 = .ok (.iadd, 1) := dk_96 (dk_at dksX4_addProps_1 12 rfl rfl)
theorem dX4_addProps_37 : decode cX4_addProps 37 = .ok (.iastore, 1) := dk_79 (dk_at dksX4_addProps_1 13 rfl rfl)
theorem dX4_addProps_38 : decode cX4_addProps 38 = .ok (.return_, 1) := dk_177 (dk_at dksX4_addProps_1 14 rfl rfl)
abbrev cX4_pick : ByteArray := prog_24_method_27_code
def yX4_pick : MethodName := ⟨RX4, "pick", "(I)I"⟩
def dkwX4_pick_4 : List UInt8 := [180, 0, 9, 17, 1, 95, 46, 4, 100, 172]
abbrev dktX4_pick_4 : List UInt8 := dkwX4_pick_4 ++ []
def dkwX4_pick_3 : List UInt8 := [180, 0, 9, 17, 1, 95, 46, 96, 27, 79, 42, 180, 0, 9, 17, 1, 95, 92, 46, 4, 96, 79, 42]
abbrev dktX4_pick_3 : List UInt8 := dkwX4_pick_3 ++ dktX4_pick_4
def dkwX4_pick_2 : List UInt8 := [182, 0, 105, 182, 0, 98, 153, 0, 5, 3, 172, 42, 182, 0, 116, 42, 180, 0, 9, 17, 1, 88, 42]
abbrev dktX4_pick_2 : List UInt8 := dkwX4_pick_2 ++ dktX4_pick_3
def dkwX4_pick_1 : List UInt8 := [5, 42, 42, 180, 0, 9, 17, 1, 95, 46, 16, 6, 160, 0, 7, 4, 167, 0, 4, 3, 16, 8, 16, 6]
abbrev dktX4_pick_1 : List UInt8 := dkwX4_pick_1 ++ dktX4_pick_2
def dkwX4_pick_0 : List UInt8 := [42, 4, 27, 4, 16, 99, 184, 0, 62, 154, 0, 7, 4, 167, 0, 4, 3, 182, 0, 98, 154, 0, 37, 42]
abbrev dktX4_pick_0 : List UInt8 := dkwX4_pick_0 ++ dktX4_pick_1
theorem dksX4_pick_0 : cX4_pick.data.toList.drop 0 = dktX4_pick_0 := by decide +kernel
theorem dksX4_pick_1 : cX4_pick.data.toList.drop 24 = dktX4_pick_1 := dk_seg dksX4_pick_0 24 rfl rfl
theorem dksX4_pick_2 : cX4_pick.data.toList.drop 48 = dktX4_pick_2 := dk_seg dksX4_pick_1 24 rfl rfl
theorem dksX4_pick_3 : cX4_pick.data.toList.drop 71 = dktX4_pick_3 := dk_seg dksX4_pick_2 23 rfl rfl
theorem dksX4_pick_4 : cX4_pick.data.toList.drop 94 = dktX4_pick_4 := dk_seg dksX4_pick_3 23 rfl rfl
theorem dX4_pick_0 : decode cX4_pick 0 = .ok (.aload_n 0, 1) := dk_42 (dk_at dksX4_pick_0 0 rfl rfl)
theorem dX4_pick_1 : decode cX4_pick 1 = .ok (.iconst 1, 1) := dk_4 (dk_at dksX4_pick_0 1 rfl rfl)
theorem dX4_pick_2 : decode cX4_pick 2 = .ok (.iload_n 1, 1) := dk_27 (dk_at dksX4_pick_0 2 rfl rfl)
theorem dX4_pick_3 : decode cX4_pick 3 = .ok (.iconst 1, 1) := dk_4 (dk_at dksX4_pick_0 3 rfl rfl)
theorem dX4_pick_4 : decode cX4_pick 4 = .ok (.bipush 99, 2) := dk_16 99 (dk_at dksX4_pick_0 4 rfl rfl)
theorem dX4_pick_6 : decode cX4_pick 6 = .ok (.invokestatic 62, 3) := dk_184 0 62 (dk_at dksX4_pick_0 6 rfl rfl)
theorem dX4_pick_9 : decode cX4_pick 9 = .ok (.ifCond .ne 7, 3) := dk_154 0 7 (dk_at dksX4_pick_0 9 rfl rfl)
theorem dX4_pick_12 : decode cX4_pick 12 = .ok (.iconst 1, 1) := dk_4 (dk_at dksX4_pick_0 12 rfl rfl)
theorem dX4_pick_13 : decode cX4_pick 13 = .ok (.goto 4, 3) := dk_167 0 4 (dk_at dksX4_pick_0 13 rfl rfl)
theorem dX4_pick_16 : decode cX4_pick 16 = .ok (.iconst 0, 1) := dk_3 (dk_at dksX4_pick_0 16 rfl rfl)
theorem dX4_pick_17 : decode cX4_pick 17 = .ok (.invokevirtual 98, 3) := dk_182 0 98 (dk_at dksX4_pick_0 17 rfl rfl)
theorem dX4_pick_20 : decode cX4_pick 20 = .ok (.ifCond .ne 37, 3) := dk_154 0 37 (dk_at dksX4_pick_0 20 rfl rfl)
theorem dX4_pick_23 : decode cX4_pick 23 = .ok (.aload_n 0, 1) := dk_42 (dk_at dksX4_pick_0 23 rfl rfl)
theorem dX4_pick_24 : decode cX4_pick 24 = .ok (.iconst 2, 1) := dk_5 (dk_at dksX4_pick_1 0 rfl rfl)
theorem dX4_pick_25 : decode cX4_pick 25 = .ok (.aload_n 0, 1) := dk_42 (dk_at dksX4_pick_1 1 rfl rfl)
theorem dX4_pick_26 : decode cX4_pick 26 = .ok (.aload_n 0, 1) := dk_42 (dk_at dksX4_pick_1 2 rfl rfl)
theorem dX4_pick_27 : decode cX4_pick 27 = .ok (.getfield 9, 3) := dk_180 0 9 (dk_at dksX4_pick_1 3 rfl rfl)
theorem dX4_pick_30 : decode cX4_pick 30 = .ok (.sipush 351, 3) := dk_17 1 95 (dk_at dksX4_pick_1 6 rfl rfl)
theorem dX4_pick_33 : decode cX4_pick 33 = .ok (.iaload, 1) := dk_46 (dk_at dksX4_pick_1 9 rfl rfl)
theorem dX4_pick_34 : decode cX4_pick 34 = .ok (.bipush 6, 2) := dk_16 6 (dk_at dksX4_pick_1 10 rfl rfl)
theorem dX4_pick_36 : decode cX4_pick 36 = .ok (.if_icmp .ne 7, 3) := dk_160 0 7 (dk_at dksX4_pick_1 12 rfl rfl)
theorem dX4_pick_39 : decode cX4_pick 39 = .ok (.iconst 1, 1) := dk_4 (dk_at dksX4_pick_1 15 rfl rfl)
theorem dX4_pick_40 : decode cX4_pick 40 = .ok (.goto 4, 3) := dk_167 0 4 (dk_at dksX4_pick_1 16 rfl rfl)
theorem dX4_pick_43 : decode cX4_pick 43 = .ok (.iconst 0, 1) := dk_3 (dk_at dksX4_pick_1 19 rfl rfl)
theorem dX4_pick_44 : decode cX4_pick 44 = .ok (.bipush 8, 2) := dk_16 8 (dk_at dksX4_pick_1 20 rfl rfl)
theorem dX4_pick_46 : decode cX4_pick 46 = .ok (.bipush 6, 2) := dk_16 6 (dk_at dksX4_pick_1 22 rfl rfl)
theorem dX4_pick_48 : decode cX4_pick 48 = .ok (.invokevirtual 105, 3) := dk_182 0 105 (dk_at dksX4_pick_2 0 rfl rfl)
theorem dX4_pick_51 : decode cX4_pick 51 = .ok (.invokevirtual 98, 3) := dk_182 0 98 (dk_at dksX4_pick_2 3 rfl rfl)
theorem dX4_pick_54 : decode cX4_pick 54 = .ok (.ifCond .eq 5, 3) := dk_153 0 5 (dk_at dksX4_pick_2 6 rfl rfl)
theorem dX4_pick_57 : decode cX4_pick 57 = .ok (.iconst 0, 1) := dk_3 (dk_at dksX4_pick_2 9 rfl rfl)
theorem dX4_pick_58 : decode cX4_pick 58 = .ok (.ireturn, 1) := dk_172 (dk_at dksX4_pick_2 10 rfl rfl)
theorem dX4_pick_59 : decode cX4_pick 59 = .ok (.aload_n 0, 1) := dk_42 (dk_at dksX4_pick_2 11 rfl rfl)
theorem dX4_pick_60 : decode cX4_pick 60 = .ok (.invokevirtual 116, 3) := dk_182 0 116 (dk_at dksX4_pick_2 12 rfl rfl)
theorem dX4_pick_63 : decode cX4_pick 63 = .ok (.aload_n 0, 1) := dk_42 (dk_at dksX4_pick_2 15 rfl rfl)
theorem dX4_pick_64 : decode cX4_pick 64 = .ok (.getfield 9, 3) := dk_180 0 9 (dk_at dksX4_pick_2 16 rfl rfl)
theorem dX4_pick_67 : decode cX4_pick 67 = .ok (.sipush 344, 3) := dk_17 1 88 (dk_at dksX4_pick_2 19 rfl rfl)
theorem dX4_pick_70 : decode cX4_pick 70 = .ok (.aload_n 0, 1) := dk_42 (dk_at dksX4_pick_2 22 rfl rfl)
theorem dX4_pick_71 : decode cX4_pick 71 = .ok (.getfield 9, 3) := dk_180 0 9 (dk_at dksX4_pick_3 0 rfl rfl)
theorem dX4_pick_74 : decode cX4_pick 74 = .ok (.sipush 351, 3) := dk_17 1 95 (dk_at dksX4_pick_3 3 rfl rfl)
theorem dX4_pick_77 : decode cX4_pick 77 = .ok (.iaload, 1) := dk_46 (dk_at dksX4_pick_3 6 rfl rfl)
theorem dX4_pick_78 : decode cX4_pick 78 = .ok (.iadd, 1) := dk_96 (dk_at dksX4_pick_3 7 rfl rfl)
theorem dX4_pick_79 : decode cX4_pick 79 = .ok (.iload_n 1, 1) := dk_27 (dk_at dksX4_pick_3 8 rfl rfl)
theorem dX4_pick_80 : decode cX4_pick 80 = .ok (.iastore, 1) := dk_79 (dk_at dksX4_pick_3 9 rfl rfl)
theorem dX4_pick_81 : decode cX4_pick 81 = .ok (.aload_n 0, 1) := dk_42 (dk_at dksX4_pick_3 10 rfl rfl)
theorem dX4_pick_82 : decode cX4_pick 82 = .ok (.getfield 9, 3) := dk_180 0 9 (dk_at dksX4_pick_3 11 rfl rfl)
theorem dX4_pick_85 : decode cX4_pick 85 = .ok (.sipush 351, 3) := dk_17 1 95 (dk_at dksX4_pick_3 14 rfl rfl)
theorem dX4_pick_88 : decode cX4_pick 88 = .ok (.dup2, 1) := dk_92 (dk_at dksX4_pick_3 17 rfl rfl)
theorem dX4_pick_89 : decode cX4_pick 89 = .ok (.iaload, 1) := dk_46 (dk_at dksX4_pick_3 18 rfl rfl)
theorem dX4_pick_90 : decode cX4_pick 90 = .ok (.iconst 1, 1) := dk_4 (dk_at dksX4_pick_3 19 rfl rfl)
theorem dX4_pick_91 : decode cX4_pick 91 = .ok (.iadd, 1) := dk_96 (dk_at dksX4_pick_3 20 rfl rfl)
theorem dX4_pick_92 : decode cX4_pick 92 = .ok (.iastore, 1) := dk_79 (dk_at dksX4_pick_3 21 rfl rfl)
theorem dX4_pick_93 : decode cX4_pick 93 = .ok (.aload_n 0, 1) := dk_42 (dk_at dksX4_pick_3 22 rfl rfl)
theorem dX4_pick_94 : decode cX4_pick 94 = .ok (.getfield 9, 3) := dk_180 0 9 (dk_at dksX4_pick_4 0 rfl rfl)
theorem dX4_pick_97 : decode cX4_pick 97 = .ok (.sipush 351, 3) := dk_17 1 95 (dk_at dksX4_pick_4 3 rfl rfl)
theorem dX4_pick_100 : decode cX4_pick 100 = .ok (.iaload, 1) := dk_46 (dk_at dksX4_pick_4 6 rfl rfl)
theorem dX4_pick_101 : decode cX4_pick 101 = .ok (.iconst 1, 1) := dk_4 (dk_at dksX4_pick_4 7 rfl rfl)
theorem dX4_pick_102 : decode cX4_pick 102 = .ok (.isub, 1) := dk_100 (dk_at dksX4_pick_4 8 rfl rfl)
theorem dX4_pick_103 : decode cX4_pick 103 = .ok (.ireturn, 1) := dk_172 (dk_at dksX4_pick_4 9 rfl rfl)
abbrev cX4_edge : ByteArray := prog_24_method_28_code
def yX4_edge : MethodName := ⟨RX4, "edge", "(I)I"⟩
def dkwX4_edge_1 : List UInt8 := [3, 182, 0, 98, 153, 0, 7, 3, 167, 0, 13, 42, 180, 0, 9, 17, 1, 88, 27, 96, 46, 172]
abbrev dktX4_edge_1 : List UInt8 := dkwX4_edge_1 ++ []
def dkwX4_edge_0 : List UInt8 := [42, 4, 27, 3, 42, 180, 0, 9, 17, 1, 95, 46, 4, 100, 184, 0, 62, 154, 0, 7, 4, 167, 0, 4]
abbrev dktX4_edge_0 : List UInt8 := dkwX4_edge_0 ++ dktX4_edge_1
theorem dksX4_edge_0 : cX4_edge.data.toList.drop 0 = dktX4_edge_0 := by decide +kernel
theorem dksX4_edge_1 : cX4_edge.data.toList.drop 24 = dktX4_edge_1 := dk_seg dksX4_edge_0 24 rfl rfl
theorem dX4_edge_0 : decode cX4_edge 0 = .ok (.aload_n 0, 1) := dk_42 (dk_at dksX4_edge_0 0 rfl rfl)
theorem dX4_edge_1 : decode cX4_edge 1 = .ok (.iconst 1, 1) := dk_4 (dk_at dksX4_edge_0 1 rfl rfl)
theorem dX4_edge_2 : decode cX4_edge 2 = .ok (.iload_n 1, 1) := dk_27 (dk_at dksX4_edge_0 2 rfl rfl)
theorem dX4_edge_3 : decode cX4_edge 3 = .ok (.iconst 0, 1) := dk_3 (dk_at dksX4_edge_0 3 rfl rfl)
theorem dX4_edge_4 : decode cX4_edge 4 = .ok (.aload_n 0, 1) := dk_42 (dk_at dksX4_edge_0 4 rfl rfl)
theorem dX4_edge_5 : decode cX4_edge 5 = .ok (.getfield 9, 3) := dk_180 0 9 (dk_at dksX4_edge_0 5 rfl rfl)
theorem dX4_edge_8 : decode cX4_edge 8 = .ok (.sipush 351, 3) := dk_17 1 95 (dk_at dksX4_edge_0 8 rfl rfl)
theorem dX4_edge_11 : decode cX4_edge 11 = .ok (.iaload, 1) := dk_46 (dk_at dksX4_edge_0 11 rfl rfl)
theorem dX4_edge_12 : decode cX4_edge 12 = .ok (.iconst 1, 1) := dk_4 (dk_at dksX4_edge_0 12 rfl rfl)
theorem dX4_edge_13 : decode cX4_edge 13 = .ok (.isub, 1) := dk_100 (dk_at dksX4_edge_0 13 rfl rfl)
theorem dX4_edge_14 : decode cX4_edge 14 = .ok (.invokestatic 62, 3) := dk_184 0 62 (dk_at dksX4_edge_0 14 rfl rfl)
theorem dX4_edge_17 : decode cX4_edge 17 = .ok (.ifCond .ne 7, 3) := dk_154 0 7 (dk_at dksX4_edge_0 17 rfl rfl)
theorem dX4_edge_20 : decode cX4_edge 20 = .ok (.iconst 1, 1) := dk_4 (dk_at dksX4_edge_0 20 rfl rfl)
theorem dX4_edge_21 : decode cX4_edge 21 = .ok (.goto 4, 3) := dk_167 0 4 (dk_at dksX4_edge_0 21 rfl rfl)
theorem dX4_edge_24 : decode cX4_edge 24 = .ok (.iconst 0, 1) := dk_3 (dk_at dksX4_edge_1 0 rfl rfl)
theorem dX4_edge_25 : decode cX4_edge 25 = .ok (.invokevirtual 98, 3) := dk_182 0 98 (dk_at dksX4_edge_1 1 rfl rfl)
theorem dX4_edge_28 : decode cX4_edge 28 = .ok (.ifCond .eq 7, 3) := dk_153 0 7 (dk_at dksX4_edge_1 4 rfl rfl)
theorem dX4_edge_31 : decode cX4_edge 31 = .ok (.iconst 0, 1) := dk_3 (dk_at dksX4_edge_1 7 rfl rfl)
theorem dX4_edge_32 : decode cX4_edge 32 = .ok (.goto 13, 3) := dk_167 0 13 (dk_at dksX4_edge_1 8 rfl rfl)
theorem dX4_edge_35 : decode cX4_edge 35 = .ok (.aload_n 0, 1) := dk_42 (dk_at dksX4_edge_1 11 rfl rfl)
theorem dX4_edge_36 : decode cX4_edge 36 = .ok (.getfield 9, 3) := dk_180 0 9 (dk_at dksX4_edge_1 12 rfl rfl)
theorem dX4_edge_39 : decode cX4_edge 39 = .ok (.sipush 344, 3) := dk_17 1 88 (dk_at dksX4_edge_1 15 rfl rfl)
theorem dX4_edge_42 : decode cX4_edge 42 = .ok (.iload_n 1, 1) := dk_27 (dk_at dksX4_edge_1 18 rfl rfl)
theorem dX4_edge_43 : decode cX4_edge 43 = .ok (.iadd, 1) := dk_96 (dk_at dksX4_edge_1 19 rfl rfl)
theorem dX4_edge_44 : decode cX4_edge 44 = .ok (.iaload, 1) := dk_46 (dk_at dksX4_edge_1 20 rfl rfl)
theorem dX4_edge_45 : decode cX4_edge 45 = .ok (.ireturn, 1) := dk_172 (dk_at dksX4_edge_1 21 rfl rfl)
abbrev cX4_cell : ByteArray := prog_24_method_31_code
def yX4_cell : MethodName := ⟨RX4, "cell", "(II)I"⟩
def dkwX4_cell_6 : List UInt8 := [42, 180, 0, 9, 17, 0, 192, 27, 96, 46, 172, 42, 180, 0, 9, 17, 1, 0, 27, 96, 46, 172]
abbrev dktX4_cell_6 : List UInt8 := dkwX4_cell_6 ++ []
def dkwX4_cell_5 : List UInt8 := [46, 167, 0, 4, 3, 172, 42, 27, 182, 0, 102, 153, 0, 11, 42, 27, 182, 0, 109, 167, 0, 4, 3, 172]
abbrev dktX4_cell_5 : List UInt8 := dkwX4_cell_5 ++ dktX4_cell_6
def dkwX4_cell_4 : List UInt8 := [96, 46, 167, 0, 4, 3, 172, 42, 27, 182, 0, 102, 153, 0, 16, 42, 180, 0, 9, 17, 0, 128, 27, 96]
abbrev dktX4_cell_4 : List UInt8 := dkwX4_cell_4 ++ dktX4_cell_5
def dkwX4_cell_3 : List UInt8 := [42, 180, 0, 9, 3, 27, 96, 46, 172, 42, 27, 182, 0, 102, 153, 0, 15, 42, 180, 0, 9, 16, 64, 27]
abbrev dktX4_cell_3 : List UInt8 := dkwX4_cell_3 ++ dktX4_cell_4
def dkwX4_cell_2 : List UInt8 := [170, 0, 0, 0, 0, 0, 118, 0, 0, 0, 0, 0, 0, 0, 4, 0, 0, 0, 35, 0, 0, 0, 44, 0, 0, 0, 66, 0, 0, 0, 89, 0, 0, 0, 107]
abbrev dktX4_cell_2 : List UInt8 := dkwX4_cell_2 ++ dktX4_cell_3
def dkwX4_cell_1 : List UInt8 := [8, 184, 0, 62, 154, 0, 7, 4, 167, 0, 4, 3, 182, 0, 98, 153, 0, 5, 3, 172, 28]
abbrev dktX4_cell_1 : List UInt8 := dkwX4_cell_1 ++ dktX4_cell_2
def dkwX4_cell_0 : List UInt8 := [42, 4, 27, 184, 0, 95, 154, 0, 7, 4, 167, 0, 4, 3, 182, 0, 98, 154, 0, 25, 42, 5, 28, 3]
abbrev dktX4_cell_0 : List UInt8 := dkwX4_cell_0 ++ dktX4_cell_1
theorem dksX4_cell_0 : cX4_cell.data.toList.drop 0 = dktX4_cell_0 := by decide +kernel
theorem dksX4_cell_1 : cX4_cell.data.toList.drop 24 = dktX4_cell_1 := dk_seg dksX4_cell_0 24 rfl rfl
theorem dksX4_cell_2 : cX4_cell.data.toList.drop 45 = dktX4_cell_2 := dk_seg dksX4_cell_1 21 rfl rfl
theorem dksX4_cell_3 : cX4_cell.data.toList.drop 80 = dktX4_cell_3 := dk_seg dksX4_cell_2 35 rfl rfl
theorem dksX4_cell_4 : cX4_cell.data.toList.drop 104 = dktX4_cell_4 := dk_seg dksX4_cell_3 24 rfl rfl
theorem dksX4_cell_5 : cX4_cell.data.toList.drop 128 = dktX4_cell_5 := dk_seg dksX4_cell_4 24 rfl rfl
theorem dksX4_cell_6 : cX4_cell.data.toList.drop 152 = dktX4_cell_6 := dk_seg dksX4_cell_5 24 rfl rfl
theorem dX4_cell_0 : decode cX4_cell 0 = .ok (.aload_n 0, 1) := dk_42 (dk_at dksX4_cell_0 0 rfl rfl)
theorem dX4_cell_1 : decode cX4_cell 1 = .ok (.iconst 1, 1) := dk_4 (dk_at dksX4_cell_0 1 rfl rfl)
theorem dX4_cell_2 : decode cX4_cell 2 = .ok (.iload_n 1, 1) := dk_27 (dk_at dksX4_cell_0 2 rfl rfl)
theorem dX4_cell_3 : decode cX4_cell 3 = .ok (.invokestatic 95, 3) := dk_184 0 95 (dk_at dksX4_cell_0 3 rfl rfl)
theorem dX4_cell_6 : decode cX4_cell 6 = .ok (.ifCond .ne 7, 3) := dk_154 0 7 (dk_at dksX4_cell_0 6 rfl rfl)
theorem dX4_cell_9 : decode cX4_cell 9 = .ok (.iconst 1, 1) := dk_4 (dk_at dksX4_cell_0 9 rfl rfl)
theorem dX4_cell_10 : decode cX4_cell 10 = .ok (.goto 4, 3) := dk_167 0 4 (dk_at dksX4_cell_0 10 rfl rfl)
theorem dX4_cell_13 : decode cX4_cell 13 = .ok (.iconst 0, 1) := dk_3 (dk_at dksX4_cell_0 13 rfl rfl)
theorem dX4_cell_14 : decode cX4_cell 14 = .ok (.invokevirtual 98, 3) := dk_182 0 98 (dk_at dksX4_cell_0 14 rfl rfl)
theorem dX4_cell_17 : decode cX4_cell 17 = .ok (.ifCond .ne 25, 3) := dk_154 0 25 (dk_at dksX4_cell_0 17 rfl rfl)
theorem dX4_cell_20 : decode cX4_cell 20 = .ok (.aload_n 0, 1) := dk_42 (dk_at dksX4_cell_0 20 rfl rfl)
theorem dX4_cell_21 : decode cX4_cell 21 = .ok (.iconst 2, 1) := dk_5 (dk_at dksX4_cell_0 21 rfl rfl)
theorem dX4_cell_22 : decode cX4_cell 22 = .ok (.iload_n 2, 1) := dk_28 (dk_at dksX4_cell_0 22 rfl rfl)
theorem dX4_cell_23 : decode cX4_cell 23 = .ok (.iconst 0, 1) := dk_3 (dk_at dksX4_cell_0 23 rfl rfl)
theorem dX4_cell_24 : decode cX4_cell 24 = .ok (.iconst 5, 1) := dk_8 (dk_at dksX4_cell_1 0 rfl rfl)
theorem dX4_cell_25 : decode cX4_cell 25 = .ok (.invokestatic 62, 3) := dk_184 0 62 (dk_at dksX4_cell_1 1 rfl rfl)
theorem dX4_cell_28 : decode cX4_cell 28 = .ok (.ifCond .ne 7, 3) := dk_154 0 7 (dk_at dksX4_cell_1 4 rfl rfl)
theorem dX4_cell_31 : decode cX4_cell 31 = .ok (.iconst 1, 1) := dk_4 (dk_at dksX4_cell_1 7 rfl rfl)
theorem dX4_cell_32 : decode cX4_cell 32 = .ok (.goto 4, 3) := dk_167 0 4 (dk_at dksX4_cell_1 8 rfl rfl)
theorem dX4_cell_35 : decode cX4_cell 35 = .ok (.iconst 0, 1) := dk_3 (dk_at dksX4_cell_1 11 rfl rfl)
theorem dX4_cell_36 : decode cX4_cell 36 = .ok (.invokevirtual 98, 3) := dk_182 0 98 (dk_at dksX4_cell_1 12 rfl rfl)
theorem dX4_cell_39 : decode cX4_cell 39 = .ok (.ifCond .eq 5, 3) := dk_153 0 5 (dk_at dksX4_cell_1 15 rfl rfl)
theorem dX4_cell_42 : decode cX4_cell 42 = .ok (.iconst 0, 1) := dk_3 (dk_at dksX4_cell_1 18 rfl rfl)
theorem dX4_cell_43 : decode cX4_cell 43 = .ok (.ireturn, 1) := dk_172 (dk_at dksX4_cell_1 19 rfl rfl)
theorem dX4_cell_44 : decode cX4_cell 44 = .ok (.iload_n 2, 1) := dk_28 (dk_at dksX4_cell_1 20 rfl rfl)
theorem dX4_cell_45 : decode cX4_cell 45 = .ok (.tableswitch 118 0 4 #[35, 44, 66, 89, 107], 35) := by decide +kernel
theorem dX4_cell_80 : decode cX4_cell 80 = .ok (.aload_n 0, 1) := dk_42 (dk_at dksX4_cell_3 0 rfl rfl)
theorem dX4_cell_81 : decode cX4_cell 81 = .ok (.getfield 9, 3) := dk_180 0 9 (dk_at dksX4_cell_3 1 rfl rfl)
theorem dX4_cell_84 : decode cX4_cell 84 = .ok (.iconst 0, 1) := dk_3 (dk_at dksX4_cell_3 4 rfl rfl)
theorem dX4_cell_85 : decode cX4_cell 85 = .ok (.iload_n 1, 1) := dk_27 (dk_at dksX4_cell_3 5 rfl rfl)
theorem dX4_cell_86 : decode cX4_cell 86 = .ok (.iadd, 1) := dk_96 (dk_at dksX4_cell_3 6 rfl rfl)
theorem dX4_cell_87 : decode cX4_cell 87 = .ok (.iaload, 1) := dk_46 (dk_at dksX4_cell_3 7 rfl rfl)
theorem dX4_cell_88 : decode cX4_cell 88 = .ok (.ireturn, 1) := dk_172 (dk_at dksX4_cell_3 8 rfl rfl)
theorem dX4_cell_89 : decode cX4_cell 89 = .ok (.aload_n 0, 1) := dk_42 (dk_at dksX4_cell_3 9 rfl rfl)
theorem dX4_cell_90 : decode cX4_cell 90 = .ok (.iload_n 1, 1) := dk_27 (dk_at dksX4_cell_3 10 rfl rfl)
theorem dX4_cell_91 : decode cX4_cell 91 = .ok (.invokevirtual 102, 3) := dk_182 0 102 (dk_at dksX4_cell_3 11 rfl rfl)
theorem dX4_cell_94 : decode cX4_cell 94 = .ok (.ifCond .eq 15, 3) := dk_153 0 15 (dk_at dksX4_cell_3 14 rfl rfl)
theorem dX4_cell_97 : decode cX4_cell 97 = .ok (.aload_n 0, 1) := dk_42 (dk_at dksX4_cell_3 17 rfl rfl)
theorem dX4_cell_98 : decode cX4_cell 98 = .ok (.getfield 9, 3) := dk_180 0 9 (dk_at dksX4_cell_3 18 rfl rfl)
theorem dX4_cell_101 : decode cX4_cell 101 = .ok (.bipush 64, 2) := dk_16 64 (dk_at dksX4_cell_3 21 rfl rfl)
theorem dX4_cell_103 : decode cX4_cell 103 = .ok (.iload_n 1, 1) := dk_27 (dk_at dksX4_cell_3 23 rfl rfl)
theorem dX4_cell_104 : decode cX4_cell 104 = .ok (.iadd, 1) := dk_96 (dk_at dksX4_cell_4 0 rfl rfl)
theorem dX4_cell_105 : decode cX4_cell 105 = .ok (.iaload, 1) := dk_46 (dk_at dksX4_cell_4 1 rfl rfl)
theorem dX4_cell_106 : decode cX4_cell 106 = .ok (.goto 4, 3) := dk_167 0 4 (dk_at dksX4_cell_4 2 rfl rfl)
theorem dX4_cell_109 : decode cX4_cell 109 = .ok (.iconst 0, 1) := dk_3 (dk_at dksX4_cell_4 5 rfl rfl)
theorem dX4_cell_110 : decode cX4_cell 110 = .ok (.ireturn, 1) := dk_172 (dk_at dksX4_cell_4 6 rfl rfl)
theorem dX4_cell_111 : decode cX4_cell 111 = .ok (.aload_n 0, 1) := dk_42 (dk_at dksX4_cell_4 7 rfl rfl)
theorem dX4_cell_112 : decode cX4_cell 112 = .ok (.iload_n 1, 1) := dk_27 (dk_at dksX4_cell_4 8 rfl rfl)
theorem dX4_cell_113 : decode cX4_cell 113 = .ok (.invokevirtual 102, 3) := dk_182 0 102 (dk_at dksX4_cell_4 9 rfl rfl)
theorem dX4_cell_116 : decode cX4_cell 116 = .ok (.ifCond .eq 16, 3) := dk_153 0 16 (dk_at dksX4_cell_4 12 rfl rfl)
theorem dX4_cell_119 : decode cX4_cell 119 = .ok (.aload_n 0, 1) := dk_42 (dk_at dksX4_cell_4 15 rfl rfl)
theorem dX4_cell_120 : decode cX4_cell 120 = .ok (.getfield 9, 3) := dk_180 0 9 (dk_at dksX4_cell_4 16 rfl rfl)
theorem dX4_cell_123 : decode cX4_cell 123 = .ok (.sipush 128, 3) := dk_17 0 128 (dk_at dksX4_cell_4 19 rfl rfl)
theorem dX4_cell_126 : decode cX4_cell 126 = .ok (.iload_n 1, 1) := dk_27 (dk_at dksX4_cell_4 22 rfl rfl)
theorem dX4_cell_127 : decode cX4_cell 127 = .ok (.iadd, 1) := dk_96 (dk_at dksX4_cell_4 23 rfl rfl)
theorem dX4_cell_128 : decode cX4_cell 128 = .ok (.iaload, 1) := dk_46 (dk_at dksX4_cell_5 0 rfl rfl)
theorem dX4_cell_129 : decode cX4_cell 129 = .ok (.goto 4, 3) := dk_167 0 4 (dk_at dksX4_cell_5 1 rfl rfl)
theorem dX4_cell_132 : decode cX4_cell 132 = .ok (.iconst 0, 1) := dk_3 (dk_at dksX4_cell_5 4 rfl rfl)
theorem dX4_cell_133 : decode cX4_cell 133 = .ok (.ireturn, 1) := dk_172 (dk_at dksX4_cell_5 5 rfl rfl)
theorem dX4_cell_134 : decode cX4_cell 134 = .ok (.aload_n 0, 1) := dk_42 (dk_at dksX4_cell_5 6 rfl rfl)
theorem dX4_cell_135 : decode cX4_cell 135 = .ok (.iload_n 1, 1) := dk_27 (dk_at dksX4_cell_5 7 rfl rfl)
theorem dX4_cell_136 : decode cX4_cell 136 = .ok (.invokevirtual 102, 3) := dk_182 0 102 (dk_at dksX4_cell_5 8 rfl rfl)
theorem dX4_cell_139 : decode cX4_cell 139 = .ok (.ifCond .eq 11, 3) := dk_153 0 11 (dk_at dksX4_cell_5 11 rfl rfl)
theorem dX4_cell_142 : decode cX4_cell 142 = .ok (.aload_n 0, 1) := dk_42 (dk_at dksX4_cell_5 14 rfl rfl)
theorem dX4_cell_143 : decode cX4_cell 143 = .ok (.iload_n 1, 1) := dk_27 (dk_at dksX4_cell_5 15 rfl rfl)
theorem dX4_cell_144 : decode cX4_cell 144 = .ok (.invokevirtual 109, 3) := dk_182 0 109 (dk_at dksX4_cell_5 16 rfl rfl)
theorem dX4_cell_147 : decode cX4_cell 147 = .ok (.goto 4, 3) := dk_167 0 4 (dk_at dksX4_cell_5 19 rfl rfl)
theorem dX4_cell_150 : decode cX4_cell 150 = .ok (.iconst 0, 1) := dk_3 (dk_at dksX4_cell_5 22 rfl rfl)
theorem dX4_cell_151 : decode cX4_cell 151 = .ok (.ireturn, 1) := dk_172 (dk_at dksX4_cell_5 23 rfl rfl)
theorem dX4_cell_152 : decode cX4_cell 152 = .ok (.aload_n 0, 1) := dk_42 (dk_at dksX4_cell_6 0 rfl rfl)
theorem dX4_cell_153 : decode cX4_cell 153 = .ok (.getfield 9, 3) := dk_180 0 9 (dk_at dksX4_cell_6 1 rfl rfl)
theorem dX4_cell_156 : decode cX4_cell 156 = .ok (.sipush 192, 3) := dk_17 0 192 (dk_at dksX4_cell_6 4 rfl rfl)
theorem dX4_cell_159 : decode cX4_cell 159 = .ok (.iload_n 1, 1) := dk_27 (dk_at dksX4_cell_6 7 rfl rfl)
theorem dX4_cell_160 : decode cX4_cell 160 = .ok (.iadd, 1) := dk_96 (dk_at dksX4_cell_6 8 rfl rfl)
theorem dX4_cell_161 : decode cX4_cell 161 = .ok (.iaload, 1) := dk_46 (dk_at dksX4_cell_6 9 rfl rfl)
theorem dX4_cell_162 : decode cX4_cell 162 = .ok (.ireturn, 1) := dk_172 (dk_at dksX4_cell_6 10 rfl rfl)
theorem dX4_cell_163 : decode cX4_cell 163 = .ok (.aload_n 0, 1) := dk_42 (dk_at dksX4_cell_6 11 rfl rfl)
theorem dX4_cell_164 : decode cX4_cell 164 = .ok (.getfield 9, 3) := dk_180 0 9 (dk_at dksX4_cell_6 12 rfl rfl)
theorem dX4_cell_167 : decode cX4_cell 167 = .ok (.sipush 256, 3) := dk_17 1 0 (dk_at dksX4_cell_6 15 rfl rfl)
theorem dX4_cell_170 : decode cX4_cell 170 = .ok (.iload_n 1, 1) := dk_27 (dk_at dksX4_cell_6 18 rfl rfl)
theorem dX4_cell_171 : decode cX4_cell 171 = .ok (.iadd, 1) := dk_96 (dk_at dksX4_cell_6 19 rfl rfl)
theorem dX4_cell_172 : decode cX4_cell 172 = .ok (.iaload, 1) := dk_46 (dk_at dksX4_cell_6 20 rfl rfl)
theorem dX4_cell_173 : decode cX4_cell 173 = .ok (.ireturn, 1) := dk_172 (dk_at dksX4_cell_6 21 rfl rfl)
abbrev cX4_span : ByteArray := prog_24_method_32_code
def yX4_span : MethodName := ⟨RX4, "span", "(IZ)I"⟩
def dkwX4_span_1 : List UInt8 := [42, 27, 28, 182, 0, 123, 172]
abbrev dktX4_span_1 : List UInt8 := dkwX4_span_1 ++ []
def dkwX4_span_0 : List UInt8 := [42, 4, 27, 184, 0, 95, 154, 0, 7, 4, 167, 0, 4, 3, 182, 0, 98, 153, 0, 7, 3, 167, 0, 9]
abbrev dktX4_span_0 : List UInt8 := dkwX4_span_0 ++ dktX4_span_1
theorem dksX4_span_0 : cX4_span.data.toList.drop 0 = dktX4_span_0 := by decide +kernel
theorem dksX4_span_1 : cX4_span.data.toList.drop 24 = dktX4_span_1 := dk_seg dksX4_span_0 24 rfl rfl
theorem dX4_span_0 : decode cX4_span 0 = .ok (.aload_n 0, 1) := dk_42 (dk_at dksX4_span_0 0 rfl rfl)
theorem dX4_span_1 : decode cX4_span 1 = .ok (.iconst 1, 1) := dk_4 (dk_at dksX4_span_0 1 rfl rfl)
theorem dX4_span_2 : decode cX4_span 2 = .ok (.iload_n 1, 1) := dk_27 (dk_at dksX4_span_0 2 rfl rfl)
theorem dX4_span_3 : decode cX4_span 3 = .ok (.invokestatic 95, 3) := dk_184 0 95 (dk_at dksX4_span_0 3 rfl rfl)
theorem dX4_span_6 : decode cX4_span 6 = .ok (.ifCond .ne 7, 3) := dk_154 0 7 (dk_at dksX4_span_0 6 rfl rfl)
theorem dX4_span_9 : decode cX4_span 9 = .ok (.iconst 1, 1) := dk_4 (dk_at dksX4_span_0 9 rfl rfl)
theorem dX4_span_10 : decode cX4_span 10 = .ok (.goto 4, 3) := dk_167 0 4 (dk_at dksX4_span_0 10 rfl rfl)
theorem dX4_span_13 : decode cX4_span 13 = .ok (.iconst 0, 1) := dk_3 (dk_at dksX4_span_0 13 rfl rfl)
theorem dX4_span_14 : decode cX4_span 14 = .ok (.invokevirtual 98, 3) := dk_182 0 98 (dk_at dksX4_span_0 14 rfl rfl)
theorem dX4_span_17 : decode cX4_span 17 = .ok (.ifCond .eq 7, 3) := dk_153 0 7 (dk_at dksX4_span_0 17 rfl rfl)
theorem dX4_span_20 : decode cX4_span 20 = .ok (.iconst 0, 1) := dk_3 (dk_at dksX4_span_0 20 rfl rfl)
theorem dX4_span_21 : decode cX4_span 21 = .ok (.goto 9, 3) := dk_167 0 9 (dk_at dksX4_span_0 21 rfl rfl)
theorem dX4_span_24 : decode cX4_span 24 = .ok (.aload_n 0, 1) := dk_42 (dk_at dksX4_span_1 0 rfl rfl)
theorem dX4_span_25 : decode cX4_span 25 = .ok (.iload_n 1, 1) := dk_27 (dk_at dksX4_span_1 1 rfl rfl)
theorem dX4_span_26 : decode cX4_span 26 = .ok (.iload_n 2, 1) := dk_28 (dk_at dksX4_span_1 2 rfl rfl)
theorem dX4_span_27 : decode cX4_span 27 = .ok (.invokevirtual 123, 3) := dk_182 0 123 (dk_at dksX4_span_1 3 rfl rfl)
theorem dX4_span_30 : decode cX4_span 30 = .ok (.ireturn, 1) := dk_172 (dk_at dksX4_span_1 6 rfl rfl)
abbrev cX4_spanOf : ByteArray := prog_24_method_20_code
def yX4_spanOf : MethodName := ⟨RX4, "spanOf", "(IZ)I"⟩
def dkwX4_spanOf_0 : List UInt8 := [42, 27, 182, 0, 81, 153, 0, 12, 42, 27, 28, 182, 0, 87, 167, 0, 4, 3, 172]
abbrev dktX4_spanOf_0 : List UInt8 := dkwX4_spanOf_0 ++ []
theorem dksX4_spanOf_0 : cX4_spanOf.data.toList.drop 0 = dktX4_spanOf_0 := by decide +kernel
theorem dX4_spanOf_0 : decode cX4_spanOf 0 = .ok (.aload_n 0, 1) := dk_42 (dk_at dksX4_spanOf_0 0 rfl rfl)
theorem dX4_spanOf_1 : decode cX4_spanOf 1 = .ok (.iload_n 1, 1) := dk_27 (dk_at dksX4_spanOf_0 1 rfl rfl)
theorem dX4_spanOf_2 : decode cX4_spanOf 2 = .ok (.invokevirtual 81, 3) := dk_182 0 81 (dk_at dksX4_spanOf_0 2 rfl rfl)
theorem dX4_spanOf_5 : decode cX4_spanOf 5 = .ok (.ifCond .eq 12, 3) := dk_153 0 12 (dk_at dksX4_spanOf_0 5 rfl rfl)
theorem dX4_spanOf_8 : decode cX4_spanOf 8 = .ok (.aload_n 0, 1) := dk_42 (dk_at dksX4_spanOf_0 8 rfl rfl)
theorem dX4_spanOf_9 : decode cX4_spanOf 9 = .ok (.iload_n 1, 1) := dk_27 (dk_at dksX4_spanOf_0 9 rfl rfl)
theorem dX4_spanOf_10 : decode cX4_spanOf 10 = .ok (.iload_n 2, 1) := dk_28 (dk_at dksX4_spanOf_0 10 rfl rfl)
theorem dX4_spanOf_11 : decode cX4_spanOf 11 = .ok (.invokevirtual 87, 3) := dk_182 0 87 (dk_at dksX4_spanOf_0 11 rfl rfl)
theorem dX4_spanOf_14 : decode cX4_spanOf 14 = .ok (.goto 4, 3) := dk_167 0 4 (dk_at dksX4_spanOf_0 14 rfl rfl)
theorem dX4_spanOf_17 : decode cX4_spanOf 17 = .ok (.iconst 0, 1) := dk_3 (dk_at dksX4_spanOf_0 17 rfl rfl)
theorem dX4_spanOf_18 : decode cX4_spanOf 18 = .ok (.ireturn, 1) := dk_172 (dk_at dksX4_spanOf_0 18 rfl rfl)
abbrev cX4_longest : ByteArray := prog_24_method_33_code
def yX4_longest : MethodName := ⟨RX4, "longest", "()I"⟩
def dkwX4_longest_0 : List UInt8 := [42, 3, 181, 0, 38, 42, 182, 0, 112, 172]
abbrev dktX4_longest_0 : List UInt8 := dkwX4_longest_0 ++ []
theorem dksX4_longest_0 : cX4_longest.data.toList.drop 0 = dktX4_longest_0 := by decide +kernel
theorem dX4_longest_0 : decode cX4_longest 0 = .ok (.aload_n 0, 1) := dk_42 (dk_at dksX4_longest_0 0 rfl rfl)
theorem dX4_longest_1 : decode cX4_longest 1 = .ok (.iconst 0, 1) := dk_3 (dk_at dksX4_longest_0 1 rfl rfl)
theorem dX4_longest_2 : decode cX4_longest 2 = .ok (.putfield 38, 3) := dk_181 0 38 (dk_at dksX4_longest_0 2 rfl rfl)
theorem dX4_longest_5 : decode cX4_longest 5 = .ok (.aload_n 0, 1) := dk_42 (dk_at dksX4_longest_0 5 rfl rfl)
theorem dX4_longest_6 : decode cX4_longest 6 = .ok (.invokevirtual 112, 3) := dk_182 0 112 (dk_at dksX4_longest_0 6 rfl rfl)
theorem dX4_longest_9 : decode cX4_longest 9 = .ok (.ireturn, 1) := dk_172 (dk_at dksX4_longest_0 9 rfl rfl)
abbrev cX4_knock : ByteArray := prog_24_method_34_code
def yX4_knock : MethodName := ⟨RX4, "knock", "(I)I"⟩
def dkwX4_knock_5 : List UInt8 := [167, 255, 209, 28, 172]
abbrev dktX4_knock_5 : List UInt8 := dkwX4_knock_5 ++ []
def dkwX4_knock_4 : List UInt8 := [153, 0, 17, 42, 180, 0, 9, 17, 0, 128, 21, 4, 96, 46, 167, 0, 4, 3, 96, 61, 132, 3, 1]
abbrev dktX4_knock_4 : List UInt8 := dkwX4_knock_4 ++ dktX4_knock_5
def dkwX4_knock_3 : List UInt8 := [162, 0, 48, 27, 29, 184, 0, 70, 54, 4, 28, 21, 4, 155, 0, 26, 42, 21, 4, 182, 0, 102]
abbrev dktX4_knock_3 : List UInt8 := dkwX4_knock_3 ++ dktX4_knock_4
def dkwX4_knock_2 : List UInt8 := [153, 0, 5, 3, 172, 5, 42, 180, 0, 9, 17, 0, 128, 27, 96, 46, 104, 61, 3, 62, 29, 7]
abbrev dktX4_knock_2 : List UInt8 := dkwX4_knock_2 ++ dktX4_knock_3
def dkwX4_knock_1 : List UInt8 := [182, 0, 102, 153, 0, 12, 42, 27, 2, 182, 0, 126, 156, 0, 7, 4, 167, 0, 4, 3, 182, 0, 98]
abbrev dktX4_knock_1 : List UInt8 := dkwX4_knock_1 ++ dktX4_knock_2
def dkwX4_knock_0 : List UInt8 := [42, 4, 27, 184, 0, 95, 154, 0, 7, 4, 167, 0, 4, 3, 182, 0, 98, 154, 0, 33, 42, 5, 42, 27]
abbrev dktX4_knock_0 : List UInt8 := dkwX4_knock_0 ++ dktX4_knock_1
theorem dksX4_knock_0 : cX4_knock.data.toList.drop 0 = dktX4_knock_0 := by decide +kernel
theorem dksX4_knock_1 : cX4_knock.data.toList.drop 24 = dktX4_knock_1 := dk_seg dksX4_knock_0 24 rfl rfl
theorem dksX4_knock_2 : cX4_knock.data.toList.drop 47 = dktX4_knock_2 := dk_seg dksX4_knock_1 23 rfl rfl
theorem dksX4_knock_3 : cX4_knock.data.toList.drop 69 = dktX4_knock_3 := dk_seg dksX4_knock_2 22 rfl rfl
theorem dksX4_knock_4 : cX4_knock.data.toList.drop 91 = dktX4_knock_4 := dk_seg dksX4_knock_3 22 rfl rfl
theorem dksX4_knock_5 : cX4_knock.data.toList.drop 114 = dktX4_knock_5 := dk_seg dksX4_knock_4 23 rfl rfl
theorem dX4_knock_0 : decode cX4_knock 0 = .ok (.aload_n 0, 1) := dk_42 (dk_at dksX4_knock_0 0 rfl rfl)
theorem dX4_knock_1 : decode cX4_knock 1 = .ok (.iconst 1, 1) := dk_4 (dk_at dksX4_knock_0 1 rfl rfl)
theorem dX4_knock_2 : decode cX4_knock 2 = .ok (.iload_n 1, 1) := dk_27 (dk_at dksX4_knock_0 2 rfl rfl)
theorem dX4_knock_3 : decode cX4_knock 3 = .ok (.invokestatic 95, 3) := dk_184 0 95 (dk_at dksX4_knock_0 3 rfl rfl)
theorem dX4_knock_6 : decode cX4_knock 6 = .ok (.ifCond .ne 7, 3) := dk_154 0 7 (dk_at dksX4_knock_0 6 rfl rfl)
theorem dX4_knock_9 : decode cX4_knock 9 = .ok (.iconst 1, 1) := dk_4 (dk_at dksX4_knock_0 9 rfl rfl)
theorem dX4_knock_10 : decode cX4_knock 10 = .ok (.goto 4, 3) := dk_167 0 4 (dk_at dksX4_knock_0 10 rfl rfl)
theorem dX4_knock_13 : decode cX4_knock 13 = .ok (.iconst 0, 1) := dk_3 (dk_at dksX4_knock_0 13 rfl rfl)
theorem dX4_knock_14 : decode cX4_knock 14 = .ok (.invokevirtual 98, 3) := dk_182 0 98 (dk_at dksX4_knock_0 14 rfl rfl)
theorem dX4_knock_17 : decode cX4_knock 17 = .ok (.ifCond .ne 33, 3) := dk_154 0 33 (dk_at dksX4_knock_0 17 rfl rfl)
theorem dX4_knock_20 : decode cX4_knock 20 = .ok (.aload_n 0, 1) := dk_42 (dk_at dksX4_knock_0 20 rfl rfl)
theorem dX4_knock_21 : decode cX4_knock 21 = .ok (.iconst 2, 1) := dk_5 (dk_at dksX4_knock_0 21 rfl rfl)
theorem dX4_knock_22 : decode cX4_knock 22 = .ok (.aload_n 0, 1) := dk_42 (dk_at dksX4_knock_0 22 rfl rfl)
theorem dX4_knock_23 : decode cX4_knock 23 = .ok (.iload_n 1, 1) := dk_27 (dk_at dksX4_knock_0 23 rfl rfl)
theorem dX4_knock_24 : decode cX4_knock 24 = .ok (.invokevirtual 102, 3) := dk_182 0 102 (dk_at dksX4_knock_1 0 rfl rfl)
theorem dX4_knock_27 : decode cX4_knock 27 = .ok (.ifCond .eq 12, 3) := dk_153 0 12 (dk_at dksX4_knock_1 3 rfl rfl)
theorem dX4_knock_30 : decode cX4_knock 30 = .ok (.aload_n 0, 1) := dk_42 (dk_at dksX4_knock_1 6 rfl rfl)
theorem dX4_knock_31 : decode cX4_knock 31 = .ok (.iload_n 1, 1) := dk_27 (dk_at dksX4_knock_1 7 rfl rfl)
theorem dX4_knock_32 : decode cX4_knock 32 = .ok (.iconst (-1), 1) := dk_2 (dk_at dksX4_knock_1 8 rfl rfl)
theorem dX4_knock_33 : decode cX4_knock 33 = .ok (.invokevirtual 126, 3) := dk_182 0 126 (dk_at dksX4_knock_1 9 rfl rfl)
theorem dX4_knock_36 : decode cX4_knock 36 = .ok (.ifCond .ge 7, 3) := dk_156 0 7 (dk_at dksX4_knock_1 12 rfl rfl)
theorem dX4_knock_39 : decode cX4_knock 39 = .ok (.iconst 1, 1) := dk_4 (dk_at dksX4_knock_1 15 rfl rfl)
theorem dX4_knock_40 : decode cX4_knock 40 = .ok (.goto 4, 3) := dk_167 0 4 (dk_at dksX4_knock_1 16 rfl rfl)
theorem dX4_knock_43 : decode cX4_knock 43 = .ok (.iconst 0, 1) := dk_3 (dk_at dksX4_knock_1 19 rfl rfl)
theorem dX4_knock_44 : decode cX4_knock 44 = .ok (.invokevirtual 98, 3) := dk_182 0 98 (dk_at dksX4_knock_1 20 rfl rfl)
theorem dX4_knock_47 : decode cX4_knock 47 = .ok (.ifCond .eq 5, 3) := dk_153 0 5 (dk_at dksX4_knock_2 0 rfl rfl)
theorem dX4_knock_50 : decode cX4_knock 50 = .ok (.iconst 0, 1) := dk_3 (dk_at dksX4_knock_2 3 rfl rfl)
theorem dX4_knock_51 : decode cX4_knock 51 = .ok (.ireturn, 1) := dk_172 (dk_at dksX4_knock_2 4 rfl rfl)
theorem dX4_knock_52 : decode cX4_knock 52 = .ok (.iconst 2, 1) := dk_5 (dk_at dksX4_knock_2 5 rfl rfl)
theorem dX4_knock_53 : decode cX4_knock 53 = .ok (.aload_n 0, 1) := dk_42 (dk_at dksX4_knock_2 6 rfl rfl)
theorem dX4_knock_54 : decode cX4_knock 54 = .ok (.getfield 9, 3) := dk_180 0 9 (dk_at dksX4_knock_2 7 rfl rfl)
theorem dX4_knock_57 : decode cX4_knock 57 = .ok (.sipush 128, 3) := dk_17 0 128 (dk_at dksX4_knock_2 10 rfl rfl)
theorem dX4_knock_60 : decode cX4_knock 60 = .ok (.iload_n 1, 1) := dk_27 (dk_at dksX4_knock_2 13 rfl rfl)
theorem dX4_knock_61 : decode cX4_knock 61 = .ok (.iadd, 1) := dk_96 (dk_at dksX4_knock_2 14 rfl rfl)
theorem dX4_knock_62 : decode cX4_knock 62 = .ok (.iaload, 1) := dk_46 (dk_at dksX4_knock_2 15 rfl rfl)
theorem dX4_knock_63 : decode cX4_knock 63 = .ok (.imul, 1) := dk_104 (dk_at dksX4_knock_2 16 rfl rfl)
theorem dX4_knock_64 : decode cX4_knock 64 = .ok (.istore_n 2, 1) := dk_61 (dk_at dksX4_knock_2 17 rfl rfl)
theorem dX4_knock_65 : decode cX4_knock 65 = .ok (.iconst 0, 1) := dk_3 (dk_at dksX4_knock_2 18 rfl rfl)
theorem dX4_knock_66 : decode cX4_knock 66 = .ok (.istore_n 3, 1) := dk_62 (dk_at dksX4_knock_2 19 rfl rfl)
theorem dX4_knock_67 : decode cX4_knock 67 = .ok (.iload_n 3, 1) := dk_29 (dk_at dksX4_knock_2 20 rfl rfl)
theorem dX4_knock_68 : decode cX4_knock 68 = .ok (.iconst 4, 1) := dk_7 (dk_at dksX4_knock_2 21 rfl rfl)
theorem dX4_knock_69 : decode cX4_knock 69 = .ok (.if_icmp .ge 48, 3) := dk_162 0 48 (dk_at dksX4_knock_3 0 rfl rfl)
theorem dX4_knock_72 : decode cX4_knock 72 = .ok (.iload_n 1, 1) := dk_27 (dk_at dksX4_knock_3 3 rfl rfl)
theorem dX4_knock_73 : decode cX4_knock 73 = .ok (.iload_n 3, 1) := dk_29 (dk_at dksX4_knock_3 4 rfl rfl)
theorem dX4_knock_74 : decode cX4_knock 74 = .ok (.invokestatic 70, 3) := dk_184 0 70 (dk_at dksX4_knock_3 5 rfl rfl)
theorem dX4_knock_77 : decode cX4_knock 77 = .ok (.istore 4, 2) := dk_54 4 (dk_at dksX4_knock_3 8 rfl rfl)
theorem dX4_knock_79 : decode cX4_knock 79 = .ok (.iload_n 2, 1) := dk_28 (dk_at dksX4_knock_3 10 rfl rfl)
theorem dX4_knock_80 : decode cX4_knock 80 = .ok (.iload 4, 2) := dk_21 4 (dk_at dksX4_knock_3 11 rfl rfl)
theorem dX4_knock_82 : decode cX4_knock 82 = .ok (.ifCond .lt 26, 3) := dk_155 0 26 (dk_at dksX4_knock_3 13 rfl rfl)
theorem dX4_knock_85 : decode cX4_knock 85 = .ok (.aload_n 0, 1) := dk_42 (dk_at dksX4_knock_3 16 rfl rfl)
theorem dX4_knock_86 : decode cX4_knock 86 = .ok (.iload 4, 2) := dk_21 4 (dk_at dksX4_knock_3 17 rfl rfl)
theorem dX4_knock_88 : decode cX4_knock 88 = .ok (.invokevirtual 102, 3) := dk_182 0 102 (dk_at dksX4_knock_3 19 rfl rfl)
theorem dX4_knock_91 : decode cX4_knock 91 = .ok (.ifCond .eq 17, 3) := dk_153 0 17 (dk_at dksX4_knock_4 0 rfl rfl)
theorem dX4_knock_94 : decode cX4_knock 94 = .ok (.aload_n 0, 1) := dk_42 (dk_at dksX4_knock_4 3 rfl rfl)
theorem dX4_knock_95 : decode cX4_knock 95 = .ok (.getfield 9, 3) := dk_180 0 9 (dk_at dksX4_knock_4 4 rfl rfl)
theorem dX4_knock_98 : decode cX4_knock 98 = .ok (.sipush 128, 3) := dk_17 0 128 (dk_at dksX4_knock_4 7 rfl rfl)
theorem dX4_knock_101 : decode cX4_knock 101 = .ok (.iload 4, 2) := dk_21 4 (dk_at dksX4_knock_4 10 rfl rfl)
theorem dX4_knock_103 : decode cX4_knock 103 = .ok (.iadd, 1) := dk_96 (dk_at dksX4_knock_4 12 rfl rfl)
theorem dX4_knock_104 : decode cX4_knock 104 = .ok (.iaload, 1) := dk_46 (dk_at dksX4_knock_4 13 rfl rfl)
theorem dX4_knock_105 : decode cX4_knock 105 = .ok (.goto 4, 3) := dk_167 0 4 (dk_at dksX4_knock_4 14 rfl rfl)
theorem dX4_knock_108 : decode cX4_knock 108 = .ok (.iconst 0, 1) := dk_3 (dk_at dksX4_knock_4 17 rfl rfl)
theorem dX4_knock_109 : decode cX4_knock 109 = .ok (.iadd, 1) := dk_96 (dk_at dksX4_knock_4 18 rfl rfl)
theorem dX4_knock_110 : decode cX4_knock 110 = .ok (.istore_n 2, 1) := dk_61 (dk_at dksX4_knock_4 19 rfl rfl)
theorem dX4_knock_111 : decode cX4_knock 111 = .ok (.iinc 3 1, 3) := dk_132 3 1 (dk_at dksX4_knock_4 20 rfl rfl)
theorem dX4_knock_114 : decode cX4_knock 114 = .ok (.goto (-47), 3) := dk_167 255 209 (dk_at dksX4_knock_5 0 rfl rfl)
theorem dX4_knock_117 : decode cX4_knock 117 = .ok (.iload_n 2, 1) := dk_28 (dk_at dksX4_knock_5 3 rfl rfl)
theorem dX4_knock_118 : decode cX4_knock 118 = .ok (.ireturn, 1) := dk_172 (dk_at dksX4_knock_5 4 rfl rfl)
abbrev cX4_otherShaftBeside : ByteArray := prog_24_method_16_code
def yX4_otherShaftBeside : MethodName := ⟨RX4, "otherShaftBeside", "(II)I"⟩
def dkwX4_otherShaftBeside_1 : List UInt8 := [182, 0, 78, 153, 0, 5, 29, 172, 132, 3, 1, 167, 255, 225, 2, 172]
abbrev dktX4_otherShaftBeside_1 : List UInt8 := dkwX4_otherShaftBeside_1 ++ []
def dkwX4_otherShaftBeside_0 : List UInt8 := [3, 62, 29, 42, 180, 0, 9, 17, 1, 94, 46, 162, 0, 25, 29, 28, 159, 0, 14, 42, 27, 29]
abbrev dktX4_otherShaftBeside_0 : List UInt8 := dkwX4_otherShaftBeside_0 ++ dktX4_otherShaftBeside_1
theorem dksX4_otherShaftBeside_0 : cX4_otherShaftBeside.data.toList.drop 0 = dktX4_otherShaftBeside_0 := by decide +kernel
theorem dksX4_otherShaftBeside_1 : cX4_otherShaftBeside.data.toList.drop 22 = dktX4_otherShaftBeside_1 := dk_seg dksX4_otherShaftBeside_0 22 rfl rfl
theorem dX4_otherShaftBeside_0 : decode cX4_otherShaftBeside 0 = .ok (.iconst 0, 1) := dk_3 (dk_at dksX4_otherShaftBeside_0 0 rfl rfl)
theorem dX4_otherShaftBeside_1 : decode cX4_otherShaftBeside 1 = .ok (.istore_n 3, 1) := dk_62 (dk_at dksX4_otherShaftBeside_0 1 rfl rfl)
theorem dX4_otherShaftBeside_2 : decode cX4_otherShaftBeside 2 = .ok (.iload_n 3, 1) := dk_29 (dk_at dksX4_otherShaftBeside_0 2 rfl rfl)
theorem dX4_otherShaftBeside_3 : decode cX4_otherShaftBeside 3 = .ok (.aload_n 0, 1) := dk_42 (dk_at dksX4_otherShaftBeside_0 3 rfl rfl)
theorem dX4_otherShaftBeside_4 : decode cX4_otherShaftBeside 4 = .ok (.getfield 9, 3) := dk_180 0 9 (dk_at dksX4_otherShaftBeside_0 4 rfl rfl)
theorem dX4_otherShaftBeside_7 : decode cX4_otherShaftBeside 7 = .ok (.sipush 350, 3) := dk_17 1 94 (dk_at dksX4_otherShaftBeside_0 7 rfl rfl)
theorem dX4_otherShaftBeside_10 : decode cX4_otherShaftBeside 10 = .ok (.iaload, 1) := dk_46 (dk_at dksX4_otherShaftBeside_0 10 rfl rfl)
theorem dX4_otherShaftBeside_11 : decode cX4_otherShaftBeside 11 = .ok (.if_icmp .ge 25, 3) := dk_162 0 25 (dk_at dksX4_otherShaftBeside_0 11 rfl rfl)
theorem dX4_otherShaftBeside_14 : decode cX4_otherShaftBeside 14 = .ok (.iload_n 3, 1) := dk_29 (dk_at dksX4_otherShaftBeside_0 14 rfl rfl)
theorem dX4_otherShaftBeside_15 : decode cX4_otherShaftBeside 15 = .ok (.iload_n 2, 1) := dk_28 (dk_at dksX4_otherShaftBeside_0 15 rfl rfl)
theorem dX4_otherShaftBeside_16 : decode cX4_otherShaftBeside 16 = .ok (.if_icmp .eq 14, 3) := dk_159 0 14 (dk_at dksX4_otherShaftBeside_0 16 rfl rfl)
theorem dX4_otherShaftBeside_19 : decode cX4_otherShaftBeside 19 = .ok (.aload_n 0, 1) := dk_42 (dk_at dksX4_otherShaftBeside_0 19 rfl rfl)
theorem dX4_otherShaftBeside_20 : decode cX4_otherShaftBeside 20 = .ok (.iload_n 1, 1) := dk_27 (dk_at dksX4_otherShaftBeside_0 20 rfl rfl)
theorem dX4_otherShaftBeside_21 : decode cX4_otherShaftBeside 21 = .ok (.iload_n 3, 1) := dk_29 (dk_at dksX4_otherShaftBeside_0 21 rfl rfl)
theorem dX4_otherShaftBeside_22 : decode cX4_otherShaftBeside 22 = .ok (.invokevirtual 78, 3) := dk_182 0 78 (dk_at dksX4_otherShaftBeside_1 0 rfl rfl)
theorem dX4_otherShaftBeside_25 : decode cX4_otherShaftBeside 25 = .ok (.ifCond .eq 5, 3) := dk_153 0 5 (dk_at dksX4_otherShaftBeside_1 3 rfl rfl)
theorem dX4_otherShaftBeside_28 : decode cX4_otherShaftBeside 28 = .ok (.iload_n 3, 1) := dk_29 (dk_at dksX4_otherShaftBeside_1 6 rfl rfl)
theorem dX4_otherShaftBeside_29 : decode cX4_otherShaftBeside 29 = .ok (.ireturn, 1) := dk_172 (dk_at dksX4_otherShaftBeside_1 7 rfl rfl)
theorem dX4_otherShaftBeside_30 : decode cX4_otherShaftBeside 30 = .ok (.iinc 3 1, 3) := dk_132 3 1 (dk_at dksX4_otherShaftBeside_1 8 rfl rfl)
theorem dX4_otherShaftBeside_33 : decode cX4_otherShaftBeside 33 = .ok (.goto (-31), 3) := dk_167 255 225 (dk_at dksX4_otherShaftBeside_1 11 rfl rfl)
theorem dX4_otherShaftBeside_36 : decode cX4_otherShaftBeside 36 = .ok (.iconst (-1), 1) := dk_2 (dk_at dksX4_otherShaftBeside_1 14 rfl rfl)
theorem dX4_otherShaftBeside_37 : decode cX4_otherShaftBeside 37 = .ok (.ireturn, 1) := dk_172 (dk_at dksX4_otherShaftBeside_1 15 rfl rfl)
abbrev cX4_isNextTo : ByteArray := prog_24_method_15_code
def yX4_isNextTo : MethodName := ⟨RX4, "isNextTo", "(II)Z"⟩
def dkwX4_isNextTo_1 : List UInt8 := [62, 132, 4, 1, 167, 255, 233, 29, 172]
abbrev dktX4_isNextTo_1 : List UInt8 := dkwX4_isNextTo_1 ++ []
def dkwX4_isNextTo_0 : List UInt8 := [3, 62, 3, 54, 4, 21, 4, 7, 162, 0, 23, 29, 42, 27, 21, 4, 184, 0, 70, 28, 182, 0, 74, 128]
abbrev dktX4_isNextTo_0 : List UInt8 := dkwX4_isNextTo_0 ++ dktX4_isNextTo_1
theorem dksX4_isNextTo_0 : cX4_isNextTo.data.toList.drop 0 = dktX4_isNextTo_0 := by decide +kernel
theorem dksX4_isNextTo_1 : cX4_isNextTo.data.toList.drop 24 = dktX4_isNextTo_1 := dk_seg dksX4_isNextTo_0 24 rfl rfl
theorem dX4_isNextTo_0 : decode cX4_isNextTo 0 = .ok (.iconst 0, 1) := dk_3 (dk_at dksX4_isNextTo_0 0 rfl rfl)
theorem dX4_isNextTo_1 : decode cX4_isNextTo 1 = .ok (.istore_n 3, 1) := dk_62 (dk_at dksX4_isNextTo_0 1 rfl rfl)
theorem dX4_isNextTo_2 : decode cX4_isNextTo 2 = .ok (.iconst 0, 1) := dk_3 (dk_at dksX4_isNextTo_0 2 rfl rfl)
theorem dX4_isNextTo_3 : decode cX4_isNextTo 3 = .ok (.istore 4, 2) := dk_54 4 (dk_at dksX4_isNextTo_0 3 rfl rfl)
theorem dX4_isNextTo_5 : decode cX4_isNextTo 5 = .ok (.iload 4, 2) := dk_21 4 (dk_at dksX4_isNextTo_0 5 rfl rfl)
theorem dX4_isNextTo_7 : decode cX4_isNextTo 7 = .ok (.iconst 4, 1) := dk_7 (dk_at dksX4_isNextTo_0 7 rfl rfl)
theorem dX4_isNextTo_8 : decode cX4_isNextTo 8 = .ok (.if_icmp .ge 23, 3) := dk_162 0 23 (dk_at dksX4_isNextTo_0 8 rfl rfl)
theorem dX4_isNextTo_11 : decode cX4_isNextTo 11 = .ok (.iload_n 3, 1) := dk_29 (dk_at dksX4_isNextTo_0 11 rfl rfl)
theorem dX4_isNextTo_12 : decode cX4_isNextTo 12 = .ok (.aload_n 0, 1) := dk_42 (dk_at dksX4_isNextTo_0 12 rfl rfl)
theorem dX4_isNextTo_13 : decode cX4_isNextTo 13 = .ok (.iload_n 1, 1) := dk_27 (dk_at dksX4_isNextTo_0 13 rfl rfl)
theorem dX4_isNextTo_14 : decode cX4_isNextTo 14 = .ok (.iload 4, 2) := dk_21 4 (dk_at dksX4_isNextTo_0 14 rfl rfl)
theorem dX4_isNextTo_16 : decode cX4_isNextTo 16 = .ok (.invokestatic 70, 3) := dk_184 0 70 (dk_at dksX4_isNextTo_0 16 rfl rfl)
theorem dX4_isNextTo_19 : decode cX4_isNextTo 19 = .ok (.iload_n 2, 1) := dk_28 (dk_at dksX4_isNextTo_0 19 rfl rfl)
theorem dX4_isNextTo_20 : decode cX4_isNextTo 20 = .ok (.invokevirtual 74, 3) := dk_182 0 74 (dk_at dksX4_isNextTo_0 20 rfl rfl)
theorem dX4_isNextTo_23 : decode cX4_isNextTo 23 = .ok (.ior, 1) := dk_128 (dk_at dksX4_isNextTo_0 23 rfl rfl)
theorem dX4_isNextTo_24 : decode cX4_isNextTo 24 = .ok (.istore_n 3, 1) := dk_62 (dk_at dksX4_isNextTo_1 0 rfl rfl)
theorem dX4_isNextTo_25 : decode cX4_isNextTo 25 = .ok (.iinc 4 1, 3) := dk_132 4 1 (dk_at dksX4_isNextTo_1 1 rfl rfl)
theorem dX4_isNextTo_28 : decode cX4_isNextTo 28 = .ok (.goto (-23), 3) := dk_167 255 233 (dk_at dksX4_isNextTo_1 4 rfl rfl)
theorem dX4_isNextTo_31 : decode cX4_isNextTo 31 = .ok (.iload_n 3, 1) := dk_29 (dk_at dksX4_isNextTo_1 7 rfl rfl)
theorem dX4_isNextTo_32 : decode cX4_isNextTo 32 = .ok (.ireturn, 1) := dk_172 (dk_at dksX4_isNextTo_1 8 rfl rfl)
abbrev cX4_isOpenOf : ByteArray := prog_24_method_12_code
def yX4_isOpenOf : MethodName := ⟨RX4, "isOpenOf", "(II)Z"⟩
def dkwX4_isOpenOf_1 : List UInt8 := [167, 0, 4, 3, 172]
abbrev dktX4_isOpenOf_1 : List UInt8 := dkwX4_isOpenOf_1 ++ []
def dkwX4_isOpenOf_0 : List UInt8 := [42, 27, 182, 0, 66, 153, 0, 21, 42, 180, 0, 9, 17, 0, 192, 27, 96, 46, 28, 160, 0, 7, 4]
abbrev dktX4_isOpenOf_0 : List UInt8 := dkwX4_isOpenOf_0 ++ dktX4_isOpenOf_1
theorem dksX4_isOpenOf_0 : cX4_isOpenOf.data.toList.drop 0 = dktX4_isOpenOf_0 := by decide +kernel
theorem dksX4_isOpenOf_1 : cX4_isOpenOf.data.toList.drop 23 = dktX4_isOpenOf_1 := dk_seg dksX4_isOpenOf_0 23 rfl rfl
theorem dX4_isOpenOf_0 : decode cX4_isOpenOf 0 = .ok (.aload_n 0, 1) := dk_42 (dk_at dksX4_isOpenOf_0 0 rfl rfl)
theorem dX4_isOpenOf_1 : decode cX4_isOpenOf 1 = .ok (.iload_n 1, 1) := dk_27 (dk_at dksX4_isOpenOf_0 1 rfl rfl)
theorem dX4_isOpenOf_2 : decode cX4_isOpenOf 2 = .ok (.invokevirtual 66, 3) := dk_182 0 66 (dk_at dksX4_isOpenOf_0 2 rfl rfl)
theorem dX4_isOpenOf_5 : decode cX4_isOpenOf 5 = .ok (.ifCond .eq 21, 3) := dk_153 0 21 (dk_at dksX4_isOpenOf_0 5 rfl rfl)
theorem dX4_isOpenOf_8 : decode cX4_isOpenOf 8 = .ok (.aload_n 0, 1) := dk_42 (dk_at dksX4_isOpenOf_0 8 rfl rfl)
theorem dX4_isOpenOf_9 : decode cX4_isOpenOf 9 = .ok (.getfield 9, 3) := dk_180 0 9 (dk_at dksX4_isOpenOf_0 9 rfl rfl)
theorem dX4_isOpenOf_12 : decode cX4_isOpenOf 12 = .ok (.sipush 192, 3) := dk_17 0 192 (dk_at dksX4_isOpenOf_0 12 rfl rfl)
theorem dX4_isOpenOf_15 : decode cX4_isOpenOf 15 = .ok (.iload_n 1, 1) := dk_27 (dk_at dksX4_isOpenOf_0 15 rfl rfl)
theorem dX4_isOpenOf_16 : decode cX4_isOpenOf 16 = .ok (.iadd, 1) := dk_96 (dk_at dksX4_isOpenOf_0 16 rfl rfl)
theorem dX4_isOpenOf_17 : decode cX4_isOpenOf 17 = .ok (.iaload, 1) := dk_46 (dk_at dksX4_isOpenOf_0 17 rfl rfl)
theorem dX4_isOpenOf_18 : decode cX4_isOpenOf 18 = .ok (.iload_n 2, 1) := dk_28 (dk_at dksX4_isOpenOf_0 18 rfl rfl)
theorem dX4_isOpenOf_19 : decode cX4_isOpenOf 19 = .ok (.if_icmp .ne 7, 3) := dk_160 0 7 (dk_at dksX4_isOpenOf_0 19 rfl rfl)
theorem dX4_isOpenOf_22 : decode cX4_isOpenOf 22 = .ok (.iconst 1, 1) := dk_4 (dk_at dksX4_isOpenOf_0 22 rfl rfl)
theorem dX4_isOpenOf_23 : decode cX4_isOpenOf 23 = .ok (.goto 4, 3) := dk_167 0 4 (dk_at dksX4_isOpenOf_1 0 rfl rfl)
theorem dX4_isOpenOf_26 : decode cX4_isOpenOf 26 = .ok (.iconst 0, 1) := dk_3 (dk_at dksX4_isOpenOf_1 3 rfl rfl)
theorem dX4_isOpenOf_27 : decode cX4_isOpenOf 27 = .ok (.ireturn, 1) := dk_172 (dk_at dksX4_isOpenOf_1 4 rfl rfl)
abbrev cX4_sink : ByteArray := prog_24_method_39_code
def yX4_sink : MethodName := ⟨RX4, "sink", "(I)I"⟩
def dkwX4_sink_7 : List UInt8 := [28, 182, 0, 142, 28, 172]
abbrev dktX4_sink_7 : List UInt8 := dkwX4_sink_7 ++ []
def dkwX4_sink_6 : List UInt8 := [180, 0, 9, 17, 1, 80, 28, 96, 3, 79, 42, 180, 0, 9, 17, 1, 94, 92, 46, 4, 96, 79, 42, 27]
abbrev dktX4_sink_6 : List UInt8 := dkwX4_sink_6 ++ dktX4_sink_7
def dkwX4_sink_5 : List UInt8 := [180, 0, 9, 17, 1, 64, 28, 96, 27, 79, 42, 180, 0, 9, 17, 1, 72, 28, 96, 3, 79, 42]
abbrev dktX4_sink_5 : List UInt8 := dkwX4_sink_5 ++ dktX4_sink_6
def dkwX4_sink_4 : List UInt8 := [3, 182, 0, 98, 153, 0, 5, 3, 172, 42, 182, 0, 116, 42, 180, 0, 9, 17, 1, 94, 46, 61, 42]
abbrev dktX4_sink_4 : List UInt8 := dkwX4_sink_4 ++ dktX4_sink_5
def dkwX4_sink_3 : List UInt8 := [154, 0, 20, 42, 27, 2, 182, 0, 136, 154, 0, 11, 42, 27, 182, 0, 139, 153, 0, 7, 4, 167, 0, 4]
abbrev dktX4_sink_3 : List UInt8 := dkwX4_sink_3 ++ dktX4_sink_4
def dkwX4_sink_2 : List UInt8 := [154, 0, 42, 42, 42, 27, 182, 0, 102, 154, 0, 7, 4, 167, 0, 4, 3, 4, 27, 182, 0, 105]
abbrev dktX4_sink_2 : List UInt8 := dkwX4_sink_2 ++ dktX4_sink_3
def dkwX4_sink_1 : List UInt8 := [180, 0, 9, 17, 1, 94, 46, 16, 8, 160, 0, 7, 4, 167, 0, 4, 3, 16, 8, 16, 8, 182, 0, 105]
abbrev dktX4_sink_1 : List UInt8 := dkwX4_sink_1 ++ dktX4_sink_2
def dkwX4_sink_0 : List UInt8 := [42, 4, 27, 184, 0, 95, 154, 0, 7, 4, 167, 0, 4, 3, 182, 0, 98, 154, 0, 84, 42, 5, 42, 42]
abbrev dktX4_sink_0 : List UInt8 := dkwX4_sink_0 ++ dktX4_sink_1
theorem dksX4_sink_0 : cX4_sink.data.toList.drop 0 = dktX4_sink_0 := by decide +kernel
theorem dksX4_sink_1 : cX4_sink.data.toList.drop 24 = dktX4_sink_1 := dk_seg dksX4_sink_0 24 rfl rfl
theorem dksX4_sink_2 : cX4_sink.data.toList.drop 48 = dktX4_sink_2 := dk_seg dksX4_sink_1 24 rfl rfl
theorem dksX4_sink_3 : cX4_sink.data.toList.drop 70 = dktX4_sink_3 := dk_seg dksX4_sink_2 22 rfl rfl
theorem dksX4_sink_4 : cX4_sink.data.toList.drop 94 = dktX4_sink_4 := dk_seg dksX4_sink_3 24 rfl rfl
theorem dksX4_sink_5 : cX4_sink.data.toList.drop 117 = dktX4_sink_5 := dk_seg dksX4_sink_4 23 rfl rfl
theorem dksX4_sink_6 : cX4_sink.data.toList.drop 139 = dktX4_sink_6 := dk_seg dksX4_sink_5 22 rfl rfl
theorem dksX4_sink_7 : cX4_sink.data.toList.drop 163 = dktX4_sink_7 := dk_seg dksX4_sink_6 24 rfl rfl
theorem dX4_sink_0 : decode cX4_sink 0 = .ok (.aload_n 0, 1) := dk_42 (dk_at dksX4_sink_0 0 rfl rfl)
theorem dX4_sink_1 : decode cX4_sink 1 = .ok (.iconst 1, 1) := dk_4 (dk_at dksX4_sink_0 1 rfl rfl)
theorem dX4_sink_2 : decode cX4_sink 2 = .ok (.iload_n 1, 1) := dk_27 (dk_at dksX4_sink_0 2 rfl rfl)
theorem dX4_sink_3 : decode cX4_sink 3 = .ok (.invokestatic 95, 3) := dk_184 0 95 (dk_at dksX4_sink_0 3 rfl rfl)
theorem dX4_sink_6 : decode cX4_sink 6 = .ok (.ifCond .ne 7, 3) := dk_154 0 7 (dk_at dksX4_sink_0 6 rfl rfl)
theorem dX4_sink_9 : decode cX4_sink 9 = .ok (.iconst 1, 1) := dk_4 (dk_at dksX4_sink_0 9 rfl rfl)
theorem dX4_sink_10 : decode cX4_sink 10 = .ok (.goto 4, 3) := dk_167 0 4 (dk_at dksX4_sink_0 10 rfl rfl)
theorem dX4_sink_13 : decode cX4_sink 13 = .ok (.iconst 0, 1) := dk_3 (dk_at dksX4_sink_0 13 rfl rfl)
theorem dX4_sink_14 : decode cX4_sink 14 = .ok (.invokevirtual 98, 3) := dk_182 0 98 (dk_at dksX4_sink_0 14 rfl rfl)
theorem dX4_sink_17 : decode cX4_sink 17 = .ok (.ifCond .ne 84, 3) := dk_154 0 84 (dk_at dksX4_sink_0 17 rfl rfl)
theorem dX4_sink_20 : decode cX4_sink 20 = .ok (.aload_n 0, 1) := dk_42 (dk_at dksX4_sink_0 20 rfl rfl)
theorem dX4_sink_21 : decode cX4_sink 21 = .ok (.iconst 2, 1) := dk_5 (dk_at dksX4_sink_0 21 rfl rfl)
theorem dX4_sink_22 : decode cX4_sink 22 = .ok (.aload_n 0, 1) := dk_42 (dk_at dksX4_sink_0 22 rfl rfl)
theorem dX4_sink_23 : decode cX4_sink 23 = .ok (.aload_n 0, 1) := dk_42 (dk_at dksX4_sink_0 23 rfl rfl)
theorem dX4_sink_24 : decode cX4_sink 24 = .ok (.getfield 9, 3) := dk_180 0 9 (dk_at dksX4_sink_1 0 rfl rfl)
theorem dX4_sink_27 : decode cX4_sink 27 = .ok (.sipush 350, 3) := dk_17 1 94 (dk_at dksX4_sink_1 3 rfl rfl)
theorem dX4_sink_30 : decode cX4_sink 30 = .ok (.iaload, 1) := dk_46 (dk_at dksX4_sink_1 6 rfl rfl)
theorem dX4_sink_31 : decode cX4_sink 31 = .ok (.bipush 8, 2) := dk_16 8 (dk_at dksX4_sink_1 7 rfl rfl)
theorem dX4_sink_33 : decode cX4_sink 33 = .ok (.if_icmp .ne 7, 3) := dk_160 0 7 (dk_at dksX4_sink_1 9 rfl rfl)
theorem dX4_sink_36 : decode cX4_sink 36 = .ok (.iconst 1, 1) := dk_4 (dk_at dksX4_sink_1 12 rfl rfl)
theorem dX4_sink_37 : decode cX4_sink 37 = .ok (.goto 4, 3) := dk_167 0 4 (dk_at dksX4_sink_1 13 rfl rfl)
theorem dX4_sink_40 : decode cX4_sink 40 = .ok (.iconst 0, 1) := dk_3 (dk_at dksX4_sink_1 16 rfl rfl)
theorem dX4_sink_41 : decode cX4_sink 41 = .ok (.bipush 8, 2) := dk_16 8 (dk_at dksX4_sink_1 17 rfl rfl)
theorem dX4_sink_43 : decode cX4_sink 43 = .ok (.bipush 8, 2) := dk_16 8 (dk_at dksX4_sink_1 19 rfl rfl)
theorem dX4_sink_45 : decode cX4_sink 45 = .ok (.invokevirtual 105, 3) := dk_182 0 105 (dk_at dksX4_sink_1 21 rfl rfl)
theorem dX4_sink_48 : decode cX4_sink 48 = .ok (.ifCond .ne 42, 3) := dk_154 0 42 (dk_at dksX4_sink_2 0 rfl rfl)
theorem dX4_sink_51 : decode cX4_sink 51 = .ok (.aload_n 0, 1) := dk_42 (dk_at dksX4_sink_2 3 rfl rfl)
theorem dX4_sink_52 : decode cX4_sink 52 = .ok (.aload_n 0, 1) := dk_42 (dk_at dksX4_sink_2 4 rfl rfl)
theorem dX4_sink_53 : decode cX4_sink 53 = .ok (.iload_n 1, 1) := dk_27 (dk_at dksX4_sink_2 5 rfl rfl)
theorem dX4_sink_54 : decode cX4_sink 54 = .ok (.invokevirtual 102, 3) := dk_182 0 102 (dk_at dksX4_sink_2 6 rfl rfl)
theorem dX4_sink_57 : decode cX4_sink 57 = .ok (.ifCond .ne 7, 3) := dk_154 0 7 (dk_at dksX4_sink_2 9 rfl rfl)
theorem dX4_sink_60 : decode cX4_sink 60 = .ok (.iconst 1, 1) := dk_4 (dk_at dksX4_sink_2 12 rfl rfl)
theorem dX4_sink_61 : decode cX4_sink 61 = .ok (.goto 4, 3) := dk_167 0 4 (dk_at dksX4_sink_2 13 rfl rfl)
theorem dX4_sink_64 : decode cX4_sink 64 = .ok (.iconst 0, 1) := dk_3 (dk_at dksX4_sink_2 16 rfl rfl)
theorem dX4_sink_65 : decode cX4_sink 65 = .ok (.iconst 1, 1) := dk_4 (dk_at dksX4_sink_2 17 rfl rfl)
theorem dX4_sink_66 : decode cX4_sink 66 = .ok (.iload_n 1, 1) := dk_27 (dk_at dksX4_sink_2 18 rfl rfl)
theorem dX4_sink_67 : decode cX4_sink 67 = .ok (.invokevirtual 105, 3) := dk_182 0 105 (dk_at dksX4_sink_2 19 rfl rfl)
theorem dX4_sink_70 : decode cX4_sink 70 = .ok (.ifCond .ne 20, 3) := dk_154 0 20 (dk_at dksX4_sink_3 0 rfl rfl)
theorem dX4_sink_73 : decode cX4_sink 73 = .ok (.aload_n 0, 1) := dk_42 (dk_at dksX4_sink_3 3 rfl rfl)
theorem dX4_sink_74 : decode cX4_sink 74 = .ok (.iload_n 1, 1) := dk_27 (dk_at dksX4_sink_3 4 rfl rfl)
theorem dX4_sink_75 : decode cX4_sink 75 = .ok (.iconst (-1), 1) := dk_2 (dk_at dksX4_sink_3 5 rfl rfl)
theorem dX4_sink_76 : decode cX4_sink 76 = .ok (.invokevirtual 136, 3) := dk_182 0 136 (dk_at dksX4_sink_3 6 rfl rfl)
theorem dX4_sink_79 : decode cX4_sink 79 = .ok (.ifCond .ne 11, 3) := dk_154 0 11 (dk_at dksX4_sink_3 9 rfl rfl)
theorem dX4_sink_82 : decode cX4_sink 82 = .ok (.aload_n 0, 1) := dk_42 (dk_at dksX4_sink_3 12 rfl rfl)
theorem dX4_sink_83 : decode cX4_sink 83 = .ok (.iload_n 1, 1) := dk_27 (dk_at dksX4_sink_3 13 rfl rfl)
theorem dX4_sink_84 : decode cX4_sink 84 = .ok (.invokevirtual 139, 3) := dk_182 0 139 (dk_at dksX4_sink_3 14 rfl rfl)
theorem dX4_sink_87 : decode cX4_sink 87 = .ok (.ifCond .eq 7, 3) := dk_153 0 7 (dk_at dksX4_sink_3 17 rfl rfl)
theorem dX4_sink_90 : decode cX4_sink 90 = .ok (.iconst 1, 1) := dk_4 (dk_at dksX4_sink_3 20 rfl rfl)
theorem dX4_sink_91 : decode cX4_sink 91 = .ok (.goto 4, 3) := dk_167 0 4 (dk_at dksX4_sink_3 21 rfl rfl)
theorem dX4_sink_94 : decode cX4_sink 94 = .ok (.iconst 0, 1) := dk_3 (dk_at dksX4_sink_4 0 rfl rfl)
theorem dX4_sink_95 : decode cX4_sink 95 = .ok (.invokevirtual 98, 3) := dk_182 0 98 (dk_at dksX4_sink_4 1 rfl rfl)
theorem dX4_sink_98 : decode cX4_sink 98 = .ok (.ifCond .eq 5, 3) := dk_153 0 5 (dk_at dksX4_sink_4 4 rfl rfl)
theorem dX4_sink_101 : decode cX4_sink 101 = .ok (.iconst 0, 1) := dk_3 (dk_at dksX4_sink_4 7 rfl rfl)
theorem dX4_sink_102 : decode cX4_sink 102 = .ok (.ireturn, 1) := dk_172 (dk_at dksX4_sink_4 8 rfl rfl)
theorem dX4_sink_103 : decode cX4_sink 103 = .ok (.aload_n 0, 1) := dk_42 (dk_at dksX4_sink_4 9 rfl rfl)
theorem dX4_sink_104 : decode cX4_sink 104 = .ok (.invokevirtual 116, 3) := dk_182 0 116 (dk_at dksX4_sink_4 10 rfl rfl)
theorem dX4_sink_107 : decode cX4_sink 107 = .ok (.aload_n 0, 1) := dk_42 (dk_at dksX4_sink_4 13 rfl rfl)
theorem dX4_sink_108 : decode cX4_sink 108 = .ok (.getfield 9, 3) := dk_180 0 9 (dk_at dksX4_sink_4 14 rfl rfl)
theorem dX4_sink_111 : decode cX4_sink 111 = .ok (.sipush 350, 3) := dk_17 1 94 (dk_at dksX4_sink_4 17 rfl rfl)
theorem dX4_sink_114 : decode cX4_sink 114 = .ok (.iaload, 1) := dk_46 (dk_at dksX4_sink_4 20 rfl rfl)
theorem dX4_sink_115 : decode cX4_sink 115 = .ok (.istore_n 2, 1) := dk_61 (dk_at dksX4_sink_4 21 rfl rfl)
theorem dX4_sink_116 : decode cX4_sink 116 = .ok (.aload_n 0, 1) := dk_42 (dk_at dksX4_sink_4 22 rfl rfl)
theorem dX4_sink_117 : decode cX4_sink 117 = .ok (.getfield 9, 3) := dk_180 0 9 (dk_at dksX4_sink_5 0 rfl rfl)
theorem dX4_sink_120 : decode cX4_sink 120 = .ok (.sipush 320, 3) := dk_17 1 64 (dk_at dksX4_sink_5 3 rfl rfl)
theorem dX4_sink_123 : decode cX4_sink 123 = .ok (.iload_n 2, 1) := dk_28 (dk_at dksX4_sink_5 6 rfl rfl)
theorem dX4_sink_124 : decode cX4_sink 124 = .ok (.iadd, 1) := dk_96 (dk_at dksX4_sink_5 7 rfl rfl)
theorem dX4_sink_125 : decode cX4_sink 125 = .ok (.iload_n 1, 1) := dk_27 (dk_at dksX4_sink_5 8 rfl rfl)
theorem dX4_sink_126 : decode cX4_sink 126 = .ok (.iastore, 1) := dk_79 (dk_at dksX4_sink_5 9 rfl rfl)
theorem dX4_sink_127 : decode cX4_sink 127 = .ok (.aload_n 0, 1) := dk_42 (dk_at dksX4_sink_5 10 rfl rfl)
theorem dX4_sink_128 : decode cX4_sink 128 = .ok (.getfield 9, 3) := dk_180 0 9 (dk_at dksX4_sink_5 11 rfl rfl)
theorem dX4_sink_131 : decode cX4_sink 131 = .ok (.sipush 328, 3) := dk_17 1 72 (dk_at dksX4_sink_5 14 rfl rfl)
theorem dX4_sink_134 : decode cX4_sink 134 = .ok (.iload_n 2, 1) := dk_28 (dk_at dksX4_sink_5 17 rfl rfl)
theorem dX4_sink_135 : decode cX4_sink 135 = .ok (.iadd, 1) := dk_96 (dk_at dksX4_sink_5 18 rfl rfl)
theorem dX4_sink_136 : decode cX4_sink 136 = .ok (.iconst 0, 1) := dk_3 (dk_at dksX4_sink_5 19 rfl rfl)
theorem dX4_sink_137 : decode cX4_sink 137 = .ok (.iastore, 1) := dk_79 (dk_at dksX4_sink_5 20 rfl rfl)
theorem dX4_sink_138 : decode cX4_sink 138 = .ok (.aload_n 0, 1) := dk_42 (dk_at dksX4_sink_5 21 rfl rfl)
theorem dX4_sink_139 : decode cX4_sink 139 = .ok (.getfield 9, 3) := dk_180 0 9 (dk_at dksX4_sink_6 0 rfl rfl)
theorem dX4_sink_142 : decode cX4_sink 142 = .ok (.sipush 336, 3) := dk_17 1 80 (dk_at dksX4_sink_6 3 rfl rfl)
theorem dX4_sink_145 : decode cX4_sink 145 = .ok (.iload_n 2, 1) := dk_28 (dk_at dksX4_sink_6 6 rfl rfl)
theorem dX4_sink_146 : decode cX4_sink 146 = .ok (.iadd, 1) := dk_96 (dk_at dksX4_sink_6 7 rfl rfl)
theorem dX4_sink_147 : decode cX4_sink 147 = .ok (.iconst 0, 1) := dk_3 (dk_at dksX4_sink_6 8 rfl rfl)
theorem dX4_sink_148 : decode cX4_sink 148 = .ok (.iastore, 1) := dk_79 (dk_at dksX4_sink_6 9 rfl rfl)
theorem dX4_sink_149 : decode cX4_sink 149 = .ok (.aload_n 0, 1) := dk_42 (dk_at dksX4_sink_6 10 rfl rfl)
theorem dX4_sink_150 : decode cX4_sink 150 = .ok (.getfield 9, 3) := dk_180 0 9 (dk_at dksX4_sink_6 11 rfl rfl)
theorem dX4_sink_153 : decode cX4_sink 153 = .ok (.sipush 350, 3) := dk_17 1 94 (dk_at dksX4_sink_6 14 rfl rfl)
theorem dX4_sink_156 : decode cX4_sink 156 = .ok (.dup2, 1) := dk_92 (dk_at dksX4_sink_6 17 rfl rfl)
theorem dX4_sink_157 : decode cX4_sink 157 = .ok (.iaload, 1) := dk_46 (dk_at dksX4_sink_6 18 rfl rfl)
theorem dX4_sink_158 : decode cX4_sink 158 = .ok (.iconst 1, 1) := dk_4 (dk_at dksX4_sink_6 19 rfl rfl)
theorem dX4_sink_159 : decode cX4_sink 159 = .ok (.iadd, 1) := dk_96 (dk_at dksX4_sink_6 20 rfl rfl)
theorem dX4_sink_160 : decode cX4_sink 160 = .ok (.iastore, 1) := dk_79 (dk_at dksX4_sink_6 21 rfl rfl)
theorem dX4_sink_161 : decode cX4_sink 161 = .ok (.aload_n 0, 1) := dk_42 (dk_at dksX4_sink_6 22 rfl rfl)
theorem dX4_sink_162 : decode cX4_sink 162 = .ok (.iload_n 1, 1) := dk_27 (dk_at dksX4_sink_6 23 rfl rfl)
theorem dX4_sink_163 : decode cX4_sink 163 = .ok (.iload_n 2, 1) := dk_28 (dk_at dksX4_sink_7 0 rfl rfl)
theorem dX4_sink_164 : decode cX4_sink 164 = .ok (.invokevirtual 142, 3) := dk_182 0 142 (dk_at dksX4_sink_7 1 rfl rfl)
theorem dX4_sink_167 : decode cX4_sink 167 = .ok (.iload_n 2, 1) := dk_28 (dk_at dksX4_sink_7 4 rfl rfl)
theorem dX4_sink_168 : decode cX4_sink 168 = .ok (.ireturn, 1) := dk_172 (dk_at dksX4_sink_7 5 rfl rfl)
abbrev cX4_isBesideOther : ByteArray := prog_24_method_38_code
def yX4_isBesideOther : MethodName := ⟨RX4, "isBesideOther", "(II)Z"⟩
def dkwX4_isBesideOther_0 : List UInt8 := [42, 27, 28, 182, 0, 126, 62, 42, 29, 155, 0, 7, 4, 167, 0, 4, 3, 6, 29, 182, 0, 105, 172]
abbrev dktX4_isBesideOther_0 : List UInt8 := dkwX4_isBesideOther_0 ++ []
theorem dksX4_isBesideOther_0 : cX4_isBesideOther.data.toList.drop 0 = dktX4_isBesideOther_0 := by decide +kernel
theorem dX4_isBesideOther_0 : decode cX4_isBesideOther 0 = .ok (.aload_n 0, 1) := dk_42 (dk_at dksX4_isBesideOther_0 0 rfl rfl)
theorem dX4_isBesideOther_1 : decode cX4_isBesideOther 1 = .ok (.iload_n 1, 1) := dk_27 (dk_at dksX4_isBesideOther_0 1 rfl rfl)
theorem dX4_isBesideOther_2 : decode cX4_isBesideOther 2 = .ok (.iload_n 2, 1) := dk_28 (dk_at dksX4_isBesideOther_0 2 rfl rfl)
theorem dX4_isBesideOther_3 : decode cX4_isBesideOther 3 = .ok (.invokevirtual 126, 3) := dk_182 0 126 (dk_at dksX4_isBesideOther_0 3 rfl rfl)
theorem dX4_isBesideOther_6 : decode cX4_isBesideOther 6 = .ok (.istore_n 3, 1) := dk_62 (dk_at dksX4_isBesideOther_0 6 rfl rfl)
theorem dX4_isBesideOther_7 : decode cX4_isBesideOther 7 = .ok (.aload_n 0, 1) := dk_42 (dk_at dksX4_isBesideOther_0 7 rfl rfl)
theorem dX4_isBesideOther_8 : decode cX4_isBesideOther 8 = .ok (.iload_n 3, 1) := dk_29 (dk_at dksX4_isBesideOther_0 8 rfl rfl)
theorem dX4_isBesideOther_9 : decode cX4_isBesideOther 9 = .ok (.ifCond .lt 7, 3) := dk_155 0 7 (dk_at dksX4_isBesideOther_0 9 rfl rfl)
theorem dX4_isBesideOther_12 : decode cX4_isBesideOther 12 = .ok (.iconst 1, 1) := dk_4 (dk_at dksX4_isBesideOther_0 12 rfl rfl)
theorem dX4_isBesideOther_13 : decode cX4_isBesideOther 13 = .ok (.goto 4, 3) := dk_167 0 4 (dk_at dksX4_isBesideOther_0 13 rfl rfl)
theorem dX4_isBesideOther_16 : decode cX4_isBesideOther 16 = .ok (.iconst 0, 1) := dk_3 (dk_at dksX4_isBesideOther_0 16 rfl rfl)
theorem dX4_isBesideOther_17 : decode cX4_isBesideOther 17 = .ok (.iconst 3, 1) := dk_6 (dk_at dksX4_isBesideOther_0 17 rfl rfl)
theorem dX4_isBesideOther_18 : decode cX4_isBesideOther 18 = .ok (.iload_n 3, 1) := dk_29 (dk_at dksX4_isBesideOther_0 18 rfl rfl)
theorem dX4_isBesideOther_19 : decode cX4_isBesideOther 19 = .ok (.invokevirtual 105, 3) := dk_182 0 105 (dk_at dksX4_isBesideOther_0 19 rfl rfl)
theorem dX4_isBesideOther_22 : decode cX4_isBesideOther 22 = .ok (.ireturn, 1) := dk_172 (dk_at dksX4_isBesideOther_0 22 rfl rfl)
abbrev cX4_isTooHard : ByteArray := prog_24_method_37_code
def yX4_isTooHard : MethodName := ⟨RX4, "isTooHard", "(I)Z"⟩
def dkwX4_isTooHard_1 : List UInt8 := [182, 0, 105, 172]
abbrev dktX4_isTooHard_1 : List UInt8 := dkwX4_isTooHard_1 ++ []
def dkwX4_isTooHard_0 : List UInt8 := [42, 42, 42, 27, 182, 0, 109, 182, 0, 129, 156, 0, 7, 4, 167, 0, 4, 3, 8, 42, 27, 182, 0, 109]
abbrev dktX4_isTooHard_0 : List UInt8 := dkwX4_isTooHard_0 ++ dktX4_isTooHard_1
theorem dksX4_isTooHard_0 : cX4_isTooHard.data.toList.drop 0 = dktX4_isTooHard_0 := by decide +kernel
theorem dksX4_isTooHard_1 : cX4_isTooHard.data.toList.drop 24 = dktX4_isTooHard_1 := dk_seg dksX4_isTooHard_0 24 rfl rfl
theorem dX4_isTooHard_0 : decode cX4_isTooHard 0 = .ok (.aload_n 0, 1) := dk_42 (dk_at dksX4_isTooHard_0 0 rfl rfl)
theorem dX4_isTooHard_1 : decode cX4_isTooHard 1 = .ok (.aload_n 0, 1) := dk_42 (dk_at dksX4_isTooHard_0 1 rfl rfl)
theorem dX4_isTooHard_2 : decode cX4_isTooHard 2 = .ok (.aload_n 0, 1) := dk_42 (dk_at dksX4_isTooHard_0 2 rfl rfl)
theorem dX4_isTooHard_3 : decode cX4_isTooHard 3 = .ok (.iload_n 1, 1) := dk_27 (dk_at dksX4_isTooHard_0 3 rfl rfl)
theorem dX4_isTooHard_4 : decode cX4_isTooHard 4 = .ok (.invokevirtual 109, 3) := dk_182 0 109 (dk_at dksX4_isTooHard_0 4 rfl rfl)
theorem dX4_isTooHard_7 : decode cX4_isTooHard 7 = .ok (.invokevirtual 129, 3) := dk_182 0 129 (dk_at dksX4_isTooHard_0 7 rfl rfl)
theorem dX4_isTooHard_10 : decode cX4_isTooHard 10 = .ok (.ifCond .ge 7, 3) := dk_156 0 7 (dk_at dksX4_isTooHard_0 10 rfl rfl)
theorem dX4_isTooHard_13 : decode cX4_isTooHard 13 = .ok (.iconst 1, 1) := dk_4 (dk_at dksX4_isTooHard_0 13 rfl rfl)
theorem dX4_isTooHard_14 : decode cX4_isTooHard 14 = .ok (.goto 4, 3) := dk_167 0 4 (dk_at dksX4_isTooHard_0 14 rfl rfl)
theorem dX4_isTooHard_17 : decode cX4_isTooHard 17 = .ok (.iconst 0, 1) := dk_3 (dk_at dksX4_isTooHard_0 17 rfl rfl)
theorem dX4_isTooHard_18 : decode cX4_isTooHard 18 = .ok (.iconst 5, 1) := dk_8 (dk_at dksX4_isTooHard_0 18 rfl rfl)
theorem dX4_isTooHard_19 : decode cX4_isTooHard 19 = .ok (.aload_n 0, 1) := dk_42 (dk_at dksX4_isTooHard_0 19 rfl rfl)
theorem dX4_isTooHard_20 : decode cX4_isTooHard 20 = .ok (.iload_n 1, 1) := dk_27 (dk_at dksX4_isTooHard_0 20 rfl rfl)
theorem dX4_isTooHard_21 : decode cX4_isTooHard 21 = .ok (.invokevirtual 109, 3) := dk_182 0 109 (dk_at dksX4_isTooHard_0 21 rfl rfl)
theorem dX4_isTooHard_24 : decode cX4_isTooHard 24 = .ok (.invokevirtual 105, 3) := dk_182 0 105 (dk_at dksX4_isTooHard_1 0 rfl rfl)
theorem dX4_isTooHard_27 : decode cX4_isTooHard 27 = .ok (.ireturn, 1) := dk_172 (dk_at dksX4_isTooHard_1 3 rfl rfl)
abbrev cX4_pickFor : ByteArray := prog_24_method_29_code
def yX4_pickFor : MethodName := ⟨RX4, "pickFor", "(I)I"⟩
def dkwX4_pickFor_3 : List UInt8 := [167, 0, 4, 28, 61, 132, 3, 1, 167, 255, 182, 28, 172]
abbrev dktX4_pickFor_3 : List UInt8 := dkwX4_pickFor_3 ++ []
def dkwX4_pickFor_2 : List UInt8 := [180, 0, 9, 17, 1, 88, 29, 96, 46, 42, 180, 0, 9, 17, 1, 88, 28, 96, 46, 162, 0, 7, 29]
abbrev dktX4_pickFor_2 : List UInt8 := dkwX4_pickFor_2 ++ dktX4_pickFor_3
def dkwX4_pickFor_1 : List UInt8 := [96, 46, 27, 161, 0, 7, 4, 167, 0, 4, 3, 54, 4, 21, 4, 153, 0, 34, 28, 155, 0, 26, 42]
abbrev dktX4_pickFor_1 : List UInt8 := dkwX4_pickFor_1 ++ dktX4_pickFor_2
def dkwX4_pickFor_0 : List UInt8 := [2, 61, 3, 62, 29, 42, 180, 0, 9, 17, 1, 95, 46, 162, 0, 68, 42, 180, 0, 9, 17, 1, 88, 29]
abbrev dktX4_pickFor_0 : List UInt8 := dkwX4_pickFor_0 ++ dktX4_pickFor_1
theorem dksX4_pickFor_0 : cX4_pickFor.data.toList.drop 0 = dktX4_pickFor_0 := by decide +kernel
theorem dksX4_pickFor_1 : cX4_pickFor.data.toList.drop 24 = dktX4_pickFor_1 := dk_seg dksX4_pickFor_0 24 rfl rfl
theorem dksX4_pickFor_2 : cX4_pickFor.data.toList.drop 47 = dktX4_pickFor_2 := dk_seg dksX4_pickFor_1 23 rfl rfl
theorem dksX4_pickFor_3 : cX4_pickFor.data.toList.drop 70 = dktX4_pickFor_3 := dk_seg dksX4_pickFor_2 23 rfl rfl
theorem dX4_pickFor_0 : decode cX4_pickFor 0 = .ok (.iconst (-1), 1) := dk_2 (dk_at dksX4_pickFor_0 0 rfl rfl)
theorem dX4_pickFor_1 : decode cX4_pickFor 1 = .ok (.istore_n 2, 1) := dk_61 (dk_at dksX4_pickFor_0 1 rfl rfl)
theorem dX4_pickFor_2 : decode cX4_pickFor 2 = .ok (.iconst 0, 1) := dk_3 (dk_at dksX4_pickFor_0 2 rfl rfl)
theorem dX4_pickFor_3 : decode cX4_pickFor 3 = .ok (.istore_n 3, 1) := dk_62 (dk_at dksX4_pickFor_0 3 rfl rfl)
theorem dX4_pickFor_4 : decode cX4_pickFor 4 = .ok (.iload_n 3, 1) := dk_29 (dk_at dksX4_pickFor_0 4 rfl rfl)
theorem dX4_pickFor_5 : decode cX4_pickFor 5 = .ok (.aload_n 0, 1) := dk_42 (dk_at dksX4_pickFor_0 5 rfl rfl)
theorem dX4_pickFor_6 : decode cX4_pickFor 6 = .ok (.getfield 9, 3) := dk_180 0 9 (dk_at dksX4_pickFor_0 6 rfl rfl)
theorem dX4_pickFor_9 : decode cX4_pickFor 9 = .ok (.sipush 351, 3) := dk_17 1 95 (dk_at dksX4_pickFor_0 9 rfl rfl)
theorem dX4_pickFor_12 : decode cX4_pickFor 12 = .ok (.iaload, 1) := dk_46 (dk_at dksX4_pickFor_0 12 rfl rfl)
theorem dX4_pickFor_13 : decode cX4_pickFor 13 = .ok (.if_icmp .ge 68, 3) := dk_162 0 68 (dk_at dksX4_pickFor_0 13 rfl rfl)
theorem dX4_pickFor_16 : decode cX4_pickFor 16 = .ok (.aload_n 0, 1) := dk_42 (dk_at dksX4_pickFor_0 16 rfl rfl)
theorem dX4_pickFor_17 : decode cX4_pickFor 17 = .ok (.getfield 9, 3) := dk_180 0 9 (dk_at dksX4_pickFor_0 17 rfl rfl)
theorem dX4_pickFor_20 : decode cX4_pickFor 20 = .ok (.sipush 344, 3) := dk_17 1 88 (dk_at dksX4_pickFor_0 20 rfl rfl)
theorem dX4_pickFor_23 : decode cX4_pickFor 23 = .ok (.iload_n 3, 1) := dk_29 (dk_at dksX4_pickFor_0 23 rfl rfl)
theorem dX4_pickFor_24 : decode cX4_pickFor 24 = .ok (.iadd, 1) := dk_96 (dk_at dksX4_pickFor_1 0 rfl rfl)
theorem dX4_pickFor_25 : decode cX4_pickFor 25 = .ok (.iaload, 1) := dk_46 (dk_at dksX4_pickFor_1 1 rfl rfl)
theorem dX4_pickFor_26 : decode cX4_pickFor 26 = .ok (.iload_n 1, 1) := dk_27 (dk_at dksX4_pickFor_1 2 rfl rfl)
theorem dX4_pickFor_27 : decode cX4_pickFor 27 = .ok (.if_icmp .lt 7, 3) := dk_161 0 7 (dk_at dksX4_pickFor_1 3 rfl rfl)
theorem dX4_pickFor_30 : decode cX4_pickFor 30 = .ok (.iconst 1, 1) := dk_4 (dk_at dksX4_pickFor_1 6 rfl rfl)
theorem dX4_pickFor_31 : decode cX4_pickFor 31 = .ok (.goto 4, 3) := dk_167 0 4 (dk_at dksX4_pickFor_1 7 rfl rfl)
theorem dX4_pickFor_34 : decode cX4_pickFor 34 = .ok (.iconst 0, 1) := dk_3 (dk_at dksX4_pickFor_1 10 rfl rfl)
theorem dX4_pickFor_35 : decode cX4_pickFor 35 = .ok (.istore 4, 2) := dk_54 4 (dk_at dksX4_pickFor_1 11 rfl rfl)
theorem dX4_pickFor_37 : decode cX4_pickFor 37 = .ok (.iload 4, 2) := dk_21 4 (dk_at dksX4_pickFor_1 13 rfl rfl)
theorem dX4_pickFor_39 : decode cX4_pickFor 39 = .ok (.ifCond .eq 34, 3) := dk_153 0 34 (dk_at dksX4_pickFor_1 15 rfl rfl)
theorem dX4_pickFor_42 : decode cX4_pickFor 42 = .ok (.iload_n 2, 1) := dk_28 (dk_at dksX4_pickFor_1 18 rfl rfl)
theorem dX4_pickFor_43 : decode cX4_pickFor 43 = .ok (.ifCond .lt 26, 3) := dk_155 0 26 (dk_at dksX4_pickFor_1 19 rfl rfl)
theorem dX4_pickFor_46 : decode cX4_pickFor 46 = .ok (.aload_n 0, 1) := dk_42 (dk_at dksX4_pickFor_1 22 rfl rfl)
theorem dX4_pickFor_47 : decode cX4_pickFor 47 = .ok (.getfield 9, 3) := dk_180 0 9 (dk_at dksX4_pickFor_2 0 rfl rfl)
theorem dX4_pickFor_50 : decode cX4_pickFor 50 = .ok (.sipush 344, 3) := dk_17 1 88 (dk_at dksX4_pickFor_2 3 rfl rfl)
theorem dX4_pickFor_53 : decode cX4_pickFor 53 = .ok (.iload_n 3, 1) := dk_29 (dk_at dksX4_pickFor_2 6 rfl rfl)
theorem dX4_pickFor_54 : decode cX4_pickFor 54 = .ok (.iadd, 1) := dk_96 (dk_at dksX4_pickFor_2 7 rfl rfl)
theorem dX4_pickFor_55 : decode cX4_pickFor 55 = .ok (.iaload, 1) := dk_46 (dk_at dksX4_pickFor_2 8 rfl rfl)
theorem dX4_pickFor_56 : decode cX4_pickFor 56 = .ok (.aload_n 0, 1) := dk_42 (dk_at dksX4_pickFor_2 9 rfl rfl)
theorem dX4_pickFor_57 : decode cX4_pickFor 57 = .ok (.getfield 9, 3) := dk_180 0 9 (dk_at dksX4_pickFor_2 10 rfl rfl)
theorem dX4_pickFor_60 : decode cX4_pickFor 60 = .ok (.sipush 344, 3) := dk_17 1 88 (dk_at dksX4_pickFor_2 13 rfl rfl)
theorem dX4_pickFor_63 : decode cX4_pickFor 63 = .ok (.iload_n 2, 1) := dk_28 (dk_at dksX4_pickFor_2 16 rfl rfl)
theorem dX4_pickFor_64 : decode cX4_pickFor 64 = .ok (.iadd, 1) := dk_96 (dk_at dksX4_pickFor_2 17 rfl rfl)
theorem dX4_pickFor_65 : decode cX4_pickFor 65 = .ok (.iaload, 1) := dk_46 (dk_at dksX4_pickFor_2 18 rfl rfl)
theorem dX4_pickFor_66 : decode cX4_pickFor 66 = .ok (.if_icmp .ge 7, 3) := dk_162 0 7 (dk_at dksX4_pickFor_2 19 rfl rfl)
theorem dX4_pickFor_69 : decode cX4_pickFor 69 = .ok (.iload_n 3, 1) := dk_29 (dk_at dksX4_pickFor_2 22 rfl rfl)
theorem dX4_pickFor_70 : decode cX4_pickFor 70 = .ok (.goto 4, 3) := dk_167 0 4 (dk_at dksX4_pickFor_3 0 rfl rfl)
theorem dX4_pickFor_73 : decode cX4_pickFor 73 = .ok (.iload_n 2, 1) := dk_28 (dk_at dksX4_pickFor_3 3 rfl rfl)
theorem dX4_pickFor_74 : decode cX4_pickFor 74 = .ok (.istore_n 2, 1) := dk_61 (dk_at dksX4_pickFor_3 4 rfl rfl)
theorem dX4_pickFor_75 : decode cX4_pickFor 75 = .ok (.iinc 3 1, 3) := dk_132 3 1 (dk_at dksX4_pickFor_3 5 rfl rfl)
theorem dX4_pickFor_78 : decode cX4_pickFor 78 = .ok (.goto (-74), 3) := dk_167 255 182 (dk_at dksX4_pickFor_3 8 rfl rfl)
theorem dX4_pickFor_81 : decode cX4_pickFor 81 = .ok (.iload_n 2, 1) := dk_28 (dk_at dksX4_pickFor_3 11 rfl rfl)
theorem dX4_pickFor_82 : decode cX4_pickFor 82 = .ok (.ireturn, 1) := dk_172 (dk_at dksX4_pickFor_3 12 rfl rfl)
abbrev cX4_open : ByteArray := prog_24_method_36_code
def yX4_open : MethodName := ⟨RX4, "open", "(II)V"⟩
def dkwX4_open_2 : List UInt8 := [180, 0, 9, 17, 0, 128, 27, 96, 46, 96, 79, 42, 180, 0, 9, 17, 1, 97, 92, 46, 4, 96, 79, 177]
abbrev dktX4_open_2 : List UInt8 := dkwX4_open_2 ++ []
def dkwX4_open_1 : List UInt8 := [79, 42, 180, 0, 9, 17, 0, 192, 27, 96, 28, 79, 42, 180, 0, 9, 17, 1, 80, 28, 96, 92, 46, 42]
abbrev dktX4_open_1 : List UInt8 := dkwX4_open_1 ++ dktX4_open_2
def dkwX4_open_0 : List UInt8 := [42, 27, 182, 0, 109, 62, 42, 42, 29, 182, 0, 129, 29, 182, 0, 132, 42, 180, 0, 9, 3, 27, 96, 4]
abbrev dktX4_open_0 : List UInt8 := dkwX4_open_0 ++ dktX4_open_1
theorem dksX4_open_0 : cX4_open.data.toList.drop 0 = dktX4_open_0 := by decide +kernel
theorem dksX4_open_1 : cX4_open.data.toList.drop 24 = dktX4_open_1 := dk_seg dksX4_open_0 24 rfl rfl
theorem dksX4_open_2 : cX4_open.data.toList.drop 48 = dktX4_open_2 := dk_seg dksX4_open_1 24 rfl rfl
theorem dX4_open_0 : decode cX4_open 0 = .ok (.aload_n 0, 1) := dk_42 (dk_at dksX4_open_0 0 rfl rfl)
theorem dX4_open_1 : decode cX4_open 1 = .ok (.iload_n 1, 1) := dk_27 (dk_at dksX4_open_0 1 rfl rfl)
theorem dX4_open_2 : decode cX4_open 2 = .ok (.invokevirtual 109, 3) := dk_182 0 109 (dk_at dksX4_open_0 2 rfl rfl)
theorem dX4_open_5 : decode cX4_open 5 = .ok (.istore_n 3, 1) := dk_62 (dk_at dksX4_open_0 5 rfl rfl)
theorem dX4_open_6 : decode cX4_open 6 = .ok (.aload_n 0, 1) := dk_42 (dk_at dksX4_open_0 6 rfl rfl)
theorem dX4_open_7 : decode cX4_open 7 = .ok (.aload_n 0, 1) := dk_42 (dk_at dksX4_open_0 7 rfl rfl)
theorem dX4_open_8 : decode cX4_open 8 = .ok (.iload_n 3, 1) := dk_29 (dk_at dksX4_open_0 8 rfl rfl)
theorem dX4_open_9 : decode cX4_open 9 = .ok (.invokevirtual 129, 3) := dk_182 0 129 (dk_at dksX4_open_0 9 rfl rfl)
theorem dX4_open_12 : decode cX4_open 12 = .ok (.iload_n 3, 1) := dk_29 (dk_at dksX4_open_0 12 rfl rfl)
theorem dX4_open_13 : decode cX4_open 13 = .ok (.invokevirtual 132, 3) := dk_182 0 132 (dk_at dksX4_open_0 13 rfl rfl)
theorem dX4_open_16 : decode cX4_open 16 = .ok (.aload_n 0, 1) := dk_42 (dk_at dksX4_open_0 16 rfl rfl)
theorem dX4_open_17 : decode cX4_open 17 = .ok (.getfield 9, 3) := dk_180 0 9 (dk_at dksX4_open_0 17 rfl rfl)
theorem dX4_open_20 : decode cX4_open 20 = .ok (.iconst 0, 1) := dk_3 (dk_at dksX4_open_0 20 rfl rfl)
theorem dX4_open_21 : decode cX4_open 21 = .ok (.iload_n 1, 1) := dk_27 (dk_at dksX4_open_0 21 rfl rfl)
theorem dX4_open_22 : decode cX4_open 22 = .ok (.iadd, 1) := dk_96 (dk_at dksX4_open_0 22 rfl rfl)
theorem dX4_open_23 : decode cX4_open 23 = .ok (.iconst 1, 1) := dk_4 (dk_at dksX4_open_0 23 rfl rfl)
theorem dX4_open_24 : decode cX4_open 24 = .ok (.iastore, 1) := dk_79 (dk_at dksX4_open_1 0 rfl rfl)
theorem dX4_open_25 : decode cX4_open 25 = .ok (.aload_n 0, 1) := dk_42 (dk_at dksX4_open_1 1 rfl rfl)
theorem dX4_open_26 : decode cX4_open 26 = .ok (.getfield 9, 3) := dk_180 0 9 (dk_at dksX4_open_1 2 rfl rfl)
theorem dX4_open_29 : decode cX4_open 29 = .ok (.sipush 192, 3) := dk_17 0 192 (dk_at dksX4_open_1 5 rfl rfl)
theorem dX4_open_32 : decode cX4_open 32 = .ok (.iload_n 1, 1) := dk_27 (dk_at dksX4_open_1 8 rfl rfl)
theorem dX4_open_33 : decode cX4_open 33 = .ok (.iadd, 1) := dk_96 (dk_at dksX4_open_1 9 rfl rfl)
theorem dX4_open_34 : decode cX4_open 34 = .ok (.iload_n 2, 1) := dk_28 (dk_at dksX4_open_1 10 rfl rfl)
theorem dX4_open_35 : decode cX4_open 35 = .ok (.iastore, 1) := dk_79 (dk_at dksX4_open_1 11 rfl rfl)
theorem dX4_open_36 : decode cX4_open 36 = .ok (.aload_n 0, 1) := dk_42 (dk_at dksX4_open_1 12 rfl rfl)
theorem dX4_open_37 : decode cX4_open 37 = .ok (.getfield 9, 3) := dk_180 0 9 (dk_at dksX4_open_1 13 rfl rfl)
theorem dX4_open_40 : decode cX4_open 40 = .ok (.sipush 336, 3) := dk_17 1 80 (dk_at dksX4_open_1 16 rfl rfl)
theorem dX4_open_43 : decode cX4_open 43 = .ok (.iload_n 2, 1) := dk_28 (dk_at dksX4_open_1 19 rfl rfl)
theorem dX4_open_44 : decode cX4_open 44 = .ok (.iadd, 1) := dk_96 (dk_at dksX4_open_1 20 rfl rfl)
theorem dX4_open_45 : decode cX4_open 45 = .ok (.dup2, 1) := dk_92 (dk_at dksX4_open_1 21 rfl rfl)
theorem dX4_open_46 : decode cX4_open 46 = .ok (.iaload, 1) := dk_46 (dk_at dksX4_open_1 22 rfl rfl)
theorem dX4_open_47 : decode cX4_open 47 = .ok (.aload_n 0, 1) := dk_42 (dk_at dksX4_open_1 23 rfl rfl)
theorem dX4_open_48 : decode cX4_open 48 = .ok (.getfield 9, 3) := dk_180 0 9 (dk_at dksX4_open_2 0 rfl rfl)
theorem dX4_open_51 : decode cX4_open 51 = .ok (.sipush 128, 3) := dk_17 0 128 (dk_at dksX4_open_2 3 rfl rfl)
theorem dX4_open_54 : decode cX4_open 54 = .ok (.iload_n 1, 1) := dk_27 (dk_at dksX4_open_2 6 rfl rfl)
theorem dX4_open_55 : decode cX4_open 55 = .ok (.iadd, 1) := dk_96 (dk_at dksX4_open_2 7 rfl rfl)
theorem dX4_open_56 : decode cX4_open 56 = .ok (.iaload, 1) := dk_46 (dk_at dksX4_open_2 8 rfl rfl)
theorem dX4_open_57 : decode cX4_open 57 = .ok (.iadd, 1) := dk_96 (dk_at dksX4_open_2 9 rfl rfl)
theorem dX4_open_58 : decode cX4_open 58 = .ok (.iastore, 1) := dk_79 (dk_at dksX4_open_2 10 rfl rfl)
theorem dX4_open_59 : decode cX4_open 59 = .ok (.aload_n 0, 1) := dk_42 (dk_at dksX4_open_2 11 rfl rfl)
theorem dX4_open_60 : decode cX4_open 60 = .ok (.getfield 9, 3) := dk_180 0 9 (dk_at dksX4_open_2 12 rfl rfl)
theorem dX4_open_63 : decode cX4_open 63 = .ok (.sipush 353, 3) := dk_17 1 97 (dk_at dksX4_open_2 15 rfl rfl)
theorem dX4_open_66 : decode cX4_open 66 = .ok (.dup2, 1) := dk_92 (dk_at dksX4_open_2 18 rfl rfl)
theorem dX4_open_67 : decode cX4_open 67 = .ok (.iaload, 1) := dk_46 (dk_at dksX4_open_2 19 rfl rfl)
theorem dX4_open_68 : decode cX4_open 68 = .ok (.iconst 1, 1) := dk_4 (dk_at dksX4_open_2 20 rfl rfl)
theorem dX4_open_69 : decode cX4_open 69 = .ok (.iadd, 1) := dk_96 (dk_at dksX4_open_2 21 rfl rfl)
theorem dX4_open_70 : decode cX4_open 70 = .ok (.iastore, 1) := dk_79 (dk_at dksX4_open_2 22 rfl rfl)
theorem dX4_open_71 : decode cX4_open 71 = .ok (.return_, 1) := dk_177 (dk_at dksX4_open_2 23 rfl rfl)
abbrev cX4_strike : ByteArray := prog_24_method_30_code
def yX4_strike : MethodName := ⟨RX4, "strike", "(II)V"⟩
def dkwX4_strike_4 : List UInt8 := [180, 0, 9, 17, 1, 88, 42, 180, 0, 9, 17, 1, 95, 46, 96, 3, 79, 177]
abbrev dktX4_strike_4 : List UInt8 := dkwX4_strike_4 ++ []
def dkwX4_strike_3 : List UInt8 := [29, 96, 42, 180, 0, 9, 17, 1, 88, 29, 96, 4, 96, 46, 79, 132, 3, 1, 167, 255, 219, 42]
abbrev dktX4_strike_3 : List UInt8 := dkwX4_strike_3 ++ dktX4_strike_4
def dkwX4_strike_2 : List UInt8 := [4, 100, 79, 27, 62, 29, 42, 180, 0, 9, 17, 1, 95, 46, 162, 0, 31, 42, 180, 0, 9, 17, 1, 88]
abbrev dktX4_strike_2 : List UInt8 := dkwX4_strike_2 ++ dktX4_strike_3
def dkwX4_strike_1 : List UInt8 := [100, 79, 42, 180, 0, 9, 17, 1, 88, 27, 96, 46, 154, 0, 75, 42, 180, 0, 9, 17, 1, 95, 92, 46]
abbrev dktX4_strike_1 : List UInt8 := dkwX4_strike_1 ++ dktX4_strike_2
def dkwX4_strike_0 : List UInt8 := [42, 180, 0, 9, 17, 1, 98, 92, 46, 28, 96, 79, 42, 180, 0, 9, 17, 1, 88, 27, 96, 92, 46, 28]
abbrev dktX4_strike_0 : List UInt8 := dkwX4_strike_0 ++ dktX4_strike_1
theorem dksX4_strike_0 : cX4_strike.data.toList.drop 0 = dktX4_strike_0 := by decide +kernel
theorem dksX4_strike_1 : cX4_strike.data.toList.drop 24 = dktX4_strike_1 := dk_seg dksX4_strike_0 24 rfl rfl
theorem dksX4_strike_2 : cX4_strike.data.toList.drop 48 = dktX4_strike_2 := dk_seg dksX4_strike_1 24 rfl rfl
theorem dksX4_strike_3 : cX4_strike.data.toList.drop 72 = dktX4_strike_3 := dk_seg dksX4_strike_2 24 rfl rfl
theorem dksX4_strike_4 : cX4_strike.data.toList.drop 94 = dktX4_strike_4 := dk_seg dksX4_strike_3 22 rfl rfl
theorem dX4_strike_0 : decode cX4_strike 0 = .ok (.aload_n 0, 1) := dk_42 (dk_at dksX4_strike_0 0 rfl rfl)
theorem dX4_strike_1 : decode cX4_strike 1 = .ok (.getfield 9, 3) := dk_180 0 9 (dk_at dksX4_strike_0 1 rfl rfl)
theorem dX4_strike_4 : decode cX4_strike 4 = .ok (.sipush 354, 3) := dk_17 1 98 (dk_at dksX4_strike_0 4 rfl rfl)
theorem dX4_strike_7 : decode cX4_strike 7 = .ok (.dup2, 1) := dk_92 (dk_at dksX4_strike_0 7 rfl rfl)
theorem dX4_strike_8 : decode cX4_strike 8 = .ok (.iaload, 1) := dk_46 (dk_at dksX4_strike_0 8 rfl rfl)
theorem dX4_strike_9 : decode cX4_strike 9 = .ok (.iload_n 2, 1) := dk_28 (dk_at dksX4_strike_0 9 rfl rfl)
theorem dX4_strike_10 : decode cX4_strike 10 = .ok (.iadd, 1) := dk_96 (dk_at dksX4_strike_0 10 rfl rfl)
theorem dX4_strike_11 : decode cX4_strike 11 = .ok (.iastore, 1) := dk_79 (dk_at dksX4_strike_0 11 rfl rfl)
theorem dX4_strike_12 : decode cX4_strike 12 = .ok (.aload_n 0, 1) := dk_42 (dk_at dksX4_strike_0 12 rfl rfl)
theorem dX4_strike_13 : decode cX4_strike 13 = .ok (.getfield 9, 3) := dk_180 0 9 (dk_at dksX4_strike_0 13 rfl rfl)
theorem dX4_strike_16 : decode cX4_strike 16 = .ok (.sipush 344, 3) := dk_17 1 88 (dk_at dksX4_strike_0 16 rfl rfl)
theorem dX4_strike_19 : decode cX4_strike 19 = .ok (.iload_n 1, 1) := dk_27 (dk_at dksX4_strike_0 19 rfl rfl)
theorem dX4_strike_20 : decode cX4_strike 20 = .ok (.iadd, 1) := dk_96 (dk_at dksX4_strike_0 20 rfl rfl)
theorem dX4_strike_21 : decode cX4_strike 21 = .ok (.dup2, 1) := dk_92 (dk_at dksX4_strike_0 21 rfl rfl)
theorem dX4_strike_22 : decode cX4_strike 22 = .ok (.iaload, 1) := dk_46 (dk_at dksX4_strike_0 22 rfl rfl)
theorem dX4_strike_23 : decode cX4_strike 23 = .ok (.iload_n 2, 1) := dk_28 (dk_at dksX4_strike_0 23 rfl rfl)
theorem dX4_strike_24 : decode cX4_strike 24 = .ok (.isub, 1) := dk_100 (dk_at dksX4_strike_1 0 rfl rfl)
theorem dX4_strike_25 : decode cX4_strike 25 = .ok (.iastore, 1) := dk_79 (dk_at dksX4_strike_1 1 rfl rfl)
theorem dX4_strike_26 : decode cX4_strike 26 = .ok (.aload_n 0, 1) := dk_42 (dk_at dksX4_strike_1 2 rfl rfl)
theorem dX4_strike_27 : decode cX4_strike 27 = .ok (.getfield 9, 3) := dk_180 0 9 (dk_at dksX4_strike_1 3 rfl rfl)
theorem dX4_strike_30 : decode cX4_strike 30 = .ok (.sipush 344, 3) := dk_17 1 88 (dk_at dksX4_strike_1 6 rfl rfl)
theorem dX4_strike_33 : decode cX4_strike 33 = .ok (.iload_n 1, 1) := dk_27 (dk_at dksX4_strike_1 9 rfl rfl)
theorem dX4_strike_34 : decode cX4_strike 34 = .ok (.iadd, 1) := dk_96 (dk_at dksX4_strike_1 10 rfl rfl)
theorem dX4_strike_35 : decode cX4_strike 35 = .ok (.iaload, 1) := dk_46 (dk_at dksX4_strike_1 11 rfl rfl)
theorem dX4_strike_36 : decode cX4_strike 36 = .ok (.ifCond .ne 75, 3) := dk_154 0 75 (dk_at dksX4_strike_1 12 rfl rfl)
theorem dX4_strike_39 : decode cX4_strike 39 = .ok (.aload_n 0, 1) := dk_42 (dk_at dksX4_strike_1 15 rfl rfl)
theorem dX4_strike_40 : decode cX4_strike 40 = .ok (.getfield 9, 3) := dk_180 0 9 (dk_at dksX4_strike_1 16 rfl rfl)
theorem dX4_strike_43 : decode cX4_strike 43 = .ok (.sipush 351, 3) := dk_17 1 95 (dk_at dksX4_strike_1 19 rfl rfl)
theorem dX4_strike_46 : decode cX4_strike 46 = .ok (.dup2, 1) := dk_92 (dk_at dksX4_strike_1 22 rfl rfl)
theorem dX4_strike_47 : decode cX4_strike 47 = .ok (.iaload, 1) := dk_46 (dk_at dksX4_strike_1 23 rfl rfl)
theorem dX4_strike_48 : decode cX4_strike 48 = .ok (.iconst 1, 1) := dk_4 (dk_at dksX4_strike_2 0 rfl rfl)
theorem dX4_strike_49 : decode cX4_strike 49 = .ok (.isub, 1) := dk_100 (dk_at dksX4_strike_2 1 rfl rfl)
theorem dX4_strike_50 : decode cX4_strike 50 = .ok (.iastore, 1) := dk_79 (dk_at dksX4_strike_2 2 rfl rfl)
theorem dX4_strike_51 : decode cX4_strike 51 = .ok (.iload_n 1, 1) := dk_27 (dk_at dksX4_strike_2 3 rfl rfl)
theorem dX4_strike_52 : decode cX4_strike 52 = .ok (.istore_n 3, 1) := dk_62 (dk_at dksX4_strike_2 4 rfl rfl)
theorem dX4_strike_53 : decode cX4_strike 53 = .ok (.iload_n 3, 1) := dk_29 (dk_at dksX4_strike_2 5 rfl rfl)
theorem dX4_strike_54 : decode cX4_strike 54 = .ok (.aload_n 0, 1) := dk_42 (dk_at dksX4_strike_2 6 rfl rfl)
theorem dX4_strike_55 : decode cX4_strike 55 = .ok (.getfield 9, 3) := dk_180 0 9 (dk_at dksX4_strike_2 7 rfl rfl)
theorem dX4_strike_58 : decode cX4_strike 58 = .ok (.sipush 351, 3) := dk_17 1 95 (dk_at dksX4_strike_2 10 rfl rfl)
theorem dX4_strike_61 : decode cX4_strike 61 = .ok (.iaload, 1) := dk_46 (dk_at dksX4_strike_2 13 rfl rfl)
theorem dX4_strike_62 : decode cX4_strike 62 = .ok (.if_icmp .ge 31, 3) := dk_162 0 31 (dk_at dksX4_strike_2 14 rfl rfl)
theorem dX4_strike_65 : decode cX4_strike 65 = .ok (.aload_n 0, 1) := dk_42 (dk_at dksX4_strike_2 17 rfl rfl)
theorem dX4_strike_66 : decode cX4_strike 66 = .ok (.getfield 9, 3) := dk_180 0 9 (dk_at dksX4_strike_2 18 rfl rfl)
theorem dX4_strike_69 : decode cX4_strike 69 = .ok (.sipush 344, 3) := dk_17 1 88 (dk_at dksX4_strike_2 21 rfl rfl)
theorem dX4_strike_72 : decode cX4_strike 72 = .ok (.iload_n 3, 1) := dk_29 (dk_at dksX4_strike_3 0 rfl rfl)
theorem dX4_strike_73 : decode cX4_strike 73 = .ok (.iadd, 1) := dk_96 (dk_at dksX4_strike_3 1 rfl rfl)
theorem dX4_strike_74 : decode cX4_strike 74 = .ok (.aload_n 0, 1) := dk_42 (dk_at dksX4_strike_3 2 rfl rfl)
theorem dX4_strike_75 : decode cX4_strike 75 = .ok (.getfield 9, 3) := dk_180 0 9 (dk_at dksX4_strike_3 3 rfl rfl)
theorem dX4_strike_78 : decode cX4_strike 78 = .ok (.sipush 344, 3) := dk_17 1 88 (dk_at dksX4_strike_3 6 rfl rfl)
theorem dX4_strike_81 : decode cX4_strike 81 = .ok (.iload_n 3, 1) := dk_29 (dk_at dksX4_strike_3 9 rfl rfl)
theorem dX4_strike_82 : decode cX4_strike 82 = .ok (.iadd, 1) := dk_96 (dk_at dksX4_strike_3 10 rfl rfl)
theorem dX4_strike_83 : decode cX4_strike 83 = .ok (.iconst 1, 1) := dk_4 (dk_at dksX4_strike_3 11 rfl rfl)
theorem dX4_strike_84 : decode cX4_strike 84 = .ok (.iadd, 1) := dk_96 (dk_at dksX4_strike_3 12 rfl rfl)
theorem dX4_strike_85 : decode cX4_strike 85 = .ok (.iaload, 1) := dk_46 (dk_at dksX4_strike_3 13 rfl rfl)
theorem dX4_strike_86 : decode cX4_strike 86 = .ok (.iastore, 1) := dk_79 (dk_at dksX4_strike_3 14 rfl rfl)
theorem dX4_strike_87 : decode cX4_strike 87 = .ok (.iinc 3 1, 3) := dk_132 3 1 (dk_at dksX4_strike_3 15 rfl rfl)
theorem dX4_strike_90 : decode cX4_strike 90 = .ok (.goto (-37), 3) := dk_167 255 219 (dk_at dksX4_strike_3 18 rfl rfl)
theorem dX4_strike_93 : decode cX4_strike 93 = .ok (.aload_n 0, 1) := dk_42 (dk_at dksX4_strike_3 21 rfl rfl)
theorem dX4_strike_94 : decode cX4_strike 94 = .ok (.getfield 9, 3) := dk_180 0 9 (dk_at dksX4_strike_4 0 rfl rfl)
theorem dX4_strike_97 : decode cX4_strike 97 = .ok (.sipush 344, 3) := dk_17 1 88 (dk_at dksX4_strike_4 3 rfl rfl)
theorem dX4_strike_100 : decode cX4_strike 100 = .ok (.aload_n 0, 1) := dk_42 (dk_at dksX4_strike_4 6 rfl rfl)
theorem dX4_strike_101 : decode cX4_strike 101 = .ok (.getfield 9, 3) := dk_180 0 9 (dk_at dksX4_strike_4 7 rfl rfl)
theorem dX4_strike_104 : decode cX4_strike 104 = .ok (.sipush 351, 3) := dk_17 1 95 (dk_at dksX4_strike_4 10 rfl rfl)
theorem dX4_strike_107 : decode cX4_strike 107 = .ok (.iaload, 1) := dk_46 (dk_at dksX4_strike_4 13 rfl rfl)
theorem dX4_strike_108 : decode cX4_strike 108 = .ok (.iadd, 1) := dk_96 (dk_at dksX4_strike_4 14 rfl rfl)
theorem dX4_strike_109 : decode cX4_strike 109 = .ok (.iconst 0, 1) := dk_3 (dk_at dksX4_strike_4 15 rfl rfl)
theorem dX4_strike_110 : decode cX4_strike 110 = .ok (.iastore, 1) := dk_79 (dk_at dksX4_strike_4 16 rfl rfl)
theorem dX4_strike_111 : decode cX4_strike 111 = .ok (.return_, 1) := dk_177 (dk_at dksX4_strike_4 17 rfl rfl)
abbrev cX4_dig : ByteArray := prog_24_method_42_code
def yX4_dig : MethodName := ⟨RX4, "dig", "(IIZ)I"⟩
def dkwX4_dig_4 : List UInt8 := [79, 42, 180, 0, 9, 17, 0, 128, 28, 96, 46, 172]
abbrev dktX4_dig_4 : List UInt8 := dkwX4_dig_4 ++ []
def dkwX4_dig_3 : List UInt8 := [167, 0, 4, 3, 79, 42, 180, 0, 9, 17, 1, 96, 92, 46, 29, 153, 0, 7, 4, 167, 0, 4, 3, 100]
abbrev dktX4_dig_3 : List UInt8 := dkwX4_dig_3 ++ dktX4_dig_4
def dkwX4_dig_2 : List UInt8 := [182, 0, 116, 42, 28, 27, 182, 0, 142, 42, 180, 0, 9, 17, 1, 0, 28, 96, 29, 153, 0, 7, 4]
abbrev dktX4_dig_2 : List UInt8 := dkwX4_dig_2 ++ dktX4_dig_3
def dkwX4_dig_1 : List UInt8 := [182, 0, 98, 154, 0, 18, 42, 5, 42, 27, 28, 29, 182, 0, 151, 182, 0, 98, 153, 0, 5, 3, 172, 42]
abbrev dktX4_dig_1 : List UInt8 := dkwX4_dig_1 ++ dktX4_dig_2
def dkwX4_dig_0 : List UInt8 := [42, 4, 42, 27, 182, 0, 148, 153, 0, 10, 28, 184, 0, 95, 154, 0, 7, 4, 167, 0, 4, 3]
abbrev dktX4_dig_0 : List UInt8 := dkwX4_dig_0 ++ dktX4_dig_1
theorem dksX4_dig_0 : cX4_dig.data.toList.drop 0 = dktX4_dig_0 := by decide +kernel
theorem dksX4_dig_1 : cX4_dig.data.toList.drop 22 = dktX4_dig_1 := dk_seg dksX4_dig_0 22 rfl rfl
theorem dksX4_dig_2 : cX4_dig.data.toList.drop 46 = dktX4_dig_2 := dk_seg dksX4_dig_1 24 rfl rfl
theorem dksX4_dig_3 : cX4_dig.data.toList.drop 69 = dktX4_dig_3 := dk_seg dksX4_dig_2 23 rfl rfl
theorem dksX4_dig_4 : cX4_dig.data.toList.drop 93 = dktX4_dig_4 := dk_seg dksX4_dig_3 24 rfl rfl
theorem dX4_dig_0 : decode cX4_dig 0 = .ok (.aload_n 0, 1) := dk_42 (dk_at dksX4_dig_0 0 rfl rfl)
theorem dX4_dig_1 : decode cX4_dig 1 = .ok (.iconst 1, 1) := dk_4 (dk_at dksX4_dig_0 1 rfl rfl)
theorem dX4_dig_2 : decode cX4_dig 2 = .ok (.aload_n 0, 1) := dk_42 (dk_at dksX4_dig_0 2 rfl rfl)
theorem dX4_dig_3 : decode cX4_dig 3 = .ok (.iload_n 1, 1) := dk_27 (dk_at dksX4_dig_0 3 rfl rfl)
theorem dX4_dig_4 : decode cX4_dig 4 = .ok (.invokevirtual 148, 3) := dk_182 0 148 (dk_at dksX4_dig_0 4 rfl rfl)
theorem dX4_dig_7 : decode cX4_dig 7 = .ok (.ifCond .eq 10, 3) := dk_153 0 10 (dk_at dksX4_dig_0 7 rfl rfl)
theorem dX4_dig_10 : decode cX4_dig 10 = .ok (.iload_n 2, 1) := dk_28 (dk_at dksX4_dig_0 10 rfl rfl)
theorem dX4_dig_11 : decode cX4_dig 11 = .ok (.invokestatic 95, 3) := dk_184 0 95 (dk_at dksX4_dig_0 11 rfl rfl)
theorem dX4_dig_14 : decode cX4_dig 14 = .ok (.ifCond .ne 7, 3) := dk_154 0 7 (dk_at dksX4_dig_0 14 rfl rfl)
theorem dX4_dig_17 : decode cX4_dig 17 = .ok (.iconst 1, 1) := dk_4 (dk_at dksX4_dig_0 17 rfl rfl)
theorem dX4_dig_18 : decode cX4_dig 18 = .ok (.goto 4, 3) := dk_167 0 4 (dk_at dksX4_dig_0 18 rfl rfl)
theorem dX4_dig_21 : decode cX4_dig 21 = .ok (.iconst 0, 1) := dk_3 (dk_at dksX4_dig_0 21 rfl rfl)
theorem dX4_dig_22 : decode cX4_dig 22 = .ok (.invokevirtual 98, 3) := dk_182 0 98 (dk_at dksX4_dig_1 0 rfl rfl)
theorem dX4_dig_25 : decode cX4_dig 25 = .ok (.ifCond .ne 18, 3) := dk_154 0 18 (dk_at dksX4_dig_1 3 rfl rfl)
theorem dX4_dig_28 : decode cX4_dig 28 = .ok (.aload_n 0, 1) := dk_42 (dk_at dksX4_dig_1 6 rfl rfl)
theorem dX4_dig_29 : decode cX4_dig 29 = .ok (.iconst 2, 1) := dk_5 (dk_at dksX4_dig_1 7 rfl rfl)
theorem dX4_dig_30 : decode cX4_dig 30 = .ok (.aload_n 0, 1) := dk_42 (dk_at dksX4_dig_1 8 rfl rfl)
theorem dX4_dig_31 : decode cX4_dig 31 = .ok (.iload_n 1, 1) := dk_27 (dk_at dksX4_dig_1 9 rfl rfl)
theorem dX4_dig_32 : decode cX4_dig 32 = .ok (.iload_n 2, 1) := dk_28 (dk_at dksX4_dig_1 10 rfl rfl)
theorem dX4_dig_33 : decode cX4_dig 33 = .ok (.iload_n 3, 1) := dk_29 (dk_at dksX4_dig_1 11 rfl rfl)
theorem dX4_dig_34 : decode cX4_dig 34 = .ok (.invokevirtual 151, 3) := dk_182 0 151 (dk_at dksX4_dig_1 12 rfl rfl)
theorem dX4_dig_37 : decode cX4_dig 37 = .ok (.invokevirtual 98, 3) := dk_182 0 98 (dk_at dksX4_dig_1 15 rfl rfl)
theorem dX4_dig_40 : decode cX4_dig 40 = .ok (.ifCond .eq 5, 3) := dk_153 0 5 (dk_at dksX4_dig_1 18 rfl rfl)
theorem dX4_dig_43 : decode cX4_dig 43 = .ok (.iconst 0, 1) := dk_3 (dk_at dksX4_dig_1 21 rfl rfl)
theorem dX4_dig_44 : decode cX4_dig 44 = .ok (.ireturn, 1) := dk_172 (dk_at dksX4_dig_1 22 rfl rfl)
theorem dX4_dig_45 : decode cX4_dig 45 = .ok (.aload_n 0, 1) := dk_42 (dk_at dksX4_dig_1 23 rfl rfl)
theorem dX4_dig_46 : decode cX4_dig 46 = .ok (.invokevirtual 116, 3) := dk_182 0 116 (dk_at dksX4_dig_2 0 rfl rfl)
theorem dX4_dig_49 : decode cX4_dig 49 = .ok (.aload_n 0, 1) := dk_42 (dk_at dksX4_dig_2 3 rfl rfl)
theorem dX4_dig_50 : decode cX4_dig 50 = .ok (.iload_n 2, 1) := dk_28 (dk_at dksX4_dig_2 4 rfl rfl)
theorem dX4_dig_51 : decode cX4_dig 51 = .ok (.iload_n 1, 1) := dk_27 (dk_at dksX4_dig_2 5 rfl rfl)
theorem dX4_dig_52 : decode cX4_dig 52 = .ok (.invokevirtual 142, 3) := dk_182 0 142 (dk_at dksX4_dig_2 6 rfl rfl)
theorem dX4_dig_55 : decode cX4_dig 55 = .ok (.aload_n 0, 1) := dk_42 (dk_at dksX4_dig_2 9 rfl rfl)
theorem dX4_dig_56 : decode cX4_dig 56 = .ok (.getfield 9, 3) := dk_180 0 9 (dk_at dksX4_dig_2 10 rfl rfl)
theorem dX4_dig_59 : decode cX4_dig 59 = .ok (.sipush 256, 3) := dk_17 1 0 (dk_at dksX4_dig_2 13 rfl rfl)
theorem dX4_dig_62 : decode cX4_dig 62 = .ok (.iload_n 2, 1) := dk_28 (dk_at dksX4_dig_2 16 rfl rfl)
theorem dX4_dig_63 : decode cX4_dig 63 = .ok (.iadd, 1) := dk_96 (dk_at dksX4_dig_2 17 rfl rfl)
theorem dX4_dig_64 : decode cX4_dig 64 = .ok (.iload_n 3, 1) := dk_29 (dk_at dksX4_dig_2 18 rfl rfl)
theorem dX4_dig_65 : decode cX4_dig 65 = .ok (.ifCond .eq 7, 3) := dk_153 0 7 (dk_at dksX4_dig_2 19 rfl rfl)
theorem dX4_dig_68 : decode cX4_dig 68 = .ok (.iconst 1, 1) := dk_4 (dk_at dksX4_dig_2 22 rfl rfl)
theorem dX4_dig_69 : decode cX4_dig 69 = .ok (.goto 4, 3) := dk_167 0 4 (dk_at dksX4_dig_3 0 rfl rfl)
theorem dX4_dig_72 : decode cX4_dig 72 = .ok (.iconst 0, 1) := dk_3 (dk_at dksX4_dig_3 3 rfl rfl)
theorem dX4_dig_73 : decode cX4_dig 73 = .ok (.iastore, 1) := dk_79 (dk_at dksX4_dig_3 4 rfl rfl)
theorem dX4_dig_74 : decode cX4_dig 74 = .ok (.aload_n 0, 1) := dk_42 (dk_at dksX4_dig_3 5 rfl rfl)
theorem dX4_dig_75 : decode cX4_dig 75 = .ok (.getfield 9, 3) := dk_180 0 9 (dk_at dksX4_dig_3 6 rfl rfl)
theorem dX4_dig_78 : decode cX4_dig 78 = .ok (.sipush 352, 3) := dk_17 1 96 (dk_at dksX4_dig_3 9 rfl rfl)
theorem dX4_dig_81 : decode cX4_dig 81 = .ok (.dup2, 1) := dk_92 (dk_at dksX4_dig_3 12 rfl rfl)
theorem dX4_dig_82 : decode cX4_dig 82 = .ok (.iaload, 1) := dk_46 (dk_at dksX4_dig_3 13 rfl rfl)
theorem dX4_dig_83 : decode cX4_dig 83 = .ok (.iload_n 3, 1) := dk_29 (dk_at dksX4_dig_3 14 rfl rfl)
theorem dX4_dig_84 : decode cX4_dig 84 = .ok (.ifCond .eq 7, 3) := dk_153 0 7 (dk_at dksX4_dig_3 15 rfl rfl)
theorem dX4_dig_87 : decode cX4_dig 87 = .ok (.iconst 1, 1) := dk_4 (dk_at dksX4_dig_3 18 rfl rfl)
theorem dX4_dig_88 : decode cX4_dig 88 = .ok (.goto 4, 3) := dk_167 0 4 (dk_at dksX4_dig_3 19 rfl rfl)
theorem dX4_dig_91 : decode cX4_dig 91 = .ok (.iconst 0, 1) := dk_3 (dk_at dksX4_dig_3 22 rfl rfl)
theorem dX4_dig_92 : decode cX4_dig 92 = .ok (.isub, 1) := dk_100 (dk_at dksX4_dig_3 23 rfl rfl)
theorem dX4_dig_93 : decode cX4_dig 93 = .ok (.iastore, 1) := dk_79 (dk_at dksX4_dig_4 0 rfl rfl)
theorem dX4_dig_94 : decode cX4_dig 94 = .ok (.aload_n 0, 1) := dk_42 (dk_at dksX4_dig_4 1 rfl rfl)
theorem dX4_dig_95 : decode cX4_dig 95 = .ok (.getfield 9, 3) := dk_180 0 9 (dk_at dksX4_dig_4 2 rfl rfl)
theorem dX4_dig_98 : decode cX4_dig 98 = .ok (.sipush 128, 3) := dk_17 0 128 (dk_at dksX4_dig_4 5 rfl rfl)
theorem dX4_dig_101 : decode cX4_dig 101 = .ok (.iload_n 2, 1) := dk_28 (dk_at dksX4_dig_4 8 rfl rfl)
theorem dX4_dig_102 : decode cX4_dig 102 = .ok (.iadd, 1) := dk_96 (dk_at dksX4_dig_4 9 rfl rfl)
theorem dX4_dig_103 : decode cX4_dig 103 = .ok (.iaload, 1) := dk_46 (dk_at dksX4_dig_4 10 rfl rfl)
theorem dX4_dig_104 : decode cX4_dig 104 = .ok (.ireturn, 1) := dk_172 (dk_at dksX4_dig_4 11 rfl rfl)
abbrev cX4_isShaft : ByteArray := prog_24_method_35_code
def yX4_isShaft : MethodName := ⟨RX4, "isShaft", "(I)Z"⟩
def dkwX4_isShaft_0 : List UInt8 := [27, 3, 42, 180, 0, 9, 17, 1, 94, 46, 4, 100, 184, 0, 62, 172]
abbrev dktX4_isShaft_0 : List UInt8 := dkwX4_isShaft_0 ++ []
theorem dksX4_isShaft_0 : cX4_isShaft.data.toList.drop 0 = dktX4_isShaft_0 := by decide +kernel
theorem dX4_isShaft_0 : decode cX4_isShaft 0 = .ok (.iload_n 1, 1) := dk_27 (dk_at dksX4_isShaft_0 0 rfl rfl)
theorem dX4_isShaft_1 : decode cX4_isShaft 1 = .ok (.iconst 0, 1) := dk_3 (dk_at dksX4_isShaft_0 1 rfl rfl)
theorem dX4_isShaft_2 : decode cX4_isShaft 2 = .ok (.aload_n 0, 1) := dk_42 (dk_at dksX4_isShaft_0 2 rfl rfl)
theorem dX4_isShaft_3 : decode cX4_isShaft 3 = .ok (.getfield 9, 3) := dk_180 0 9 (dk_at dksX4_isShaft_0 3 rfl rfl)
theorem dX4_isShaft_6 : decode cX4_isShaft 6 = .ok (.sipush 350, 3) := dk_17 1 94 (dk_at dksX4_isShaft_0 6 rfl rfl)
theorem dX4_isShaft_9 : decode cX4_isShaft 9 = .ok (.iaload, 1) := dk_46 (dk_at dksX4_isShaft_0 9 rfl rfl)
theorem dX4_isShaft_10 : decode cX4_isShaft 10 = .ok (.iconst 1, 1) := dk_4 (dk_at dksX4_isShaft_0 10 rfl rfl)
theorem dX4_isShaft_11 : decode cX4_isShaft 11 = .ok (.isub, 1) := dk_100 (dk_at dksX4_isShaft_0 11 rfl rfl)
theorem dX4_isShaft_12 : decode cX4_isShaft 12 = .ok (.invokestatic 62, 3) := dk_184 0 62 (dk_at dksX4_isShaft_0 12 rfl rfl)
theorem dX4_isShaft_15 : decode cX4_isShaft 15 = .ok (.ireturn, 1) := dk_172 (dk_at dksX4_isShaft_0 15 rfl rfl)
abbrev cX4_isDigRefused : ByteArray := prog_24_method_41_code
def yX4_isDigRefused : MethodName := ⟨RX4, "isDigRefused", "(IIZ)Z"⟩
def dkwX4_isDigRefused_6 : List UInt8 := [3, 172]
abbrev dktX4_isDigRefused_6 : List UInt8 := dkwX4_isDigRefused_6 ++ []
def dkwX4_isDigRefused_5 : List UInt8 := [29, 154, 0, 11, 42, 28, 182, 0, 145, 154, 0, 11, 42, 28, 182, 0, 139, 153, 0, 7, 4, 167, 0, 4]
abbrev dktX4_isDigRefused_5 : List UInt8 := dkwX4_isDigRefused_5 ++ dktX4_isDigRefused_6
def dkwX4_isDigRefused_4 : List UInt8 := [180, 0, 9, 17, 1, 96, 46, 154, 0, 7, 4, 167, 0, 4, 3, 16, 7, 3, 182, 0, 105, 154, 0, 23]
abbrev dktX4_isDigRefused_4 : List UInt8 := dkwX4_isDigRefused_4 ++ dktX4_isDigRefused_5
def dkwX4_isDigRefused_3 : List UInt8 := [182, 0, 105, 154, 0, 12, 42, 28, 27, 182, 0, 136, 153, 0, 5, 4, 172, 42, 29, 153, 0, 18, 42]
abbrev dktX4_isDigRefused_3 : List UInt8 := dkwX4_isDigRefused_3 ++ dktX4_isDigRefused_4
def dkwX4_isDigRefused_2 : List UInt8 := [182, 0, 105, 154, 0, 35, 42, 42, 28, 27, 182, 0, 78, 154, 0, 7, 4, 167, 0, 4, 3, 5, 28]
abbrev dktX4_isDigRefused_2 : List UInt8 := dkwX4_isDigRefused_2 ++ dktX4_isDigRefused_3
def dkwX4_isDigRefused_1 : List UInt8 := [182, 0, 105, 154, 0, 57, 42, 42, 28, 182, 0, 102, 154, 0, 7, 4, 167, 0, 4, 3, 4, 28]
abbrev dktX4_isDigRefused_1 : List UInt8 := dkwX4_isDigRefused_1 ++ dktX4_isDigRefused_2
def dkwX4_isDigRefused_0 : List UInt8 := [42, 42, 180, 0, 9, 17, 1, 72, 27, 96, 46, 4, 160, 0, 7, 4, 167, 0, 4, 3, 16, 6, 27]
abbrev dktX4_isDigRefused_0 : List UInt8 := dkwX4_isDigRefused_0 ++ dktX4_isDigRefused_1
theorem dksX4_isDigRefused_0 : cX4_isDigRefused.data.toList.drop 0 = dktX4_isDigRefused_0 := by decide +kernel
theorem dksX4_isDigRefused_1 : cX4_isDigRefused.data.toList.drop 23 = dktX4_isDigRefused_1 := dk_seg dksX4_isDigRefused_0 23 rfl rfl
theorem dksX4_isDigRefused_2 : cX4_isDigRefused.data.toList.drop 45 = dktX4_isDigRefused_2 := dk_seg dksX4_isDigRefused_1 22 rfl rfl
theorem dksX4_isDigRefused_3 : cX4_isDigRefused.data.toList.drop 68 = dktX4_isDigRefused_3 := dk_seg dksX4_isDigRefused_2 23 rfl rfl
theorem dksX4_isDigRefused_4 : cX4_isDigRefused.data.toList.drop 91 = dktX4_isDigRefused_4 := dk_seg dksX4_isDigRefused_3 23 rfl rfl
theorem dksX4_isDigRefused_5 : cX4_isDigRefused.data.toList.drop 115 = dktX4_isDigRefused_5 := dk_seg dksX4_isDigRefused_4 24 rfl rfl
theorem dksX4_isDigRefused_6 : cX4_isDigRefused.data.toList.drop 139 = dktX4_isDigRefused_6 := dk_seg dksX4_isDigRefused_5 24 rfl rfl
theorem dX4_isDigRefused_0 : decode cX4_isDigRefused 0 = .ok (.aload_n 0, 1) := dk_42 (dk_at dksX4_isDigRefused_0 0 rfl rfl)
theorem dX4_isDigRefused_1 : decode cX4_isDigRefused 1 = .ok (.aload_n 0, 1) := dk_42 (dk_at dksX4_isDigRefused_0 1 rfl rfl)
theorem dX4_isDigRefused_2 : decode cX4_isDigRefused 2 = .ok (.getfield 9, 3) := dk_180 0 9 (dk_at dksX4_isDigRefused_0 2 rfl rfl)
theorem dX4_isDigRefused_5 : decode cX4_isDigRefused 5 = .ok (.sipush 328, 3) := dk_17 1 72 (dk_at dksX4_isDigRefused_0 5 rfl rfl)
theorem dX4_isDigRefused_8 : decode cX4_isDigRefused 8 = .ok (.iload_n 1, 1) := dk_27 (dk_at dksX4_isDigRefused_0 8 rfl rfl)
theorem dX4_isDigRefused_9 : decode cX4_isDigRefused 9 = .ok (.iadd, 1) := dk_96 (dk_at dksX4_isDigRefused_0 9 rfl rfl)
theorem dX4_isDigRefused_10 : decode cX4_isDigRefused 10 = .ok (.iaload, 1) := dk_46 (dk_at dksX4_isDigRefused_0 10 rfl rfl)
theorem dX4_isDigRefused_11 : decode cX4_isDigRefused 11 = .ok (.iconst 1, 1) := dk_4 (dk_at dksX4_isDigRefused_0 11 rfl rfl)
theorem dX4_isDigRefused_12 : decode cX4_isDigRefused 12 = .ok (.if_icmp .ne 7, 3) := dk_160 0 7 (dk_at dksX4_isDigRefused_0 12 rfl rfl)
theorem dX4_isDigRefused_15 : decode cX4_isDigRefused 15 = .ok (.iconst 1, 1) := dk_4 (dk_at dksX4_isDigRefused_0 15 rfl rfl)
theorem dX4_isDigRefused_16 : decode cX4_isDigRefused 16 = .ok (.goto 4, 3) := dk_167 0 4 (dk_at dksX4_isDigRefused_0 16 rfl rfl)
theorem dX4_isDigRefused_19 : decode cX4_isDigRefused 19 = .ok (.iconst 0, 1) := dk_3 (dk_at dksX4_isDigRefused_0 19 rfl rfl)
theorem dX4_isDigRefused_20 : decode cX4_isDigRefused 20 = .ok (.bipush 6, 2) := dk_16 6 (dk_at dksX4_isDigRefused_0 20 rfl rfl)
theorem dX4_isDigRefused_22 : decode cX4_isDigRefused 22 = .ok (.iload_n 1, 1) := dk_27 (dk_at dksX4_isDigRefused_0 22 rfl rfl)
theorem dX4_isDigRefused_23 : decode cX4_isDigRefused 23 = .ok (.invokevirtual 105, 3) := dk_182 0 105 (dk_at dksX4_isDigRefused_1 0 rfl rfl)
theorem dX4_isDigRefused_26 : decode cX4_isDigRefused 26 = .ok (.ifCond .ne 57, 3) := dk_154 0 57 (dk_at dksX4_isDigRefused_1 3 rfl rfl)
theorem dX4_isDigRefused_29 : decode cX4_isDigRefused 29 = .ok (.aload_n 0, 1) := dk_42 (dk_at dksX4_isDigRefused_1 6 rfl rfl)
theorem dX4_isDigRefused_30 : decode cX4_isDigRefused 30 = .ok (.aload_n 0, 1) := dk_42 (dk_at dksX4_isDigRefused_1 7 rfl rfl)
theorem dX4_isDigRefused_31 : decode cX4_isDigRefused 31 = .ok (.iload_n 2, 1) := dk_28 (dk_at dksX4_isDigRefused_1 8 rfl rfl)
theorem dX4_isDigRefused_32 : decode cX4_isDigRefused 32 = .ok (.invokevirtual 102, 3) := dk_182 0 102 (dk_at dksX4_isDigRefused_1 9 rfl rfl)
theorem dX4_isDigRefused_35 : decode cX4_isDigRefused 35 = .ok (.ifCond .ne 7, 3) := dk_154 0 7 (dk_at dksX4_isDigRefused_1 12 rfl rfl)
theorem dX4_isDigRefused_38 : decode cX4_isDigRefused 38 = .ok (.iconst 1, 1) := dk_4 (dk_at dksX4_isDigRefused_1 15 rfl rfl)
theorem dX4_isDigRefused_39 : decode cX4_isDigRefused 39 = .ok (.goto 4, 3) := dk_167 0 4 (dk_at dksX4_isDigRefused_1 16 rfl rfl)
theorem dX4_isDigRefused_42 : decode cX4_isDigRefused 42 = .ok (.iconst 0, 1) := dk_3 (dk_at dksX4_isDigRefused_1 19 rfl rfl)
theorem dX4_isDigRefused_43 : decode cX4_isDigRefused 43 = .ok (.iconst 1, 1) := dk_4 (dk_at dksX4_isDigRefused_1 20 rfl rfl)
theorem dX4_isDigRefused_44 : decode cX4_isDigRefused 44 = .ok (.iload_n 2, 1) := dk_28 (dk_at dksX4_isDigRefused_1 21 rfl rfl)
theorem dX4_isDigRefused_45 : decode cX4_isDigRefused 45 = .ok (.invokevirtual 105, 3) := dk_182 0 105 (dk_at dksX4_isDigRefused_2 0 rfl rfl)
theorem dX4_isDigRefused_48 : decode cX4_isDigRefused 48 = .ok (.ifCond .ne 35, 3) := dk_154 0 35 (dk_at dksX4_isDigRefused_2 3 rfl rfl)
theorem dX4_isDigRefused_51 : decode cX4_isDigRefused 51 = .ok (.aload_n 0, 1) := dk_42 (dk_at dksX4_isDigRefused_2 6 rfl rfl)
theorem dX4_isDigRefused_52 : decode cX4_isDigRefused 52 = .ok (.aload_n 0, 1) := dk_42 (dk_at dksX4_isDigRefused_2 7 rfl rfl)
theorem dX4_isDigRefused_53 : decode cX4_isDigRefused 53 = .ok (.iload_n 2, 1) := dk_28 (dk_at dksX4_isDigRefused_2 8 rfl rfl)
theorem dX4_isDigRefused_54 : decode cX4_isDigRefused 54 = .ok (.iload_n 1, 1) := dk_27 (dk_at dksX4_isDigRefused_2 9 rfl rfl)
theorem dX4_isDigRefused_55 : decode cX4_isDigRefused 55 = .ok (.invokevirtual 78, 3) := dk_182 0 78 (dk_at dksX4_isDigRefused_2 10 rfl rfl)
theorem dX4_isDigRefused_58 : decode cX4_isDigRefused 58 = .ok (.ifCond .ne 7, 3) := dk_154 0 7 (dk_at dksX4_isDigRefused_2 13 rfl rfl)
theorem dX4_isDigRefused_61 : decode cX4_isDigRefused 61 = .ok (.iconst 1, 1) := dk_4 (dk_at dksX4_isDigRefused_2 16 rfl rfl)
theorem dX4_isDigRefused_62 : decode cX4_isDigRefused 62 = .ok (.goto 4, 3) := dk_167 0 4 (dk_at dksX4_isDigRefused_2 17 rfl rfl)
theorem dX4_isDigRefused_65 : decode cX4_isDigRefused 65 = .ok (.iconst 0, 1) := dk_3 (dk_at dksX4_isDigRefused_2 20 rfl rfl)
theorem dX4_isDigRefused_66 : decode cX4_isDigRefused 66 = .ok (.iconst 2, 1) := dk_5 (dk_at dksX4_isDigRefused_2 21 rfl rfl)
theorem dX4_isDigRefused_67 : decode cX4_isDigRefused 67 = .ok (.iload_n 2, 1) := dk_28 (dk_at dksX4_isDigRefused_2 22 rfl rfl)
theorem dX4_isDigRefused_68 : decode cX4_isDigRefused 68 = .ok (.invokevirtual 105, 3) := dk_182 0 105 (dk_at dksX4_isDigRefused_3 0 rfl rfl)
theorem dX4_isDigRefused_71 : decode cX4_isDigRefused 71 = .ok (.ifCond .ne 12, 3) := dk_154 0 12 (dk_at dksX4_isDigRefused_3 3 rfl rfl)
theorem dX4_isDigRefused_74 : decode cX4_isDigRefused 74 = .ok (.aload_n 0, 1) := dk_42 (dk_at dksX4_isDigRefused_3 6 rfl rfl)
theorem dX4_isDigRefused_75 : decode cX4_isDigRefused 75 = .ok (.iload_n 2, 1) := dk_28 (dk_at dksX4_isDigRefused_3 7 rfl rfl)
theorem dX4_isDigRefused_76 : decode cX4_isDigRefused 76 = .ok (.iload_n 1, 1) := dk_27 (dk_at dksX4_isDigRefused_3 8 rfl rfl)
theorem dX4_isDigRefused_77 : decode cX4_isDigRefused 77 = .ok (.invokevirtual 136, 3) := dk_182 0 136 (dk_at dksX4_isDigRefused_3 9 rfl rfl)
theorem dX4_isDigRefused_80 : decode cX4_isDigRefused 80 = .ok (.ifCond .eq 5, 3) := dk_153 0 5 (dk_at dksX4_isDigRefused_3 12 rfl rfl)
theorem dX4_isDigRefused_83 : decode cX4_isDigRefused 83 = .ok (.iconst 1, 1) := dk_4 (dk_at dksX4_isDigRefused_3 15 rfl rfl)
theorem dX4_isDigRefused_84 : decode cX4_isDigRefused 84 = .ok (.ireturn, 1) := dk_172 (dk_at dksX4_isDigRefused_3 16 rfl rfl)
theorem dX4_isDigRefused_85 : decode cX4_isDigRefused 85 = .ok (.aload_n 0, 1) := dk_42 (dk_at dksX4_isDigRefused_3 17 rfl rfl)
theorem dX4_isDigRefused_86 : decode cX4_isDigRefused 86 = .ok (.iload_n 3, 1) := dk_29 (dk_at dksX4_isDigRefused_3 18 rfl rfl)
theorem dX4_isDigRefused_87 : decode cX4_isDigRefused 87 = .ok (.ifCond .eq 18, 3) := dk_153 0 18 (dk_at dksX4_isDigRefused_3 19 rfl rfl)
theorem dX4_isDigRefused_90 : decode cX4_isDigRefused 90 = .ok (.aload_n 0, 1) := dk_42 (dk_at dksX4_isDigRefused_3 22 rfl rfl)
theorem dX4_isDigRefused_91 : decode cX4_isDigRefused 91 = .ok (.getfield 9, 3) := dk_180 0 9 (dk_at dksX4_isDigRefused_4 0 rfl rfl)
theorem dX4_isDigRefused_94 : decode cX4_isDigRefused 94 = .ok (.sipush 352, 3) := dk_17 1 96 (dk_at dksX4_isDigRefused_4 3 rfl rfl)
theorem dX4_isDigRefused_97 : decode cX4_isDigRefused 97 = .ok (.iaload, 1) := dk_46 (dk_at dksX4_isDigRefused_4 6 rfl rfl)
theorem dX4_isDigRefused_98 : decode cX4_isDigRefused 98 = .ok (.ifCond .ne 7, 3) := dk_154 0 7 (dk_at dksX4_isDigRefused_4 7 rfl rfl)
theorem dX4_isDigRefused_101 : decode cX4_isDigRefused 101 = .ok (.iconst 1, 1) := dk_4 (dk_at dksX4_isDigRefused_4 10 rfl rfl)
theorem dX4_isDigRefused_102 : decode cX4_isDigRefused 102 = .ok (.goto 4, 3) := dk_167 0 4 (dk_at dksX4_isDigRefused_4 11 rfl rfl)
theorem dX4_isDigRefused_105 : decode cX4_isDigRefused 105 = .ok (.iconst 0, 1) := dk_3 (dk_at dksX4_isDigRefused_4 14 rfl rfl)
theorem dX4_isDigRefused_106 : decode cX4_isDigRefused 106 = .ok (.bipush 7, 2) := dk_16 7 (dk_at dksX4_isDigRefused_4 15 rfl rfl)
theorem dX4_isDigRefused_108 : decode cX4_isDigRefused 108 = .ok (.iconst 0, 1) := dk_3 (dk_at dksX4_isDigRefused_4 17 rfl rfl)
theorem dX4_isDigRefused_109 : decode cX4_isDigRefused 109 = .ok (.invokevirtual 105, 3) := dk_182 0 105 (dk_at dksX4_isDigRefused_4 18 rfl rfl)
theorem dX4_isDigRefused_112 : decode cX4_isDigRefused 112 = .ok (.ifCond .ne 23, 3) := dk_154 0 23 (dk_at dksX4_isDigRefused_4 21 rfl rfl)
theorem dX4_isDigRefused_115 : decode cX4_isDigRefused 115 = .ok (.iload_n 3, 1) := dk_29 (dk_at dksX4_isDigRefused_5 0 rfl rfl)
theorem dX4_isDigRefused_116 : decode cX4_isDigRefused 116 = .ok (.ifCond .ne 11, 3) := dk_154 0 11 (dk_at dksX4_isDigRefused_5 1 rfl rfl)
theorem dX4_isDigRefused_119 : decode cX4_isDigRefused 119 = .ok (.aload_n 0, 1) := dk_42 (dk_at dksX4_isDigRefused_5 4 rfl rfl)
theorem dX4_isDigRefused_120 : decode cX4_isDigRefused 120 = .ok (.iload_n 2, 1) := dk_28 (dk_at dksX4_isDigRefused_5 5 rfl rfl)
theorem dX4_isDigRefused_121 : decode cX4_isDigRefused 121 = .ok (.invokevirtual 145, 3) := dk_182 0 145 (dk_at dksX4_isDigRefused_5 6 rfl rfl)
theorem dX4_isDigRefused_124 : decode cX4_isDigRefused 124 = .ok (.ifCond .ne 11, 3) := dk_154 0 11 (dk_at dksX4_isDigRefused_5 9 rfl rfl)
theorem dX4_isDigRefused_127 : decode cX4_isDigRefused 127 = .ok (.aload_n 0, 1) := dk_42 (dk_at dksX4_isDigRefused_5 12 rfl rfl)
theorem dX4_isDigRefused_128 : decode cX4_isDigRefused 128 = .ok (.iload_n 2, 1) := dk_28 (dk_at dksX4_isDigRefused_5 13 rfl rfl)
theorem dX4_isDigRefused_129 : decode cX4_isDigRefused 129 = .ok (.invokevirtual 139, 3) := dk_182 0 139 (dk_at dksX4_isDigRefused_5 14 rfl rfl)
theorem dX4_isDigRefused_132 : decode cX4_isDigRefused 132 = .ok (.ifCond .eq 7, 3) := dk_153 0 7 (dk_at dksX4_isDigRefused_5 17 rfl rfl)
theorem dX4_isDigRefused_135 : decode cX4_isDigRefused 135 = .ok (.iconst 1, 1) := dk_4 (dk_at dksX4_isDigRefused_5 20 rfl rfl)
theorem dX4_isDigRefused_136 : decode cX4_isDigRefused 136 = .ok (.goto 4, 3) := dk_167 0 4 (dk_at dksX4_isDigRefused_5 21 rfl rfl)
theorem dX4_isDigRefused_139 : decode cX4_isDigRefused 139 = .ok (.iconst 0, 1) := dk_3 (dk_at dksX4_isDigRefused_6 0 rfl rfl)
theorem dX4_isDigRefused_140 : decode cX4_isDigRefused 140 = .ok (.ireturn, 1) := dk_172 (dk_at dksX4_isDigRefused_6 1 rfl rfl)
abbrev cX4_isSpanTooLong : ByteArray := prog_24_method_40_code
def yX4_isSpanTooLong : MethodName := ⟨RX4, "isSpanTooLong", "(I)Z"⟩
def dkwX4_isSpanTooLong_1 : List UInt8 := [7, 28, 182, 0, 105, 172]
abbrev dktX4_isSpanTooLong_1 : List UInt8 := dkwX4_isSpanTooLong_1 ++ []
def dkwX4_isSpanTooLong_0 : List UInt8 := [42, 27, 182, 0, 91, 61, 42, 28, 42, 180, 0, 9, 17, 1, 99, 46, 164, 0, 7, 4, 167, 0, 4, 3]
abbrev dktX4_isSpanTooLong_0 : List UInt8 := dkwX4_isSpanTooLong_0 ++ dktX4_isSpanTooLong_1
theorem dksX4_isSpanTooLong_0 : cX4_isSpanTooLong.data.toList.drop 0 = dktX4_isSpanTooLong_0 := by decide +kernel
theorem dksX4_isSpanTooLong_1 : cX4_isSpanTooLong.data.toList.drop 24 = dktX4_isSpanTooLong_1 := dk_seg dksX4_isSpanTooLong_0 24 rfl rfl
theorem dX4_isSpanTooLong_0 : decode cX4_isSpanTooLong 0 = .ok (.aload_n 0, 1) := dk_42 (dk_at dksX4_isSpanTooLong_0 0 rfl rfl)
theorem dX4_isSpanTooLong_1 : decode cX4_isSpanTooLong 1 = .ok (.iload_n 1, 1) := dk_27 (dk_at dksX4_isSpanTooLong_0 1 rfl rfl)
theorem dX4_isSpanTooLong_2 : decode cX4_isSpanTooLong 2 = .ok (.invokevirtual 91, 3) := dk_182 0 91 (dk_at dksX4_isSpanTooLong_0 2 rfl rfl)
theorem dX4_isSpanTooLong_5 : decode cX4_isSpanTooLong 5 = .ok (.istore_n 2, 1) := dk_61 (dk_at dksX4_isSpanTooLong_0 5 rfl rfl)
theorem dX4_isSpanTooLong_6 : decode cX4_isSpanTooLong 6 = .ok (.aload_n 0, 1) := dk_42 (dk_at dksX4_isSpanTooLong_0 6 rfl rfl)
theorem dX4_isSpanTooLong_7 : decode cX4_isSpanTooLong 7 = .ok (.iload_n 2, 1) := dk_28 (dk_at dksX4_isSpanTooLong_0 7 rfl rfl)
theorem dX4_isSpanTooLong_8 : decode cX4_isSpanTooLong 8 = .ok (.aload_n 0, 1) := dk_42 (dk_at dksX4_isSpanTooLong_0 8 rfl rfl)
theorem dX4_isSpanTooLong_9 : decode cX4_isSpanTooLong 9 = .ok (.getfield 9, 3) := dk_180 0 9 (dk_at dksX4_isSpanTooLong_0 9 rfl rfl)
theorem dX4_isSpanTooLong_12 : decode cX4_isSpanTooLong 12 = .ok (.sipush 355, 3) := dk_17 1 99 (dk_at dksX4_isSpanTooLong_0 12 rfl rfl)
theorem dX4_isSpanTooLong_15 : decode cX4_isSpanTooLong 15 = .ok (.iaload, 1) := dk_46 (dk_at dksX4_isSpanTooLong_0 15 rfl rfl)
theorem dX4_isSpanTooLong_16 : decode cX4_isSpanTooLong 16 = .ok (.if_icmp .le 7, 3) := dk_164 0 7 (dk_at dksX4_isSpanTooLong_0 16 rfl rfl)
theorem dX4_isSpanTooLong_19 : decode cX4_isSpanTooLong 19 = .ok (.iconst 1, 1) := dk_4 (dk_at dksX4_isSpanTooLong_0 19 rfl rfl)
theorem dX4_isSpanTooLong_20 : decode cX4_isSpanTooLong 20 = .ok (.goto 4, 3) := dk_167 0 4 (dk_at dksX4_isSpanTooLong_0 20 rfl rfl)
theorem dX4_isSpanTooLong_23 : decode cX4_isSpanTooLong 23 = .ok (.iconst 0, 1) := dk_3 (dk_at dksX4_isSpanTooLong_0 23 rfl rfl)
theorem dX4_isSpanTooLong_24 : decode cX4_isSpanTooLong 24 = .ok (.iconst 4, 1) := dk_7 (dk_at dksX4_isSpanTooLong_1 0 rfl rfl)
theorem dX4_isSpanTooLong_25 : decode cX4_isSpanTooLong 25 = .ok (.iload_n 2, 1) := dk_28 (dk_at dksX4_isSpanTooLong_1 1 rfl rfl)
theorem dX4_isSpanTooLong_26 : decode cX4_isSpanTooLong 26 = .ok (.invokevirtual 105, 3) := dk_182 0 105 (dk_at dksX4_isSpanTooLong_1 2 rfl rfl)
theorem dX4_isSpanTooLong_29 : decode cX4_isSpanTooLong 29 = .ok (.ireturn, 1) := dk_172 (dk_at dksX4_isSpanTooLong_1 5 rfl rfl)
abbrev cX4_prop : ByteArray := prog_24_method_43_code
def yX4_prop : MethodName := ⟨RX4, "prop", "(I)I"⟩
def dkwX4_prop_5 : List UInt8 := [172]
abbrev dktX4_prop_5 : List UInt8 := dkwX4_prop_5 ++ []
def dkwX4_prop_4 : List UInt8 := [27, 96, 4, 79, 42, 180, 0, 9, 17, 1, 96, 92, 46, 4, 100, 79, 42, 180, 0, 9, 17, 1, 96, 46]
abbrev dktX4_prop_4 : List UInt8 := dkwX4_prop_4 ++ dktX4_prop_5
def dkwX4_prop_3 : List UInt8 := [4, 167, 0, 4, 3, 182, 0, 98, 153, 0, 5, 3, 172, 42, 182, 0, 116, 42, 180, 0, 9, 17, 1, 0]
abbrev dktX4_prop_3 : List UInt8 := dkwX4_prop_3 ++ dktX4_prop_4
def dkwX4_prop_2 : List UInt8 := [180, 0, 9, 17, 1, 96, 46, 154, 0, 7, 4, 167, 0, 4, 3, 16, 7, 3, 182, 0, 105, 153, 0, 7]
abbrev dktX4_prop_2 : List UInt8 := dkwX4_prop_2 ++ dktX4_prop_3
def dkwX4_prop_1 : List UInt8 := [27, 182, 0, 81, 154, 0, 7, 4, 167, 0, 4, 3, 16, 9, 27, 182, 0, 105, 154, 0, 29, 42, 42]
abbrev dktX4_prop_1 : List UInt8 := dkwX4_prop_1 ++ dktX4_prop_2
def dkwX4_prop_0 : List UInt8 := [42, 4, 27, 184, 0, 95, 154, 0, 7, 4, 167, 0, 4, 3, 182, 0, 98, 154, 0, 65, 42, 5, 42, 42]
abbrev dktX4_prop_0 : List UInt8 := dkwX4_prop_0 ++ dktX4_prop_1
theorem dksX4_prop_0 : cX4_prop.data.toList.drop 0 = dktX4_prop_0 := by decide +kernel
theorem dksX4_prop_1 : cX4_prop.data.toList.drop 24 = dktX4_prop_1 := dk_seg dksX4_prop_0 24 rfl rfl
theorem dksX4_prop_2 : cX4_prop.data.toList.drop 47 = dktX4_prop_2 := dk_seg dksX4_prop_1 23 rfl rfl
theorem dksX4_prop_3 : cX4_prop.data.toList.drop 71 = dktX4_prop_3 := dk_seg dksX4_prop_2 24 rfl rfl
theorem dksX4_prop_4 : cX4_prop.data.toList.drop 95 = dktX4_prop_4 := dk_seg dksX4_prop_3 24 rfl rfl
theorem dksX4_prop_5 : cX4_prop.data.toList.drop 119 = dktX4_prop_5 := dk_seg dksX4_prop_4 24 rfl rfl
theorem dX4_prop_0 : decode cX4_prop 0 = .ok (.aload_n 0, 1) := dk_42 (dk_at dksX4_prop_0 0 rfl rfl)
theorem dX4_prop_1 : decode cX4_prop 1 = .ok (.iconst 1, 1) := dk_4 (dk_at dksX4_prop_0 1 rfl rfl)
theorem dX4_prop_2 : decode cX4_prop 2 = .ok (.iload_n 1, 1) := dk_27 (dk_at dksX4_prop_0 2 rfl rfl)
theorem dX4_prop_3 : decode cX4_prop 3 = .ok (.invokestatic 95, 3) := dk_184 0 95 (dk_at dksX4_prop_0 3 rfl rfl)
theorem dX4_prop_6 : decode cX4_prop 6 = .ok (.ifCond .ne 7, 3) := dk_154 0 7 (dk_at dksX4_prop_0 6 rfl rfl)
theorem dX4_prop_9 : decode cX4_prop 9 = .ok (.iconst 1, 1) := dk_4 (dk_at dksX4_prop_0 9 rfl rfl)
theorem dX4_prop_10 : decode cX4_prop 10 = .ok (.goto 4, 3) := dk_167 0 4 (dk_at dksX4_prop_0 10 rfl rfl)
theorem dX4_prop_13 : decode cX4_prop 13 = .ok (.iconst 0, 1) := dk_3 (dk_at dksX4_prop_0 13 rfl rfl)
theorem dX4_prop_14 : decode cX4_prop 14 = .ok (.invokevirtual 98, 3) := dk_182 0 98 (dk_at dksX4_prop_0 14 rfl rfl)
theorem dX4_prop_17 : decode cX4_prop 17 = .ok (.ifCond .ne 65, 3) := dk_154 0 65 (dk_at dksX4_prop_0 17 rfl rfl)
theorem dX4_prop_20 : decode cX4_prop 20 = .ok (.aload_n 0, 1) := dk_42 (dk_at dksX4_prop_0 20 rfl rfl)
theorem dX4_prop_21 : decode cX4_prop 21 = .ok (.iconst 2, 1) := dk_5 (dk_at dksX4_prop_0 21 rfl rfl)
theorem dX4_prop_22 : decode cX4_prop 22 = .ok (.aload_n 0, 1) := dk_42 (dk_at dksX4_prop_0 22 rfl rfl)
theorem dX4_prop_23 : decode cX4_prop 23 = .ok (.aload_n 0, 1) := dk_42 (dk_at dksX4_prop_0 23 rfl rfl)
theorem dX4_prop_24 : decode cX4_prop 24 = .ok (.iload_n 1, 1) := dk_27 (dk_at dksX4_prop_1 0 rfl rfl)
theorem dX4_prop_25 : decode cX4_prop 25 = .ok (.invokevirtual 81, 3) := dk_182 0 81 (dk_at dksX4_prop_1 1 rfl rfl)
theorem dX4_prop_28 : decode cX4_prop 28 = .ok (.ifCond .ne 7, 3) := dk_154 0 7 (dk_at dksX4_prop_1 4 rfl rfl)
theorem dX4_prop_31 : decode cX4_prop 31 = .ok (.iconst 1, 1) := dk_4 (dk_at dksX4_prop_1 7 rfl rfl)
theorem dX4_prop_32 : decode cX4_prop 32 = .ok (.goto 4, 3) := dk_167 0 4 (dk_at dksX4_prop_1 8 rfl rfl)
theorem dX4_prop_35 : decode cX4_prop 35 = .ok (.iconst 0, 1) := dk_3 (dk_at dksX4_prop_1 11 rfl rfl)
theorem dX4_prop_36 : decode cX4_prop 36 = .ok (.bipush 9, 2) := dk_16 9 (dk_at dksX4_prop_1 12 rfl rfl)
theorem dX4_prop_38 : decode cX4_prop 38 = .ok (.iload_n 1, 1) := dk_27 (dk_at dksX4_prop_1 14 rfl rfl)
theorem dX4_prop_39 : decode cX4_prop 39 = .ok (.invokevirtual 105, 3) := dk_182 0 105 (dk_at dksX4_prop_1 15 rfl rfl)
theorem dX4_prop_42 : decode cX4_prop 42 = .ok (.ifCond .ne 29, 3) := dk_154 0 29 (dk_at dksX4_prop_1 18 rfl rfl)
theorem dX4_prop_45 : decode cX4_prop 45 = .ok (.aload_n 0, 1) := dk_42 (dk_at dksX4_prop_1 21 rfl rfl)
theorem dX4_prop_46 : decode cX4_prop 46 = .ok (.aload_n 0, 1) := dk_42 (dk_at dksX4_prop_1 22 rfl rfl)
theorem dX4_prop_47 : decode cX4_prop 47 = .ok (.getfield 9, 3) := dk_180 0 9 (dk_at dksX4_prop_2 0 rfl rfl)
theorem dX4_prop_50 : decode cX4_prop 50 = .ok (.sipush 352, 3) := dk_17 1 96 (dk_at dksX4_prop_2 3 rfl rfl)
theorem dX4_prop_53 : decode cX4_prop 53 = .ok (.iaload, 1) := dk_46 (dk_at dksX4_prop_2 6 rfl rfl)
theorem dX4_prop_54 : decode cX4_prop 54 = .ok (.ifCond .ne 7, 3) := dk_154 0 7 (dk_at dksX4_prop_2 7 rfl rfl)
theorem dX4_prop_57 : decode cX4_prop 57 = .ok (.iconst 1, 1) := dk_4 (dk_at dksX4_prop_2 10 rfl rfl)
theorem dX4_prop_58 : decode cX4_prop 58 = .ok (.goto 4, 3) := dk_167 0 4 (dk_at dksX4_prop_2 11 rfl rfl)
theorem dX4_prop_61 : decode cX4_prop 61 = .ok (.iconst 0, 1) := dk_3 (dk_at dksX4_prop_2 14 rfl rfl)
theorem dX4_prop_62 : decode cX4_prop 62 = .ok (.bipush 7, 2) := dk_16 7 (dk_at dksX4_prop_2 15 rfl rfl)
theorem dX4_prop_64 : decode cX4_prop 64 = .ok (.iconst 0, 1) := dk_3 (dk_at dksX4_prop_2 17 rfl rfl)
theorem dX4_prop_65 : decode cX4_prop 65 = .ok (.invokevirtual 105, 3) := dk_182 0 105 (dk_at dksX4_prop_2 18 rfl rfl)
theorem dX4_prop_68 : decode cX4_prop 68 = .ok (.ifCond .eq 7, 3) := dk_153 0 7 (dk_at dksX4_prop_2 21 rfl rfl)
theorem dX4_prop_71 : decode cX4_prop 71 = .ok (.iconst 1, 1) := dk_4 (dk_at dksX4_prop_3 0 rfl rfl)
theorem dX4_prop_72 : decode cX4_prop 72 = .ok (.goto 4, 3) := dk_167 0 4 (dk_at dksX4_prop_3 1 rfl rfl)
theorem dX4_prop_75 : decode cX4_prop 75 = .ok (.iconst 0, 1) := dk_3 (dk_at dksX4_prop_3 4 rfl rfl)
theorem dX4_prop_76 : decode cX4_prop 76 = .ok (.invokevirtual 98, 3) := dk_182 0 98 (dk_at dksX4_prop_3 5 rfl rfl)
theorem dX4_prop_79 : decode cX4_prop 79 = .ok (.ifCond .eq 5, 3) := dk_153 0 5 (dk_at dksX4_prop_3 8 rfl rfl)
theorem dX4_prop_82 : decode cX4_prop 82 = .ok (.iconst 0, 1) := dk_3 (dk_at dksX4_prop_3 11 rfl rfl)
theorem dX4_prop_83 : decode cX4_prop 83 = .ok (.ireturn, 1) := dk_172 (dk_at dksX4_prop_3 12 rfl rfl)
theorem dX4_prop_84 : decode cX4_prop 84 = .ok (.aload_n 0, 1) := dk_42 (dk_at dksX4_prop_3 13 rfl rfl)
theorem dX4_prop_85 : decode cX4_prop 85 = .ok (.invokevirtual 116, 3) := dk_182 0 116 (dk_at dksX4_prop_3 14 rfl rfl)
theorem dX4_prop_88 : decode cX4_prop 88 = .ok (.aload_n 0, 1) := dk_42 (dk_at dksX4_prop_3 17 rfl rfl)
theorem dX4_prop_89 : decode cX4_prop 89 = .ok (.getfield 9, 3) := dk_180 0 9 (dk_at dksX4_prop_3 18 rfl rfl)
theorem dX4_prop_92 : decode cX4_prop 92 = .ok (.sipush 256, 3) := dk_17 1 0 (dk_at dksX4_prop_3 21 rfl rfl)
theorem dX4_prop_95 : decode cX4_prop 95 = .ok (.iload_n 1, 1) := dk_27 (dk_at dksX4_prop_4 0 rfl rfl)
theorem dX4_prop_96 : decode cX4_prop 96 = .ok (.iadd, 1) := dk_96 (dk_at dksX4_prop_4 1 rfl rfl)
theorem dX4_prop_97 : decode cX4_prop 97 = .ok (.iconst 1, 1) := dk_4 (dk_at dksX4_prop_4 2 rfl rfl)
theorem dX4_prop_98 : decode cX4_prop 98 = .ok (.iastore, 1) := dk_79 (dk_at dksX4_prop_4 3 rfl rfl)
theorem dX4_prop_99 : decode cX4_prop 99 = .ok (.aload_n 0, 1) := dk_42 (dk_at dksX4_prop_4 4 rfl rfl)
theorem dX4_prop_100 : decode cX4_prop 100 = .ok (.getfield 9, 3) := dk_180 0 9 (dk_at dksX4_prop_4 5 rfl rfl)
theorem dX4_prop_103 : decode cX4_prop 103 = .ok (.sipush 352, 3) := dk_17 1 96 (dk_at dksX4_prop_4 8 rfl rfl)
theorem dX4_prop_106 : decode cX4_prop 106 = .ok (.dup2, 1) := dk_92 (dk_at dksX4_prop_4 11 rfl rfl)
theorem dX4_prop_107 : decode cX4_prop 107 = .ok (.iaload, 1) := dk_46 (dk_at dksX4_prop_4 12 rfl rfl)
theorem dX4_prop_108 : decode cX4_prop 108 = .ok (.iconst 1, 1) := dk_4 (dk_at dksX4_prop_4 13 rfl rfl)
theorem dX4_prop_109 : decode cX4_prop 109 = .ok (.isub, 1) := dk_100 (dk_at dksX4_prop_4 14 rfl rfl)
theorem dX4_prop_110 : decode cX4_prop 110 = .ok (.iastore, 1) := dk_79 (dk_at dksX4_prop_4 15 rfl rfl)
theorem dX4_prop_111 : decode cX4_prop 111 = .ok (.aload_n 0, 1) := dk_42 (dk_at dksX4_prop_4 16 rfl rfl)
theorem dX4_prop_112 : decode cX4_prop 112 = .ok (.getfield 9, 3) := dk_180 0 9 (dk_at dksX4_prop_4 17 rfl rfl)
theorem dX4_prop_115 : decode cX4_prop 115 = .ok (.sipush 352, 3) := dk_17 1 96 (dk_at dksX4_prop_4 20 rfl rfl)
theorem dX4_prop_118 : decode cX4_prop 118 = .ok (.iaload, 1) := dk_46 (dk_at dksX4_prop_4 23 rfl rfl)
theorem dX4_prop_119 : decode cX4_prop 119 = .ok (.ireturn, 1) := dk_172 (dk_at dksX4_prop_5 0 rfl rfl)
abbrev cX4_unprop : ByteArray := prog_24_method_44_code
def yX4_unprop : MethodName := ⟨RX4, "unprop", "(I)I"⟩
def dkwX4_unprop_4 : List UInt8 := [17, 1, 96, 46, 172]
abbrev dktX4_unprop_4 : List UInt8 := dkwX4_unprop_4 ++ []
def dkwX4_unprop_3 : List UInt8 := [42, 182, 0, 116, 42, 180, 0, 9, 17, 1, 0, 27, 96, 3, 79, 42, 4, 182, 0, 119, 42, 180, 0, 9]
abbrev dktX4_unprop_3 : List UInt8 := dkwX4_unprop_3 ++ dktX4_unprop_4
def dkwX4_unprop_2 : List UInt8 := [154, 0, 11, 42, 27, 182, 0, 145, 153, 0, 7, 4, 167, 0, 4, 3, 182, 0, 98, 153, 0, 5, 3, 172]
abbrev dktX4_unprop_2 : List UInt8 := dkwX4_unprop_2 ++ dktX4_unprop_3
def dkwX4_unprop_1 : List UInt8 := [180, 0, 9, 17, 1, 0, 27, 96, 46, 154, 0, 7, 4, 167, 0, 4, 3, 16, 9, 27, 182, 0, 105]
abbrev dktX4_unprop_1 : List UInt8 := dkwX4_unprop_1 ++ dktX4_unprop_2
def dkwX4_unprop_0 : List UInt8 := [42, 4, 27, 184, 0, 95, 154, 0, 7, 4, 167, 0, 4, 3, 182, 0, 98, 154, 0, 52, 42, 5, 42, 42]
abbrev dktX4_unprop_0 : List UInt8 := dkwX4_unprop_0 ++ dktX4_unprop_1
theorem dksX4_unprop_0 : cX4_unprop.data.toList.drop 0 = dktX4_unprop_0 := by decide +kernel
theorem dksX4_unprop_1 : cX4_unprop.data.toList.drop 24 = dktX4_unprop_1 := dk_seg dksX4_unprop_0 24 rfl rfl
theorem dksX4_unprop_2 : cX4_unprop.data.toList.drop 47 = dktX4_unprop_2 := dk_seg dksX4_unprop_1 23 rfl rfl
theorem dksX4_unprop_3 : cX4_unprop.data.toList.drop 71 = dktX4_unprop_3 := dk_seg dksX4_unprop_2 24 rfl rfl
theorem dksX4_unprop_4 : cX4_unprop.data.toList.drop 95 = dktX4_unprop_4 := dk_seg dksX4_unprop_3 24 rfl rfl
theorem dX4_unprop_0 : decode cX4_unprop 0 = .ok (.aload_n 0, 1) := dk_42 (dk_at dksX4_unprop_0 0 rfl rfl)
theorem dX4_unprop_1 : decode cX4_unprop 1 = .ok (.iconst 1, 1) := dk_4 (dk_at dksX4_unprop_0 1 rfl rfl)
theorem dX4_unprop_2 : decode cX4_unprop 2 = .ok (.iload_n 1, 1) := dk_27 (dk_at dksX4_unprop_0 2 rfl rfl)
theorem dX4_unprop_3 : decode cX4_unprop 3 = .ok (.invokestatic 95, 3) := dk_184 0 95 (dk_at dksX4_unprop_0 3 rfl rfl)
theorem dX4_unprop_6 : decode cX4_unprop 6 = .ok (.ifCond .ne 7, 3) := dk_154 0 7 (dk_at dksX4_unprop_0 6 rfl rfl)
theorem dX4_unprop_9 : decode cX4_unprop 9 = .ok (.iconst 1, 1) := dk_4 (dk_at dksX4_unprop_0 9 rfl rfl)
theorem dX4_unprop_10 : decode cX4_unprop 10 = .ok (.goto 4, 3) := dk_167 0 4 (dk_at dksX4_unprop_0 10 rfl rfl)
theorem dX4_unprop_13 : decode cX4_unprop 13 = .ok (.iconst 0, 1) := dk_3 (dk_at dksX4_unprop_0 13 rfl rfl)
theorem dX4_unprop_14 : decode cX4_unprop 14 = .ok (.invokevirtual 98, 3) := dk_182 0 98 (dk_at dksX4_unprop_0 14 rfl rfl)
theorem dX4_unprop_17 : decode cX4_unprop 17 = .ok (.ifCond .ne 52, 3) := dk_154 0 52 (dk_at dksX4_unprop_0 17 rfl rfl)
theorem dX4_unprop_20 : decode cX4_unprop 20 = .ok (.aload_n 0, 1) := dk_42 (dk_at dksX4_unprop_0 20 rfl rfl)
theorem dX4_unprop_21 : decode cX4_unprop 21 = .ok (.iconst 2, 1) := dk_5 (dk_at dksX4_unprop_0 21 rfl rfl)
theorem dX4_unprop_22 : decode cX4_unprop 22 = .ok (.aload_n 0, 1) := dk_42 (dk_at dksX4_unprop_0 22 rfl rfl)
theorem dX4_unprop_23 : decode cX4_unprop 23 = .ok (.aload_n 0, 1) := dk_42 (dk_at dksX4_unprop_0 23 rfl rfl)
theorem dX4_unprop_24 : decode cX4_unprop 24 = .ok (.getfield 9, 3) := dk_180 0 9 (dk_at dksX4_unprop_1 0 rfl rfl)
theorem dX4_unprop_27 : decode cX4_unprop 27 = .ok (.sipush 256, 3) := dk_17 1 0 (dk_at dksX4_unprop_1 3 rfl rfl)
theorem dX4_unprop_30 : decode cX4_unprop 30 = .ok (.iload_n 1, 1) := dk_27 (dk_at dksX4_unprop_1 6 rfl rfl)
theorem dX4_unprop_31 : decode cX4_unprop 31 = .ok (.iadd, 1) := dk_96 (dk_at dksX4_unprop_1 7 rfl rfl)
theorem dX4_unprop_32 : decode cX4_unprop 32 = .ok (.iaload, 1) := dk_46 (dk_at dksX4_unprop_1 8 rfl rfl)
theorem dX4_unprop_33 : decode cX4_unprop 33 = .ok (.ifCond .ne 7, 3) := dk_154 0 7 (dk_at dksX4_unprop_1 9 rfl rfl)
theorem dX4_unprop_36 : decode cX4_unprop 36 = .ok (.iconst 1, 1) := dk_4 (dk_at dksX4_unprop_1 12 rfl rfl)
theorem dX4_unprop_37 : decode cX4_unprop 37 = .ok (.goto 4, 3) := dk_167 0 4 (dk_at dksX4_unprop_1 13 rfl rfl)
theorem dX4_unprop_40 : decode cX4_unprop 40 = .ok (.iconst 0, 1) := dk_3 (dk_at dksX4_unprop_1 16 rfl rfl)
theorem dX4_unprop_41 : decode cX4_unprop 41 = .ok (.bipush 9, 2) := dk_16 9 (dk_at dksX4_unprop_1 17 rfl rfl)
theorem dX4_unprop_43 : decode cX4_unprop 43 = .ok (.iload_n 1, 1) := dk_27 (dk_at dksX4_unprop_1 19 rfl rfl)
theorem dX4_unprop_44 : decode cX4_unprop 44 = .ok (.invokevirtual 105, 3) := dk_182 0 105 (dk_at dksX4_unprop_1 20 rfl rfl)
theorem dX4_unprop_47 : decode cX4_unprop 47 = .ok (.ifCond .ne 11, 3) := dk_154 0 11 (dk_at dksX4_unprop_2 0 rfl rfl)
theorem dX4_unprop_50 : decode cX4_unprop 50 = .ok (.aload_n 0, 1) := dk_42 (dk_at dksX4_unprop_2 3 rfl rfl)
theorem dX4_unprop_51 : decode cX4_unprop 51 = .ok (.iload_n 1, 1) := dk_27 (dk_at dksX4_unprop_2 4 rfl rfl)
theorem dX4_unprop_52 : decode cX4_unprop 52 = .ok (.invokevirtual 145, 3) := dk_182 0 145 (dk_at dksX4_unprop_2 5 rfl rfl)
theorem dX4_unprop_55 : decode cX4_unprop 55 = .ok (.ifCond .eq 7, 3) := dk_153 0 7 (dk_at dksX4_unprop_2 8 rfl rfl)
theorem dX4_unprop_58 : decode cX4_unprop 58 = .ok (.iconst 1, 1) := dk_4 (dk_at dksX4_unprop_2 11 rfl rfl)
theorem dX4_unprop_59 : decode cX4_unprop 59 = .ok (.goto 4, 3) := dk_167 0 4 (dk_at dksX4_unprop_2 12 rfl rfl)
theorem dX4_unprop_62 : decode cX4_unprop 62 = .ok (.iconst 0, 1) := dk_3 (dk_at dksX4_unprop_2 15 rfl rfl)
theorem dX4_unprop_63 : decode cX4_unprop 63 = .ok (.invokevirtual 98, 3) := dk_182 0 98 (dk_at dksX4_unprop_2 16 rfl rfl)
theorem dX4_unprop_66 : decode cX4_unprop 66 = .ok (.ifCond .eq 5, 3) := dk_153 0 5 (dk_at dksX4_unprop_2 19 rfl rfl)
theorem dX4_unprop_69 : decode cX4_unprop 69 = .ok (.iconst 0, 1) := dk_3 (dk_at dksX4_unprop_2 22 rfl rfl)
theorem dX4_unprop_70 : decode cX4_unprop 70 = .ok (.ireturn, 1) := dk_172 (dk_at dksX4_unprop_2 23 rfl rfl)
theorem dX4_unprop_71 : decode cX4_unprop 71 = .ok (.aload_n 0, 1) := dk_42 (dk_at dksX4_unprop_3 0 rfl rfl)
theorem dX4_unprop_72 : decode cX4_unprop 72 = .ok (.invokevirtual 116, 3) := dk_182 0 116 (dk_at dksX4_unprop_3 1 rfl rfl)
theorem dX4_unprop_75 : decode cX4_unprop 75 = .ok (.aload_n 0, 1) := dk_42 (dk_at dksX4_unprop_3 4 rfl rfl)
theorem dX4_unprop_76 : decode cX4_unprop 76 = .ok (.getfield 9, 3) := dk_180 0 9 (dk_at dksX4_unprop_3 5 rfl rfl)
theorem dX4_unprop_79 : decode cX4_unprop 79 = .ok (.sipush 256, 3) := dk_17 1 0 (dk_at dksX4_unprop_3 8 rfl rfl)
theorem dX4_unprop_82 : decode cX4_unprop 82 = .ok (.iload_n 1, 1) := dk_27 (dk_at dksX4_unprop_3 11 rfl rfl)
theorem dX4_unprop_83 : decode cX4_unprop 83 = .ok (.iadd, 1) := dk_96 (dk_at dksX4_unprop_3 12 rfl rfl)
theorem dX4_unprop_84 : decode cX4_unprop 84 = .ok (.iconst 0, 1) := dk_3 (dk_at dksX4_unprop_3 13 rfl rfl)
theorem dX4_unprop_85 : decode cX4_unprop 85 = .ok (.iastore, 1) := dk_79 (dk_at dksX4_unprop_3 14 rfl rfl)
theorem dX4_unprop_86 : decode cX4_unprop 86 = .ok (.aload_n 0, 1) := dk_42 (dk_at dksX4_unprop_3 15 rfl rfl)
theorem dX4_unprop_87 : decode cX4_unprop 87 = .ok (.iconst 1, 1) := dk_4 (dk_at dksX4_unprop_3 16 rfl rfl)
theorem dX4_unprop_88 : decode cX4_unprop 88 = .ok (.invokevirtual 119, 3) := dk_182 0 119 (dk_at dksX4_unprop_3 17 rfl rfl)
theorem dX4_unprop_91 : decode cX4_unprop 91 = .ok (.aload_n 0, 1) := dk_42 (dk_at dksX4_unprop_3 20 rfl rfl)
theorem dX4_unprop_92 : decode cX4_unprop 92 = .ok (.getfield 9, 3) := dk_180 0 9 (dk_at dksX4_unprop_3 21 rfl rfl)
theorem dX4_unprop_95 : decode cX4_unprop 95 = .ok (.sipush 352, 3) := dk_17 1 96 (dk_at dksX4_unprop_4 0 rfl rfl)
theorem dX4_unprop_98 : decode cX4_unprop 98 = .ok (.iaload, 1) := dk_46 (dk_at dksX4_unprop_4 3 rfl rfl)
theorem dX4_unprop_99 : decode cX4_unprop 99 = .ok (.ireturn, 1) := dk_172 (dk_at dksX4_unprop_4 4 rfl rfl)
abbrev cX4_close : ByteArray := prog_24_method_46_code
def yX4_close : MethodName := ⟨RX4, "close", "(I)I"⟩
def dkwX4_close_8 : List UInt8 := [180, 0, 9, 17, 1, 97, 46, 172]
abbrev dktX4_close_8 : List UInt8 := dkwX4_close_8 ++ []
def dkwX4_close_7 : List UInt8 := [96, 46, 182, 0, 119, 42, 180, 0, 9, 17, 1, 0, 29, 96, 3, 79, 132, 3, 1, 167, 255, 204, 42]
abbrev dktX4_close_7 : List UInt8 := dkwX4_close_7 ++ dktX4_close_8
def dkwX4_close_6 : List UInt8 := [182, 0, 74, 153, 0, 37, 42, 180, 0, 9, 3, 29, 96, 5, 79, 42, 42, 180, 0, 9, 17, 1, 0, 29]
abbrev dktX4_close_6 : List UInt8 := dkwX4_close_6 ++ dktX4_close_7
def dkwX4_close_5 : List UInt8 := [180, 0, 9, 17, 1, 97, 92, 46, 28, 100, 79, 3, 62, 29, 16, 64, 162, 0, 52, 42, 29, 27]
abbrev dktX4_close_5 : List UInt8 := dkwX4_close_5 ++ dktX4_close_6
def dkwX4_close_4 : List UInt8 := [182, 0, 98, 153, 0, 5, 3, 172, 42, 182, 0, 116, 42, 180, 0, 9, 17, 1, 72, 27, 96, 4, 79, 42]
abbrev dktX4_close_4 : List UInt8 := dkwX4_close_4 ++ dktX4_close_5
def dkwX4_close_3 : List UInt8 := [164, 0, 7, 4, 167, 0, 4, 3, 16, 10, 28, 182, 0, 105, 153, 0, 7, 4, 167, 0, 4, 3]
abbrev dktX4_close_3 : List UInt8 := dkwX4_close_3 ++ dktX4_close_4
def dkwX4_close_2 : List UInt8 := [167, 0, 4, 3, 16, 6, 27, 182, 0, 105, 154, 0, 30, 42, 28, 42, 180, 0, 9, 17, 1, 97, 46]
abbrev dktX4_close_2 : List UInt8 := dkwX4_close_2 ++ dktX4_close_3
def dkwX4_close_1 : List UInt8 := [27, 182, 0, 155, 61, 42, 5, 42, 42, 180, 0, 9, 17, 1, 72, 27, 96, 46, 4, 160, 0, 7, 4]
abbrev dktX4_close_1 : List UInt8 := dkwX4_close_1 ++ dktX4_close_2
def dkwX4_close_0 : List UInt8 := [42, 4, 42, 27, 182, 0, 148, 154, 0, 7, 4, 167, 0, 4, 3, 182, 0, 98, 153, 0, 5, 3, 172, 42]
abbrev dktX4_close_0 : List UInt8 := dkwX4_close_0 ++ dktX4_close_1
theorem dksX4_close_0 : cX4_close.data.toList.drop 0 = dktX4_close_0 := by decide +kernel
theorem dksX4_close_1 : cX4_close.data.toList.drop 24 = dktX4_close_1 := dk_seg dksX4_close_0 24 rfl rfl
theorem dksX4_close_2 : cX4_close.data.toList.drop 47 = dktX4_close_2 := dk_seg dksX4_close_1 23 rfl rfl
theorem dksX4_close_3 : cX4_close.data.toList.drop 70 = dktX4_close_3 := dk_seg dksX4_close_2 23 rfl rfl
theorem dksX4_close_4 : cX4_close.data.toList.drop 92 = dktX4_close_4 := dk_seg dksX4_close_3 22 rfl rfl
theorem dksX4_close_5 : cX4_close.data.toList.drop 116 = dktX4_close_5 := dk_seg dksX4_close_4 24 rfl rfl
theorem dksX4_close_6 : cX4_close.data.toList.drop 138 = dktX4_close_6 := dk_seg dksX4_close_5 22 rfl rfl
theorem dksX4_close_7 : cX4_close.data.toList.drop 162 = dktX4_close_7 := dk_seg dksX4_close_6 24 rfl rfl
theorem dksX4_close_8 : cX4_close.data.toList.drop 185 = dktX4_close_8 := dk_seg dksX4_close_7 23 rfl rfl
theorem dX4_close_0 : decode cX4_close 0 = .ok (.aload_n 0, 1) := dk_42 (dk_at dksX4_close_0 0 rfl rfl)
theorem dX4_close_1 : decode cX4_close 1 = .ok (.iconst 1, 1) := dk_4 (dk_at dksX4_close_0 1 rfl rfl)
theorem dX4_close_2 : decode cX4_close 2 = .ok (.aload_n 0, 1) := dk_42 (dk_at dksX4_close_0 2 rfl rfl)
theorem dX4_close_3 : decode cX4_close 3 = .ok (.iload_n 1, 1) := dk_27 (dk_at dksX4_close_0 3 rfl rfl)
theorem dX4_close_4 : decode cX4_close 4 = .ok (.invokevirtual 148, 3) := dk_182 0 148 (dk_at dksX4_close_0 4 rfl rfl)
theorem dX4_close_7 : decode cX4_close 7 = .ok (.ifCond .ne 7, 3) := dk_154 0 7 (dk_at dksX4_close_0 7 rfl rfl)
theorem dX4_close_10 : decode cX4_close 10 = .ok (.iconst 1, 1) := dk_4 (dk_at dksX4_close_0 10 rfl rfl)
theorem dX4_close_11 : decode cX4_close 11 = .ok (.goto 4, 3) := dk_167 0 4 (dk_at dksX4_close_0 11 rfl rfl)
theorem dX4_close_14 : decode cX4_close 14 = .ok (.iconst 0, 1) := dk_3 (dk_at dksX4_close_0 14 rfl rfl)
theorem dX4_close_15 : decode cX4_close 15 = .ok (.invokevirtual 98, 3) := dk_182 0 98 (dk_at dksX4_close_0 15 rfl rfl)
theorem dX4_close_18 : decode cX4_close 18 = .ok (.ifCond .eq 5, 3) := dk_153 0 5 (dk_at dksX4_close_0 18 rfl rfl)
theorem dX4_close_21 : decode cX4_close 21 = .ok (.iconst 0, 1) := dk_3 (dk_at dksX4_close_0 21 rfl rfl)
theorem dX4_close_22 : decode cX4_close 22 = .ok (.ireturn, 1) := dk_172 (dk_at dksX4_close_0 22 rfl rfl)
theorem dX4_close_23 : decode cX4_close 23 = .ok (.aload_n 0, 1) := dk_42 (dk_at dksX4_close_0 23 rfl rfl)
theorem dX4_close_24 : decode cX4_close 24 = .ok (.iload_n 1, 1) := dk_27 (dk_at dksX4_close_1 0 rfl rfl)
theorem dX4_close_25 : decode cX4_close 25 = .ok (.invokevirtual 155, 3) := dk_182 0 155 (dk_at dksX4_close_1 1 rfl rfl)
theorem dX4_close_28 : decode cX4_close 28 = .ok (.istore_n 2, 1) := dk_61 (dk_at dksX4_close_1 4 rfl rfl)
theorem dX4_close_29 : decode cX4_close 29 = .ok (.aload_n 0, 1) := dk_42 (dk_at dksX4_close_1 5 rfl rfl)
theorem dX4_close_30 : decode cX4_close 30 = .ok (.iconst 2, 1) := dk_5 (dk_at dksX4_close_1 6 rfl rfl)
theorem dX4_close_31 : decode cX4_close 31 = .ok (.aload_n 0, 1) := dk_42 (dk_at dksX4_close_1 7 rfl rfl)
theorem dX4_close_32 : decode cX4_close 32 = .ok (.aload_n 0, 1) := dk_42 (dk_at dksX4_close_1 8 rfl rfl)
theorem dX4_close_33 : decode cX4_close 33 = .ok (.getfield 9, 3) := dk_180 0 9 (dk_at dksX4_close_1 9 rfl rfl)
theorem dX4_close_36 : decode cX4_close 36 = .ok (.sipush 328, 3) := dk_17 1 72 (dk_at dksX4_close_1 12 rfl rfl)
theorem dX4_close_39 : decode cX4_close 39 = .ok (.iload_n 1, 1) := dk_27 (dk_at dksX4_close_1 15 rfl rfl)
theorem dX4_close_40 : decode cX4_close 40 = .ok (.iadd, 1) := dk_96 (dk_at dksX4_close_1 16 rfl rfl)
theorem dX4_close_41 : decode cX4_close 41 = .ok (.iaload, 1) := dk_46 (dk_at dksX4_close_1 17 rfl rfl)
theorem dX4_close_42 : decode cX4_close 42 = .ok (.iconst 1, 1) := dk_4 (dk_at dksX4_close_1 18 rfl rfl)
theorem dX4_close_43 : decode cX4_close 43 = .ok (.if_icmp .ne 7, 3) := dk_160 0 7 (dk_at dksX4_close_1 19 rfl rfl)
theorem dX4_close_46 : decode cX4_close 46 = .ok (.iconst 1, 1) := dk_4 (dk_at dksX4_close_1 22 rfl rfl)
theorem dX4_close_47 : decode cX4_close 47 = .ok (.goto 4, 3) := dk_167 0 4 (dk_at dksX4_close_2 0 rfl rfl)
theorem dX4_close_50 : decode cX4_close 50 = .ok (.iconst 0, 1) := dk_3 (dk_at dksX4_close_2 3 rfl rfl)
theorem dX4_close_51 : decode cX4_close 51 = .ok (.bipush 6, 2) := dk_16 6 (dk_at dksX4_close_2 4 rfl rfl)
theorem dX4_close_53 : decode cX4_close 53 = .ok (.iload_n 1, 1) := dk_27 (dk_at dksX4_close_2 6 rfl rfl)
theorem dX4_close_54 : decode cX4_close 54 = .ok (.invokevirtual 105, 3) := dk_182 0 105 (dk_at dksX4_close_2 7 rfl rfl)
theorem dX4_close_57 : decode cX4_close 57 = .ok (.ifCond .ne 30, 3) := dk_154 0 30 (dk_at dksX4_close_2 10 rfl rfl)
theorem dX4_close_60 : decode cX4_close 60 = .ok (.aload_n 0, 1) := dk_42 (dk_at dksX4_close_2 13 rfl rfl)
theorem dX4_close_61 : decode cX4_close 61 = .ok (.iload_n 2, 1) := dk_28 (dk_at dksX4_close_2 14 rfl rfl)
theorem dX4_close_62 : decode cX4_close 62 = .ok (.aload_n 0, 1) := dk_42 (dk_at dksX4_close_2 15 rfl rfl)
theorem dX4_close_63 : decode cX4_close 63 = .ok (.getfield 9, 3) := dk_180 0 9 (dk_at dksX4_close_2 16 rfl rfl)
theorem dX4_close_66 : decode cX4_close 66 = .ok (.sipush 353, 3) := dk_17 1 97 (dk_at dksX4_close_2 19 rfl rfl)
theorem dX4_close_69 : decode cX4_close 69 = .ok (.iaload, 1) := dk_46 (dk_at dksX4_close_2 22 rfl rfl)
theorem dX4_close_70 : decode cX4_close 70 = .ok (.if_icmp .le 7, 3) := dk_164 0 7 (dk_at dksX4_close_3 0 rfl rfl)
theorem dX4_close_73 : decode cX4_close 73 = .ok (.iconst 1, 1) := dk_4 (dk_at dksX4_close_3 3 rfl rfl)
theorem dX4_close_74 : decode cX4_close 74 = .ok (.goto 4, 3) := dk_167 0 4 (dk_at dksX4_close_3 4 rfl rfl)
theorem dX4_close_77 : decode cX4_close 77 = .ok (.iconst 0, 1) := dk_3 (dk_at dksX4_close_3 7 rfl rfl)
theorem dX4_close_78 : decode cX4_close 78 = .ok (.bipush 10, 2) := dk_16 10 (dk_at dksX4_close_3 8 rfl rfl)
theorem dX4_close_80 : decode cX4_close 80 = .ok (.iload_n 2, 1) := dk_28 (dk_at dksX4_close_3 10 rfl rfl)
theorem dX4_close_81 : decode cX4_close 81 = .ok (.invokevirtual 105, 3) := dk_182 0 105 (dk_at dksX4_close_3 11 rfl rfl)
theorem dX4_close_84 : decode cX4_close 84 = .ok (.ifCond .eq 7, 3) := dk_153 0 7 (dk_at dksX4_close_3 14 rfl rfl)
theorem dX4_close_87 : decode cX4_close 87 = .ok (.iconst 1, 1) := dk_4 (dk_at dksX4_close_3 17 rfl rfl)
theorem dX4_close_88 : decode cX4_close 88 = .ok (.goto 4, 3) := dk_167 0 4 (dk_at dksX4_close_3 18 rfl rfl)
theorem dX4_close_91 : decode cX4_close 91 = .ok (.iconst 0, 1) := dk_3 (dk_at dksX4_close_3 21 rfl rfl)
theorem dX4_close_92 : decode cX4_close 92 = .ok (.invokevirtual 98, 3) := dk_182 0 98 (dk_at dksX4_close_4 0 rfl rfl)
theorem dX4_close_95 : decode cX4_close 95 = .ok (.ifCond .eq 5, 3) := dk_153 0 5 (dk_at dksX4_close_4 3 rfl rfl)
theorem dX4_close_98 : decode cX4_close 98 = .ok (.iconst 0, 1) := dk_3 (dk_at dksX4_close_4 6 rfl rfl)
theorem dX4_close_99 : decode cX4_close 99 = .ok (.ireturn, 1) := dk_172 (dk_at dksX4_close_4 7 rfl rfl)
theorem dX4_close_100 : decode cX4_close 100 = .ok (.aload_n 0, 1) := dk_42 (dk_at dksX4_close_4 8 rfl rfl)
theorem dX4_close_101 : decode cX4_close 101 = .ok (.invokevirtual 116, 3) := dk_182 0 116 (dk_at dksX4_close_4 9 rfl rfl)
theorem dX4_close_104 : decode cX4_close 104 = .ok (.aload_n 0, 1) := dk_42 (dk_at dksX4_close_4 12 rfl rfl)
theorem dX4_close_105 : decode cX4_close 105 = .ok (.getfield 9, 3) := dk_180 0 9 (dk_at dksX4_close_4 13 rfl rfl)
theorem dX4_close_108 : decode cX4_close 108 = .ok (.sipush 328, 3) := dk_17 1 72 (dk_at dksX4_close_4 16 rfl rfl)
theorem dX4_close_111 : decode cX4_close 111 = .ok (.iload_n 1, 1) := dk_27 (dk_at dksX4_close_4 19 rfl rfl)
theorem dX4_close_112 : decode cX4_close 112 = .ok (.iadd, 1) := dk_96 (dk_at dksX4_close_4 20 rfl rfl)
theorem dX4_close_113 : decode cX4_close 113 = .ok (.iconst 1, 1) := dk_4 (dk_at dksX4_close_4 21 rfl rfl)
theorem dX4_close_114 : decode cX4_close 114 = .ok (.iastore, 1) := dk_79 (dk_at dksX4_close_4 22 rfl rfl)
theorem dX4_close_115 : decode cX4_close 115 = .ok (.aload_n 0, 1) := dk_42 (dk_at dksX4_close_4 23 rfl rfl)
theorem dX4_close_116 : decode cX4_close 116 = .ok (.getfield 9, 3) := dk_180 0 9 (dk_at dksX4_close_5 0 rfl rfl)
theorem dX4_close_119 : decode cX4_close 119 = .ok (.sipush 353, 3) := dk_17 1 97 (dk_at dksX4_close_5 3 rfl rfl)
theorem dX4_close_122 : decode cX4_close 122 = .ok (.dup2, 1) := dk_92 (dk_at dksX4_close_5 6 rfl rfl)
theorem dX4_close_123 : decode cX4_close 123 = .ok (.iaload, 1) := dk_46 (dk_at dksX4_close_5 7 rfl rfl)
theorem dX4_close_124 : decode cX4_close 124 = .ok (.iload_n 2, 1) := dk_28 (dk_at dksX4_close_5 8 rfl rfl)
theorem dX4_close_125 : decode cX4_close 125 = .ok (.isub, 1) := dk_100 (dk_at dksX4_close_5 9 rfl rfl)
theorem dX4_close_126 : decode cX4_close 126 = .ok (.iastore, 1) := dk_79 (dk_at dksX4_close_5 10 rfl rfl)
theorem dX4_close_127 : decode cX4_close 127 = .ok (.iconst 0, 1) := dk_3 (dk_at dksX4_close_5 11 rfl rfl)
theorem dX4_close_128 : decode cX4_close 128 = .ok (.istore_n 3, 1) := dk_62 (dk_at dksX4_close_5 12 rfl rfl)
theorem dX4_close_129 : decode cX4_close 129 = .ok (.iload_n 3, 1) := dk_29 (dk_at dksX4_close_5 13 rfl rfl)
theorem dX4_close_130 : decode cX4_close 130 = .ok (.bipush 64, 2) := dk_16 64 (dk_at dksX4_close_5 14 rfl rfl)
theorem dX4_close_132 : decode cX4_close 132 = .ok (.if_icmp .ge 52, 3) := dk_162 0 52 (dk_at dksX4_close_5 16 rfl rfl)
theorem dX4_close_135 : decode cX4_close 135 = .ok (.aload_n 0, 1) := dk_42 (dk_at dksX4_close_5 19 rfl rfl)
theorem dX4_close_136 : decode cX4_close 136 = .ok (.iload_n 3, 1) := dk_29 (dk_at dksX4_close_5 20 rfl rfl)
theorem dX4_close_137 : decode cX4_close 137 = .ok (.iload_n 1, 1) := dk_27 (dk_at dksX4_close_5 21 rfl rfl)
theorem dX4_close_138 : decode cX4_close 138 = .ok (.invokevirtual 74, 3) := dk_182 0 74 (dk_at dksX4_close_6 0 rfl rfl)
theorem dX4_close_141 : decode cX4_close 141 = .ok (.ifCond .eq 37, 3) := dk_153 0 37 (dk_at dksX4_close_6 3 rfl rfl)
theorem dX4_close_144 : decode cX4_close 144 = .ok (.aload_n 0, 1) := dk_42 (dk_at dksX4_close_6 6 rfl rfl)
theorem dX4_close_145 : decode cX4_close 145 = .ok (.getfield 9, 3) := dk_180 0 9 (dk_at dksX4_close_6 7 rfl rfl)
theorem dX4_close_148 : decode cX4_close 148 = .ok (.iconst 0, 1) := dk_3 (dk_at dksX4_close_6 10 rfl rfl)
theorem dX4_close_149 : decode cX4_close 149 = .ok (.iload_n 3, 1) := dk_29 (dk_at dksX4_close_6 11 rfl rfl)
theorem dX4_close_150 : decode cX4_close 150 = .ok (.iadd, 1) := dk_96 (dk_at dksX4_close_6 12 rfl rfl)
theorem dX4_close_151 : decode cX4_close 151 = .ok (.iconst 2, 1) := dk_5 (dk_at dksX4_close_6 13 rfl rfl)
theorem dX4_close_152 : decode cX4_close 152 = .ok (.iastore, 1) := dk_79 (dk_at dksX4_close_6 14 rfl rfl)
theorem dX4_close_153 : decode cX4_close 153 = .ok (.aload_n 0, 1) := dk_42 (dk_at dksX4_close_6 15 rfl rfl)
theorem dX4_close_154 : decode cX4_close 154 = .ok (.aload_n 0, 1) := dk_42 (dk_at dksX4_close_6 16 rfl rfl)
theorem dX4_close_155 : decode cX4_close 155 = .ok (.getfield 9, 3) := dk_180 0 9 (dk_at dksX4_close_6 17 rfl rfl)
theorem dX4_close_158 : decode cX4_close 158 = .ok (.sipush 256, 3) := dk_17 1 0 (dk_at dksX4_close_6 20 rfl rfl)
theorem dX4_close_161 : decode cX4_close 161 = .ok (.iload_n 3, 1) := dk_29 (dk_at dksX4_close_6 23 rfl rfl)
theorem dX4_close_162 : decode cX4_close 162 = .ok (.iadd, 1) := dk_96 (dk_at dksX4_close_7 0 rfl rfl)
theorem dX4_close_163 : decode cX4_close 163 = .ok (.iaload, 1) := dk_46 (dk_at dksX4_close_7 1 rfl rfl)
theorem dX4_close_164 : decode cX4_close 164 = .ok (.invokevirtual 119, 3) := dk_182 0 119 (dk_at dksX4_close_7 2 rfl rfl)
theorem dX4_close_167 : decode cX4_close 167 = .ok (.aload_n 0, 1) := dk_42 (dk_at dksX4_close_7 5 rfl rfl)
theorem dX4_close_168 : decode cX4_close 168 = .ok (.getfield 9, 3) := dk_180 0 9 (dk_at dksX4_close_7 6 rfl rfl)
theorem dX4_close_171 : decode cX4_close 171 = .ok (.sipush 256, 3) := dk_17 1 0 (dk_at dksX4_close_7 9 rfl rfl)
theorem dX4_close_174 : decode cX4_close 174 = .ok (.iload_n 3, 1) := dk_29 (dk_at dksX4_close_7 12 rfl rfl)
theorem dX4_close_175 : decode cX4_close 175 = .ok (.iadd, 1) := dk_96 (dk_at dksX4_close_7 13 rfl rfl)
theorem dX4_close_176 : decode cX4_close 176 = .ok (.iconst 0, 1) := dk_3 (dk_at dksX4_close_7 14 rfl rfl)
theorem dX4_close_177 : decode cX4_close 177 = .ok (.iastore, 1) := dk_79 (dk_at dksX4_close_7 15 rfl rfl)
theorem dX4_close_178 : decode cX4_close 178 = .ok (.iinc 3 1, 3) := dk_132 3 1 (dk_at dksX4_close_7 16 rfl rfl)
theorem dX4_close_181 : decode cX4_close 181 = .ok (.goto (-52), 3) := dk_167 255 204 (dk_at dksX4_close_7 19 rfl rfl)
theorem dX4_close_184 : decode cX4_close 184 = .ok (.aload_n 0, 1) := dk_42 (dk_at dksX4_close_7 22 rfl rfl)
theorem dX4_close_185 : decode cX4_close 185 = .ok (.getfield 9, 3) := dk_180 0 9 (dk_at dksX4_close_8 0 rfl rfl)
theorem dX4_close_188 : decode cX4_close 188 = .ok (.sipush 353, 3) := dk_17 1 97 (dk_at dksX4_close_8 3 rfl rfl)
theorem dX4_close_191 : decode cX4_close 191 = .ok (.iaload, 1) := dk_46 (dk_at dksX4_close_8 6 rfl rfl)
theorem dX4_close_192 : decode cX4_close 192 = .ok (.ireturn, 1) := dk_172 (dk_at dksX4_close_8 7 rfl rfl)
abbrev cX4_openCells : ByteArray := prog_24_method_45_code
def yX4_openCells : MethodName := ⟨RX4, "openCells", "(I)I"⟩
def dkwX4_openCells_1 : List UInt8 := [3, 96, 61, 132, 3, 1, 167, 255, 230, 28, 172]
abbrev dktX4_openCells_1 : List UInt8 := dkwX4_openCells_1 ++ []
def dkwX4_openCells_0 : List UInt8 := [3, 61, 3, 62, 29, 16, 64, 162, 0, 26, 28, 42, 29, 27, 182, 0, 74, 153, 0, 7, 4, 167, 0, 4]
abbrev dktX4_openCells_0 : List UInt8 := dkwX4_openCells_0 ++ dktX4_openCells_1
theorem dksX4_openCells_0 : cX4_openCells.data.toList.drop 0 = dktX4_openCells_0 := by decide +kernel
theorem dksX4_openCells_1 : cX4_openCells.data.toList.drop 24 = dktX4_openCells_1 := dk_seg dksX4_openCells_0 24 rfl rfl
theorem dX4_openCells_0 : decode cX4_openCells 0 = .ok (.iconst 0, 1) := dk_3 (dk_at dksX4_openCells_0 0 rfl rfl)
theorem dX4_openCells_1 : decode cX4_openCells 1 = .ok (.istore_n 2, 1) := dk_61 (dk_at dksX4_openCells_0 1 rfl rfl)
theorem dX4_openCells_2 : decode cX4_openCells 2 = .ok (.iconst 0, 1) := dk_3 (dk_at dksX4_openCells_0 2 rfl rfl)
theorem dX4_openCells_3 : decode cX4_openCells 3 = .ok (.istore_n 3, 1) := dk_62 (dk_at dksX4_openCells_0 3 rfl rfl)
theorem dX4_openCells_4 : decode cX4_openCells 4 = .ok (.iload_n 3, 1) := dk_29 (dk_at dksX4_openCells_0 4 rfl rfl)
theorem dX4_openCells_5 : decode cX4_openCells 5 = .ok (.bipush 64, 2) := dk_16 64 (dk_at dksX4_openCells_0 5 rfl rfl)
theorem dX4_openCells_7 : decode cX4_openCells 7 = .ok (.if_icmp .ge 26, 3) := dk_162 0 26 (dk_at dksX4_openCells_0 7 rfl rfl)
theorem dX4_openCells_10 : decode cX4_openCells 10 = .ok (.iload_n 2, 1) := dk_28 (dk_at dksX4_openCells_0 10 rfl rfl)
theorem dX4_openCells_11 : decode cX4_openCells 11 = .ok (.aload_n 0, 1) := dk_42 (dk_at dksX4_openCells_0 11 rfl rfl)
theorem dX4_openCells_12 : decode cX4_openCells 12 = .ok (.iload_n 3, 1) := dk_29 (dk_at dksX4_openCells_0 12 rfl rfl)
theorem dX4_openCells_13 : decode cX4_openCells 13 = .ok (.iload_n 1, 1) := dk_27 (dk_at dksX4_openCells_0 13 rfl rfl)
theorem dX4_openCells_14 : decode cX4_openCells 14 = .ok (.invokevirtual 74, 3) := dk_182 0 74 (dk_at dksX4_openCells_0 14 rfl rfl)
theorem dX4_openCells_17 : decode cX4_openCells 17 = .ok (.ifCond .eq 7, 3) := dk_153 0 7 (dk_at dksX4_openCells_0 17 rfl rfl)
theorem dX4_openCells_20 : decode cX4_openCells 20 = .ok (.iconst 1, 1) := dk_4 (dk_at dksX4_openCells_0 20 rfl rfl)
theorem dX4_openCells_21 : decode cX4_openCells 21 = .ok (.goto 4, 3) := dk_167 0 4 (dk_at dksX4_openCells_0 21 rfl rfl)
theorem dX4_openCells_24 : decode cX4_openCells 24 = .ok (.iconst 0, 1) := dk_3 (dk_at dksX4_openCells_1 0 rfl rfl)
theorem dX4_openCells_25 : decode cX4_openCells 25 = .ok (.iadd, 1) := dk_96 (dk_at dksX4_openCells_1 1 rfl rfl)
theorem dX4_openCells_26 : decode cX4_openCells 26 = .ok (.istore_n 2, 1) := dk_61 (dk_at dksX4_openCells_1 2 rfl rfl)
theorem dX4_openCells_27 : decode cX4_openCells 27 = .ok (.iinc 3 1, 3) := dk_132 3 1 (dk_at dksX4_openCells_1 3 rfl rfl)
theorem dX4_openCells_30 : decode cX4_openCells 30 = .ok (.goto (-26), 3) := dk_167 255 230 (dk_at dksX4_openCells_1 6 rfl rfl)
theorem dX4_openCells_33 : decode cX4_openCells 33 = .ok (.iload_n 2, 1) := dk_28 (dk_at dksX4_openCells_1 9 rfl rfl)
theorem dX4_openCells_34 : decode cX4_openCells 34 = .ok (.ireturn, 1) := dk_172 (dk_at dksX4_openCells_1 10 rfl rfl)
abbrev cX4_shaft : ByteArray := prog_24_method_48_code
def yX4_shaft : MethodName := ⟨RX4, "shaft", "(II)I"⟩
def dkwX4_shaft_5 : List UInt8 := [182, 0, 161, 172]
abbrev dktX4_shaft_5 : List UInt8 := dkwX4_shaft_5 ++ []
def dkwX4_shaft_4 : List UInt8 := [27, 96, 46, 172, 42, 27, 182, 0, 158, 172, 42, 180, 0, 9, 17, 1, 72, 27, 96, 46, 172, 42, 27]
abbrev dktX4_shaft_4 : List UInt8 := dkwX4_shaft_4 ++ dktX4_shaft_5
def dkwX4_shaft_3 : List UInt8 := [42, 180, 0, 9, 17, 1, 64, 27, 96, 46, 172, 42, 27, 182, 0, 155, 172, 42, 180, 0, 9, 17, 1, 80]
abbrev dktX4_shaft_3 : List UInt8 := dkwX4_shaft_3 ++ dktX4_shaft_4
def dkwX4_shaft_2 : List UInt8 := [170, 0, 0, 0, 0, 79, 0, 0, 0, 0, 0, 0, 0, 4, 0, 0, 0, 34, 0, 0, 0, 45, 0, 0, 0, 51, 0, 0, 0, 62, 0, 0, 0, 68]
abbrev dktX4_shaft_2 : List UInt8 := dkwX4_shaft_2 ++ dktX4_shaft_3
def dkwX4_shaft_1 : List UInt8 := [3, 8, 184, 0, 62, 154, 0, 7, 4, 167, 0, 4, 3, 182, 0, 98, 153, 0, 5, 3, 172, 28]
abbrev dktX4_shaft_1 : List UInt8 := dkwX4_shaft_1 ++ dktX4_shaft_2
def dkwX4_shaft_0 : List UInt8 := [42, 4, 42, 27, 182, 0, 148, 154, 0, 7, 4, 167, 0, 4, 3, 182, 0, 98, 154, 0, 25, 42, 5, 28]
abbrev dktX4_shaft_0 : List UInt8 := dkwX4_shaft_0 ++ dktX4_shaft_1
theorem dksX4_shaft_0 : cX4_shaft.data.toList.drop 0 = dktX4_shaft_0 := by decide +kernel
theorem dksX4_shaft_1 : cX4_shaft.data.toList.drop 24 = dktX4_shaft_1 := dk_seg dksX4_shaft_0 24 rfl rfl
theorem dksX4_shaft_2 : cX4_shaft.data.toList.drop 46 = dktX4_shaft_2 := dk_seg dksX4_shaft_1 22 rfl rfl
theorem dksX4_shaft_3 : cX4_shaft.data.toList.drop 80 = dktX4_shaft_3 := dk_seg dksX4_shaft_2 34 rfl rfl
theorem dksX4_shaft_4 : cX4_shaft.data.toList.drop 104 = dktX4_shaft_4 := dk_seg dksX4_shaft_3 24 rfl rfl
theorem dksX4_shaft_5 : cX4_shaft.data.toList.drop 127 = dktX4_shaft_5 := dk_seg dksX4_shaft_4 23 rfl rfl
theorem dX4_shaft_0 : decode cX4_shaft 0 = .ok (.aload_n 0, 1) := dk_42 (dk_at dksX4_shaft_0 0 rfl rfl)
theorem dX4_shaft_1 : decode cX4_shaft 1 = .ok (.iconst 1, 1) := dk_4 (dk_at dksX4_shaft_0 1 rfl rfl)
theorem dX4_shaft_2 : decode cX4_shaft 2 = .ok (.aload_n 0, 1) := dk_42 (dk_at dksX4_shaft_0 2 rfl rfl)
theorem dX4_shaft_3 : decode cX4_shaft 3 = .ok (.iload_n 1, 1) := dk_27 (dk_at dksX4_shaft_0 3 rfl rfl)
theorem dX4_shaft_4 : decode cX4_shaft 4 = .ok (.invokevirtual 148, 3) := dk_182 0 148 (dk_at dksX4_shaft_0 4 rfl rfl)
theorem dX4_shaft_7 : decode cX4_shaft 7 = .ok (.ifCond .ne 7, 3) := dk_154 0 7 (dk_at dksX4_shaft_0 7 rfl rfl)
theorem dX4_shaft_10 : decode cX4_shaft 10 = .ok (.iconst 1, 1) := dk_4 (dk_at dksX4_shaft_0 10 rfl rfl)
theorem dX4_shaft_11 : decode cX4_shaft 11 = .ok (.goto 4, 3) := dk_167 0 4 (dk_at dksX4_shaft_0 11 rfl rfl)
theorem dX4_shaft_14 : decode cX4_shaft 14 = .ok (.iconst 0, 1) := dk_3 (dk_at dksX4_shaft_0 14 rfl rfl)
theorem dX4_shaft_15 : decode cX4_shaft 15 = .ok (.invokevirtual 98, 3) := dk_182 0 98 (dk_at dksX4_shaft_0 15 rfl rfl)
theorem dX4_shaft_18 : decode cX4_shaft 18 = .ok (.ifCond .ne 25, 3) := dk_154 0 25 (dk_at dksX4_shaft_0 18 rfl rfl)
theorem dX4_shaft_21 : decode cX4_shaft 21 = .ok (.aload_n 0, 1) := dk_42 (dk_at dksX4_shaft_0 21 rfl rfl)
theorem dX4_shaft_22 : decode cX4_shaft 22 = .ok (.iconst 2, 1) := dk_5 (dk_at dksX4_shaft_0 22 rfl rfl)
theorem dX4_shaft_23 : decode cX4_shaft 23 = .ok (.iload_n 2, 1) := dk_28 (dk_at dksX4_shaft_0 23 rfl rfl)
theorem dX4_shaft_24 : decode cX4_shaft 24 = .ok (.iconst 0, 1) := dk_3 (dk_at dksX4_shaft_1 0 rfl rfl)
theorem dX4_shaft_25 : decode cX4_shaft 25 = .ok (.iconst 5, 1) := dk_8 (dk_at dksX4_shaft_1 1 rfl rfl)
theorem dX4_shaft_26 : decode cX4_shaft 26 = .ok (.invokestatic 62, 3) := dk_184 0 62 (dk_at dksX4_shaft_1 2 rfl rfl)
theorem dX4_shaft_29 : decode cX4_shaft 29 = .ok (.ifCond .ne 7, 3) := dk_154 0 7 (dk_at dksX4_shaft_1 5 rfl rfl)
theorem dX4_shaft_32 : decode cX4_shaft 32 = .ok (.iconst 1, 1) := dk_4 (dk_at dksX4_shaft_1 8 rfl rfl)
theorem dX4_shaft_33 : decode cX4_shaft 33 = .ok (.goto 4, 3) := dk_167 0 4 (dk_at dksX4_shaft_1 9 rfl rfl)
theorem dX4_shaft_36 : decode cX4_shaft 36 = .ok (.iconst 0, 1) := dk_3 (dk_at dksX4_shaft_1 12 rfl rfl)
theorem dX4_shaft_37 : decode cX4_shaft 37 = .ok (.invokevirtual 98, 3) := dk_182 0 98 (dk_at dksX4_shaft_1 13 rfl rfl)
theorem dX4_shaft_40 : decode cX4_shaft 40 = .ok (.ifCond .eq 5, 3) := dk_153 0 5 (dk_at dksX4_shaft_1 16 rfl rfl)
theorem dX4_shaft_43 : decode cX4_shaft 43 = .ok (.iconst 0, 1) := dk_3 (dk_at dksX4_shaft_1 19 rfl rfl)
theorem dX4_shaft_44 : decode cX4_shaft 44 = .ok (.ireturn, 1) := dk_172 (dk_at dksX4_shaft_1 20 rfl rfl)
theorem dX4_shaft_45 : decode cX4_shaft 45 = .ok (.iload_n 2, 1) := dk_28 (dk_at dksX4_shaft_1 21 rfl rfl)
theorem dX4_shaft_46 : decode cX4_shaft 46 = .ok (.tableswitch 79 0 4 #[34, 45, 51, 62, 68], 34) := by decide +kernel
theorem dX4_shaft_80 : decode cX4_shaft 80 = .ok (.aload_n 0, 1) := dk_42 (dk_at dksX4_shaft_3 0 rfl rfl)
theorem dX4_shaft_81 : decode cX4_shaft 81 = .ok (.getfield 9, 3) := dk_180 0 9 (dk_at dksX4_shaft_3 1 rfl rfl)
theorem dX4_shaft_84 : decode cX4_shaft 84 = .ok (.sipush 320, 3) := dk_17 1 64 (dk_at dksX4_shaft_3 4 rfl rfl)
theorem dX4_shaft_87 : decode cX4_shaft 87 = .ok (.iload_n 1, 1) := dk_27 (dk_at dksX4_shaft_3 7 rfl rfl)
theorem dX4_shaft_88 : decode cX4_shaft 88 = .ok (.iadd, 1) := dk_96 (dk_at dksX4_shaft_3 8 rfl rfl)
theorem dX4_shaft_89 : decode cX4_shaft 89 = .ok (.iaload, 1) := dk_46 (dk_at dksX4_shaft_3 9 rfl rfl)
theorem dX4_shaft_90 : decode cX4_shaft 90 = .ok (.ireturn, 1) := dk_172 (dk_at dksX4_shaft_3 10 rfl rfl)
theorem dX4_shaft_91 : decode cX4_shaft 91 = .ok (.aload_n 0, 1) := dk_42 (dk_at dksX4_shaft_3 11 rfl rfl)
theorem dX4_shaft_92 : decode cX4_shaft 92 = .ok (.iload_n 1, 1) := dk_27 (dk_at dksX4_shaft_3 12 rfl rfl)
theorem dX4_shaft_93 : decode cX4_shaft 93 = .ok (.invokevirtual 155, 3) := dk_182 0 155 (dk_at dksX4_shaft_3 13 rfl rfl)
theorem dX4_shaft_96 : decode cX4_shaft 96 = .ok (.ireturn, 1) := dk_172 (dk_at dksX4_shaft_3 16 rfl rfl)
theorem dX4_shaft_97 : decode cX4_shaft 97 = .ok (.aload_n 0, 1) := dk_42 (dk_at dksX4_shaft_3 17 rfl rfl)
theorem dX4_shaft_98 : decode cX4_shaft 98 = .ok (.getfield 9, 3) := dk_180 0 9 (dk_at dksX4_shaft_3 18 rfl rfl)
theorem dX4_shaft_101 : decode cX4_shaft 101 = .ok (.sipush 336, 3) := dk_17 1 80 (dk_at dksX4_shaft_3 21 rfl rfl)
theorem dX4_shaft_104 : decode cX4_shaft 104 = .ok (.iload_n 1, 1) := dk_27 (dk_at dksX4_shaft_4 0 rfl rfl)
theorem dX4_shaft_105 : decode cX4_shaft 105 = .ok (.iadd, 1) := dk_96 (dk_at dksX4_shaft_4 1 rfl rfl)
theorem dX4_shaft_106 : decode cX4_shaft 106 = .ok (.iaload, 1) := dk_46 (dk_at dksX4_shaft_4 2 rfl rfl)
theorem dX4_shaft_107 : decode cX4_shaft 107 = .ok (.ireturn, 1) := dk_172 (dk_at dksX4_shaft_4 3 rfl rfl)
theorem dX4_shaft_108 : decode cX4_shaft 108 = .ok (.aload_n 0, 1) := dk_42 (dk_at dksX4_shaft_4 4 rfl rfl)
theorem dX4_shaft_109 : decode cX4_shaft 109 = .ok (.iload_n 1, 1) := dk_27 (dk_at dksX4_shaft_4 5 rfl rfl)
theorem dX4_shaft_110 : decode cX4_shaft 110 = .ok (.invokevirtual 158, 3) := dk_182 0 158 (dk_at dksX4_shaft_4 6 rfl rfl)
theorem dX4_shaft_113 : decode cX4_shaft 113 = .ok (.ireturn, 1) := dk_172 (dk_at dksX4_shaft_4 9 rfl rfl)
theorem dX4_shaft_114 : decode cX4_shaft 114 = .ok (.aload_n 0, 1) := dk_42 (dk_at dksX4_shaft_4 10 rfl rfl)
theorem dX4_shaft_115 : decode cX4_shaft 115 = .ok (.getfield 9, 3) := dk_180 0 9 (dk_at dksX4_shaft_4 11 rfl rfl)
theorem dX4_shaft_118 : decode cX4_shaft 118 = .ok (.sipush 328, 3) := dk_17 1 72 (dk_at dksX4_shaft_4 14 rfl rfl)
theorem dX4_shaft_121 : decode cX4_shaft 121 = .ok (.iload_n 1, 1) := dk_27 (dk_at dksX4_shaft_4 17 rfl rfl)
theorem dX4_shaft_122 : decode cX4_shaft 122 = .ok (.iadd, 1) := dk_96 (dk_at dksX4_shaft_4 18 rfl rfl)
theorem dX4_shaft_123 : decode cX4_shaft 123 = .ok (.iaload, 1) := dk_46 (dk_at dksX4_shaft_4 19 rfl rfl)
theorem dX4_shaft_124 : decode cX4_shaft 124 = .ok (.ireturn, 1) := dk_172 (dk_at dksX4_shaft_4 20 rfl rfl)
theorem dX4_shaft_125 : decode cX4_shaft 125 = .ok (.aload_n 0, 1) := dk_42 (dk_at dksX4_shaft_4 21 rfl rfl)
theorem dX4_shaft_126 : decode cX4_shaft 126 = .ok (.iload_n 1, 1) := dk_27 (dk_at dksX4_shaft_4 22 rfl rfl)
theorem dX4_shaft_127 : decode cX4_shaft 127 = .ok (.invokevirtual 161, 3) := dk_182 0 161 (dk_at dksX4_shaft_5 0 rfl rfl)
theorem dX4_shaft_130 : decode cX4_shaft 130 = .ok (.ireturn, 1) := dk_172 (dk_at dksX4_shaft_5 3 rfl rfl)
abbrev cX4_propsOf : ByteArray := prog_24_method_47_code
def yX4_propsOf : MethodName := ⟨RX4, "propsOf", "(I)I"⟩
def dkwX4_propsOf_2 : List UInt8 := [167, 255, 216, 28, 172]
abbrev dktX4_propsOf_2 : List UInt8 := dkwX4_propsOf_2 ++ []
def dkwX4_propsOf_1 : List UInt8 := [160, 0, 16, 42, 180, 0, 9, 17, 1, 0, 29, 96, 46, 167, 0, 4, 3, 96, 61, 132, 3, 1]
abbrev dktX4_propsOf_1 : List UInt8 := dkwX4_propsOf_1 ++ dktX4_propsOf_2
def dkwX4_propsOf_0 : List UInt8 := [3, 61, 3, 62, 29, 16, 64, 162, 0, 40, 28, 42, 180, 0, 9, 17, 0, 192, 29, 96, 46, 27]
abbrev dktX4_propsOf_0 : List UInt8 := dkwX4_propsOf_0 ++ dktX4_propsOf_1
theorem dksX4_propsOf_0 : cX4_propsOf.data.toList.drop 0 = dktX4_propsOf_0 := by decide +kernel
theorem dksX4_propsOf_1 : cX4_propsOf.data.toList.drop 22 = dktX4_propsOf_1 := dk_seg dksX4_propsOf_0 22 rfl rfl
theorem dksX4_propsOf_2 : cX4_propsOf.data.toList.drop 44 = dktX4_propsOf_2 := dk_seg dksX4_propsOf_1 22 rfl rfl
theorem dX4_propsOf_0 : decode cX4_propsOf 0 = .ok (.iconst 0, 1) := dk_3 (dk_at dksX4_propsOf_0 0 rfl rfl)
theorem dX4_propsOf_1 : decode cX4_propsOf 1 = .ok (.istore_n 2, 1) := dk_61 (dk_at dksX4_propsOf_0 1 rfl rfl)
theorem dX4_propsOf_2 : decode cX4_propsOf 2 = .ok (.iconst 0, 1) := dk_3 (dk_at dksX4_propsOf_0 2 rfl rfl)
theorem dX4_propsOf_3 : decode cX4_propsOf 3 = .ok (.istore_n 3, 1) := dk_62 (dk_at dksX4_propsOf_0 3 rfl rfl)
theorem dX4_propsOf_4 : decode cX4_propsOf 4 = .ok (.iload_n 3, 1) := dk_29 (dk_at dksX4_propsOf_0 4 rfl rfl)
theorem dX4_propsOf_5 : decode cX4_propsOf 5 = .ok (.bipush 64, 2) := dk_16 64 (dk_at dksX4_propsOf_0 5 rfl rfl)
theorem dX4_propsOf_7 : decode cX4_propsOf 7 = .ok (.if_icmp .ge 40, 3) := dk_162 0 40 (dk_at dksX4_propsOf_0 7 rfl rfl)
theorem dX4_propsOf_10 : decode cX4_propsOf 10 = .ok (.iload_n 2, 1) := dk_28 (dk_at dksX4_propsOf_0 10 rfl rfl)
theorem dX4_propsOf_11 : decode cX4_propsOf 11 = .ok (.aload_n 0, 1) := dk_42 (dk_at dksX4_propsOf_0 11 rfl rfl)
theorem dX4_propsOf_12 : decode cX4_propsOf 12 = .ok (.getfield 9, 3) := dk_180 0 9 (dk_at dksX4_propsOf_0 12 rfl rfl)
theorem dX4_propsOf_15 : decode cX4_propsOf 15 = .ok (.sipush 192, 3) := dk_17 0 192 (dk_at dksX4_propsOf_0 15 rfl rfl)
theorem dX4_propsOf_18 : decode cX4_propsOf 18 = .ok (.iload_n 3, 1) := dk_29 (dk_at dksX4_propsOf_0 18 rfl rfl)
theorem dX4_propsOf_19 : decode cX4_propsOf 19 = .ok (.iadd, 1) := dk_96 (dk_at dksX4_propsOf_0 19 rfl rfl)
theorem dX4_propsOf_20 : decode cX4_propsOf 20 = .ok (.iaload, 1) := dk_46 (dk_at dksX4_propsOf_0 20 rfl rfl)
theorem dX4_propsOf_21 : decode cX4_propsOf 21 = .ok (.iload_n 1, 1) := dk_27 (dk_at dksX4_propsOf_0 21 rfl rfl)
theorem dX4_propsOf_22 : decode cX4_propsOf 22 = .ok (.if_icmp .ne 16, 3) := dk_160 0 16 (dk_at dksX4_propsOf_1 0 rfl rfl)
theorem dX4_propsOf_25 : decode cX4_propsOf 25 = .ok (.aload_n 0, 1) := dk_42 (dk_at dksX4_propsOf_1 3 rfl rfl)
theorem dX4_propsOf_26 : decode cX4_propsOf 26 = .ok (.getfield 9, 3) := dk_180 0 9 (dk_at dksX4_propsOf_1 4 rfl rfl)
theorem dX4_propsOf_29 : decode cX4_propsOf 29 = .ok (.sipush 256, 3) := dk_17 1 0 (dk_at dksX4_propsOf_1 7 rfl rfl)
theorem dX4_propsOf_32 : decode cX4_propsOf 32 = .ok (.iload_n 3, 1) := dk_29 (dk_at dksX4_propsOf_1 10 rfl rfl)
theorem dX4_propsOf_33 : decode cX4_propsOf 33 = .ok (.iadd, 1) := dk_96 (dk_at dksX4_propsOf_1 11 rfl rfl)
theorem dX4_propsOf_34 : decode cX4_propsOf 34 = .ok (.iaload, 1) := dk_46 (dk_at dksX4_propsOf_1 12 rfl rfl)
theorem dX4_propsOf_35 : decode cX4_propsOf 35 = .ok (.goto 4, 3) := dk_167 0 4 (dk_at dksX4_propsOf_1 13 rfl rfl)
theorem dX4_propsOf_38 : decode cX4_propsOf 38 = .ok (.iconst 0, 1) := dk_3 (dk_at dksX4_propsOf_1 16 rfl rfl)
theorem dX4_propsOf_39 : decode cX4_propsOf 39 = .ok (.iadd, 1) := dk_96 (dk_at dksX4_propsOf_1 17 rfl rfl)
theorem dX4_propsOf_40 : decode cX4_propsOf 40 = .ok (.istore_n 2, 1) := dk_61 (dk_at dksX4_propsOf_1 18 rfl rfl)
theorem dX4_propsOf_41 : decode cX4_propsOf 41 = .ok (.iinc 3 1, 3) := dk_132 3 1 (dk_at dksX4_propsOf_1 19 rfl rfl)
theorem dX4_propsOf_44 : decode cX4_propsOf 44 = .ok (.goto (-40), 3) := dk_167 255 216 (dk_at dksX4_propsOf_2 0 rfl rfl)
theorem dX4_propsOf_47 : decode cX4_propsOf 47 = .ok (.iload_n 2, 1) := dk_28 (dk_at dksX4_propsOf_2 3 rfl rfl)
theorem dX4_propsOf_48 : decode cX4_propsOf 48 = .ok (.ireturn, 1) := dk_172 (dk_at dksX4_propsOf_2 4 rfl rfl)
abbrev cX4_countReached : ByteArray := prog_24_method_56_code
def yX4_countReached : MethodName := ⟨RX4, "countReached", "(I)I"⟩
def dkwX4_countReached_7 : List UInt8 := [132, 3, 1, 167, 255, 176, 28, 172]
abbrev dktX4_countReached_7 : List UInt8 := dkwX4_countReached_7 ++ []
def dkwX4_countReached_6 : List UInt8 := [180, 0, 21, 21, 5, 4, 79, 42, 180, 0, 24, 28, 21, 5, 79, 132, 2, 1, 132, 4, 1, 167, 255, 190]
abbrev dktX4_countReached_6 : List UInt8 := dkwX4_countReached_6 ++ dktX4_countReached_7
def dkwX4_countReached_5 : List UInt8 := [155, 0, 42, 42, 180, 0, 21, 21, 5, 46, 154, 0, 32, 42, 21, 5, 27, 182, 0, 170, 153, 0, 22, 42]
abbrev dktX4_countReached_5 : List UInt8 := dkwX4_countReached_5 ++ dktX4_countReached_6
def dkwX4_countReached_4 : List UInt8 := [54, 4, 21, 4, 7, 162, 0, 66, 42, 180, 0, 24, 29, 46, 21, 4, 184, 0, 70, 54, 5, 21, 5]
abbrev dktX4_countReached_4 : List UInt8 := dkwX4_countReached_4 ++ dktX4_countReached_5
def dkwX4_countReached_3 : List UInt8 := [180, 0, 24, 28, 29, 79, 132, 2, 1, 132, 3, 1, 167, 255, 178, 3, 62, 29, 28, 162, 0, 81, 3]
abbrev dktX4_countReached_3 : List UInt8 := dkwX4_countReached_3 ++ dktX4_countReached_4
def dkwX4_countReached_2 : List UInt8 := [42, 180, 0, 21, 29, 21, 4, 153, 0, 7, 4, 167, 0, 4, 3, 79, 21, 4, 153, 0, 13, 42]
abbrev dktX4_countReached_2 : List UInt8 := dkwX4_countReached_2 ++ dktX4_countReached_3
def dkwX4_countReached_1 : List UInt8 := [29, 27, 182, 0, 78, 153, 0, 16, 42, 29, 27, 182, 0, 170, 153, 0, 7, 4, 167, 0, 4, 3, 54, 4]
abbrev dktX4_countReached_1 : List UInt8 := dkwX4_countReached_1 ++ dktX4_countReached_2
def dkwX4_countReached_0 : List UInt8 := [3, 61, 3, 62, 29, 16, 64, 162, 0, 78, 42, 180, 0, 9, 17, 1, 72, 27, 96, 46, 154, 0, 25, 42]
abbrev dktX4_countReached_0 : List UInt8 := dkwX4_countReached_0 ++ dktX4_countReached_1
theorem dksX4_countReached_0 : cX4_countReached.data.toList.drop 0 = dktX4_countReached_0 := by decide +kernel
theorem dksX4_countReached_1 : cX4_countReached.data.toList.drop 24 = dktX4_countReached_1 := dk_seg dksX4_countReached_0 24 rfl rfl
theorem dksX4_countReached_2 : cX4_countReached.data.toList.drop 48 = dktX4_countReached_2 := dk_seg dksX4_countReached_1 24 rfl rfl
theorem dksX4_countReached_3 : cX4_countReached.data.toList.drop 70 = dktX4_countReached_3 := dk_seg dksX4_countReached_2 22 rfl rfl
theorem dksX4_countReached_4 : cX4_countReached.data.toList.drop 93 = dktX4_countReached_4 := dk_seg dksX4_countReached_3 23 rfl rfl
theorem dksX4_countReached_5 : cX4_countReached.data.toList.drop 116 = dktX4_countReached_5 := dk_seg dksX4_countReached_4 23 rfl rfl
theorem dksX4_countReached_6 : cX4_countReached.data.toList.drop 140 = dktX4_countReached_6 := dk_seg dksX4_countReached_5 24 rfl rfl
theorem dksX4_countReached_7 : cX4_countReached.data.toList.drop 164 = dktX4_countReached_7 := dk_seg dksX4_countReached_6 24 rfl rfl
theorem dX4_countReached_0 : decode cX4_countReached 0 = .ok (.iconst 0, 1) := dk_3 (dk_at dksX4_countReached_0 0 rfl rfl)
theorem dX4_countReached_1 : decode cX4_countReached 1 = .ok (.istore_n 2, 1) := dk_61 (dk_at dksX4_countReached_0 1 rfl rfl)
theorem dX4_countReached_2 : decode cX4_countReached 2 = .ok (.iconst 0, 1) := dk_3 (dk_at dksX4_countReached_0 2 rfl rfl)
theorem dX4_countReached_3 : decode cX4_countReached 3 = .ok (.istore_n 3, 1) := dk_62 (dk_at dksX4_countReached_0 3 rfl rfl)
theorem dX4_countReached_4 : decode cX4_countReached 4 = .ok (.iload_n 3, 1) := dk_29 (dk_at dksX4_countReached_0 4 rfl rfl)
theorem dX4_countReached_5 : decode cX4_countReached 5 = .ok (.bipush 64, 2) := dk_16 64 (dk_at dksX4_countReached_0 5 rfl rfl)
theorem dX4_countReached_7 : decode cX4_countReached 7 = .ok (.if_icmp .ge 78, 3) := dk_162 0 78 (dk_at dksX4_countReached_0 7 rfl rfl)
theorem dX4_countReached_10 : decode cX4_countReached 10 = .ok (.aload_n 0, 1) := dk_42 (dk_at dksX4_countReached_0 10 rfl rfl)
theorem dX4_countReached_11 : decode cX4_countReached 11 = .ok (.getfield 9, 3) := dk_180 0 9 (dk_at dksX4_countReached_0 11 rfl rfl)
theorem dX4_countReached_14 : decode cX4_countReached 14 = .ok (.sipush 328, 3) := dk_17 1 72 (dk_at dksX4_countReached_0 14 rfl rfl)
theorem dX4_countReached_17 : decode cX4_countReached 17 = .ok (.iload_n 1, 1) := dk_27 (dk_at dksX4_countReached_0 17 rfl rfl)
theorem dX4_countReached_18 : decode cX4_countReached 18 = .ok (.iadd, 1) := dk_96 (dk_at dksX4_countReached_0 18 rfl rfl)
theorem dX4_countReached_19 : decode cX4_countReached 19 = .ok (.iaload, 1) := dk_46 (dk_at dksX4_countReached_0 19 rfl rfl)
theorem dX4_countReached_20 : decode cX4_countReached 20 = .ok (.ifCond .ne 25, 3) := dk_154 0 25 (dk_at dksX4_countReached_0 20 rfl rfl)
theorem dX4_countReached_23 : decode cX4_countReached 23 = .ok (.aload_n 0, 1) := dk_42 (dk_at dksX4_countReached_0 23 rfl rfl)
theorem dX4_countReached_24 : decode cX4_countReached 24 = .ok (.iload_n 3, 1) := dk_29 (dk_at dksX4_countReached_1 0 rfl rfl)
theorem dX4_countReached_25 : decode cX4_countReached 25 = .ok (.iload_n 1, 1) := dk_27 (dk_at dksX4_countReached_1 1 rfl rfl)
theorem dX4_countReached_26 : decode cX4_countReached 26 = .ok (.invokevirtual 78, 3) := dk_182 0 78 (dk_at dksX4_countReached_1 2 rfl rfl)
theorem dX4_countReached_29 : decode cX4_countReached 29 = .ok (.ifCond .eq 16, 3) := dk_153 0 16 (dk_at dksX4_countReached_1 5 rfl rfl)
theorem dX4_countReached_32 : decode cX4_countReached 32 = .ok (.aload_n 0, 1) := dk_42 (dk_at dksX4_countReached_1 8 rfl rfl)
theorem dX4_countReached_33 : decode cX4_countReached 33 = .ok (.iload_n 3, 1) := dk_29 (dk_at dksX4_countReached_1 9 rfl rfl)
theorem dX4_countReached_34 : decode cX4_countReached 34 = .ok (.iload_n 1, 1) := dk_27 (dk_at dksX4_countReached_1 10 rfl rfl)
theorem dX4_countReached_35 : decode cX4_countReached 35 = .ok (.invokevirtual 170, 3) := dk_182 0 170 (dk_at dksX4_countReached_1 11 rfl rfl)
theorem dX4_countReached_38 : decode cX4_countReached 38 = .ok (.ifCond .eq 7, 3) := dk_153 0 7 (dk_at dksX4_countReached_1 14 rfl rfl)
theorem dX4_countReached_41 : decode cX4_countReached 41 = .ok (.iconst 1, 1) := dk_4 (dk_at dksX4_countReached_1 17 rfl rfl)
theorem dX4_countReached_42 : decode cX4_countReached 42 = .ok (.goto 4, 3) := dk_167 0 4 (dk_at dksX4_countReached_1 18 rfl rfl)
theorem dX4_countReached_45 : decode cX4_countReached 45 = .ok (.iconst 0, 1) := dk_3 (dk_at dksX4_countReached_1 21 rfl rfl)
theorem dX4_countReached_46 : decode cX4_countReached 46 = .ok (.istore 4, 2) := dk_54 4 (dk_at dksX4_countReached_1 22 rfl rfl)
theorem dX4_countReached_48 : decode cX4_countReached 48 = .ok (.aload_n 0, 1) := dk_42 (dk_at dksX4_countReached_2 0 rfl rfl)
theorem dX4_countReached_49 : decode cX4_countReached 49 = .ok (.getfield 21, 3) := dk_180 0 21 (dk_at dksX4_countReached_2 1 rfl rfl)
theorem dX4_countReached_52 : decode cX4_countReached 52 = .ok (.iload_n 3, 1) := dk_29 (dk_at dksX4_countReached_2 4 rfl rfl)
theorem dX4_countReached_53 : decode cX4_countReached 53 = .ok (.iload 4, 2) := dk_21 4 (dk_at dksX4_countReached_2 5 rfl rfl)
theorem dX4_countReached_55 : decode cX4_countReached 55 = .ok (.ifCond .eq 7, 3) := dk_153 0 7 (dk_at dksX4_countReached_2 7 rfl rfl)
theorem dX4_countReached_58 : decode cX4_countReached 58 = .ok (.iconst 1, 1) := dk_4 (dk_at dksX4_countReached_2 10 rfl rfl)
theorem dX4_countReached_59 : decode cX4_countReached 59 = .ok (.goto 4, 3) := dk_167 0 4 (dk_at dksX4_countReached_2 11 rfl rfl)
theorem dX4_countReached_62 : decode cX4_countReached 62 = .ok (.iconst 0, 1) := dk_3 (dk_at dksX4_countReached_2 14 rfl rfl)
theorem dX4_countReached_63 : decode cX4_countReached 63 = .ok (.iastore, 1) := dk_79 (dk_at dksX4_countReached_2 15 rfl rfl)
theorem dX4_countReached_64 : decode cX4_countReached 64 = .ok (.iload 4, 2) := dk_21 4 (dk_at dksX4_countReached_2 16 rfl rfl)
theorem dX4_countReached_66 : decode cX4_countReached 66 = .ok (.ifCond .eq 13, 3) := dk_153 0 13 (dk_at dksX4_countReached_2 18 rfl rfl)
theorem dX4_countReached_69 : decode cX4_countReached 69 = .ok (.aload_n 0, 1) := dk_42 (dk_at dksX4_countReached_2 21 rfl rfl)
theorem dX4_countReached_70 : decode cX4_countReached 70 = .ok (.getfield 24, 3) := dk_180 0 24 (dk_at dksX4_countReached_3 0 rfl rfl)
theorem dX4_countReached_73 : decode cX4_countReached 73 = .ok (.iload_n 2, 1) := dk_28 (dk_at dksX4_countReached_3 3 rfl rfl)
theorem dX4_countReached_74 : decode cX4_countReached 74 = .ok (.iload_n 3, 1) := dk_29 (dk_at dksX4_countReached_3 4 rfl rfl)
theorem dX4_countReached_75 : decode cX4_countReached 75 = .ok (.iastore, 1) := dk_79 (dk_at dksX4_countReached_3 5 rfl rfl)
theorem dX4_countReached_76 : decode cX4_countReached 76 = .ok (.iinc 2 1, 3) := dk_132 2 1 (dk_at dksX4_countReached_3 6 rfl rfl)
theorem dX4_countReached_79 : decode cX4_countReached 79 = .ok (.iinc 3 1, 3) := dk_132 3 1 (dk_at dksX4_countReached_3 9 rfl rfl)
theorem dX4_countReached_82 : decode cX4_countReached 82 = .ok (.goto (-78), 3) := dk_167 255 178 (dk_at dksX4_countReached_3 12 rfl rfl)
theorem dX4_countReached_85 : decode cX4_countReached 85 = .ok (.iconst 0, 1) := dk_3 (dk_at dksX4_countReached_3 15 rfl rfl)
theorem dX4_countReached_86 : decode cX4_countReached 86 = .ok (.istore_n 3, 1) := dk_62 (dk_at dksX4_countReached_3 16 rfl rfl)
theorem dX4_countReached_87 : decode cX4_countReached 87 = .ok (.iload_n 3, 1) := dk_29 (dk_at dksX4_countReached_3 17 rfl rfl)
theorem dX4_countReached_88 : decode cX4_countReached 88 = .ok (.iload_n 2, 1) := dk_28 (dk_at dksX4_countReached_3 18 rfl rfl)
theorem dX4_countReached_89 : decode cX4_countReached 89 = .ok (.if_icmp .ge 81, 3) := dk_162 0 81 (dk_at dksX4_countReached_3 19 rfl rfl)
theorem dX4_countReached_92 : decode cX4_countReached 92 = .ok (.iconst 0, 1) := dk_3 (dk_at dksX4_countReached_3 22 rfl rfl)
theorem dX4_countReached_93 : decode cX4_countReached 93 = .ok (.istore 4, 2) := dk_54 4 (dk_at dksX4_countReached_4 0 rfl rfl)
theorem dX4_countReached_95 : decode cX4_countReached 95 = .ok (.iload 4, 2) := dk_21 4 (dk_at dksX4_countReached_4 2 rfl rfl)
theorem dX4_countReached_97 : decode cX4_countReached 97 = .ok (.iconst 4, 1) := dk_7 (dk_at dksX4_countReached_4 4 rfl rfl)
theorem dX4_countReached_98 : decode cX4_countReached 98 = .ok (.if_icmp .ge 66, 3) := dk_162 0 66 (dk_at dksX4_countReached_4 5 rfl rfl)
theorem dX4_countReached_101 : decode cX4_countReached 101 = .ok (.aload_n 0, 1) := dk_42 (dk_at dksX4_countReached_4 8 rfl rfl)
theorem dX4_countReached_102 : decode cX4_countReached 102 = .ok (.getfield 24, 3) := dk_180 0 24 (dk_at dksX4_countReached_4 9 rfl rfl)
theorem dX4_countReached_105 : decode cX4_countReached 105 = .ok (.iload_n 3, 1) := dk_29 (dk_at dksX4_countReached_4 12 rfl rfl)
theorem dX4_countReached_106 : decode cX4_countReached 106 = .ok (.iaload, 1) := dk_46 (dk_at dksX4_countReached_4 13 rfl rfl)
theorem dX4_countReached_107 : decode cX4_countReached 107 = .ok (.iload 4, 2) := dk_21 4 (dk_at dksX4_countReached_4 14 rfl rfl)
theorem dX4_countReached_109 : decode cX4_countReached 109 = .ok (.invokestatic 70, 3) := dk_184 0 70 (dk_at dksX4_countReached_4 16 rfl rfl)
theorem dX4_countReached_112 : decode cX4_countReached 112 = .ok (.istore 5, 2) := dk_54 5 (dk_at dksX4_countReached_4 19 rfl rfl)
theorem dX4_countReached_114 : decode cX4_countReached 114 = .ok (.iload 5, 2) := dk_21 5 (dk_at dksX4_countReached_4 21 rfl rfl)
theorem dX4_countReached_116 : decode cX4_countReached 116 = .ok (.ifCond .lt 42, 3) := dk_155 0 42 (dk_at dksX4_countReached_5 0 rfl rfl)
theorem dX4_countReached_119 : decode cX4_countReached 119 = .ok (.aload_n 0, 1) := dk_42 (dk_at dksX4_countReached_5 3 rfl rfl)
theorem dX4_countReached_120 : decode cX4_countReached 120 = .ok (.getfield 21, 3) := dk_180 0 21 (dk_at dksX4_countReached_5 4 rfl rfl)
theorem dX4_countReached_123 : decode cX4_countReached 123 = .ok (.iload 5, 2) := dk_21 5 (dk_at dksX4_countReached_5 7 rfl rfl)
theorem dX4_countReached_125 : decode cX4_countReached 125 = .ok (.iaload, 1) := dk_46 (dk_at dksX4_countReached_5 9 rfl rfl)
theorem dX4_countReached_126 : decode cX4_countReached 126 = .ok (.ifCond .ne 32, 3) := dk_154 0 32 (dk_at dksX4_countReached_5 10 rfl rfl)
theorem dX4_countReached_129 : decode cX4_countReached 129 = .ok (.aload_n 0, 1) := dk_42 (dk_at dksX4_countReached_5 13 rfl rfl)
theorem dX4_countReached_130 : decode cX4_countReached 130 = .ok (.iload 5, 2) := dk_21 5 (dk_at dksX4_countReached_5 14 rfl rfl)
theorem dX4_countReached_132 : decode cX4_countReached 132 = .ok (.iload_n 1, 1) := dk_27 (dk_at dksX4_countReached_5 16 rfl rfl)
theorem dX4_countReached_133 : decode cX4_countReached 133 = .ok (.invokevirtual 170, 3) := dk_182 0 170 (dk_at dksX4_countReached_5 17 rfl rfl)
theorem dX4_countReached_136 : decode cX4_countReached 136 = .ok (.ifCond .eq 22, 3) := dk_153 0 22 (dk_at dksX4_countReached_5 20 rfl rfl)
theorem dX4_countReached_139 : decode cX4_countReached 139 = .ok (.aload_n 0, 1) := dk_42 (dk_at dksX4_countReached_5 23 rfl rfl)
theorem dX4_countReached_140 : decode cX4_countReached 140 = .ok (.getfield 21, 3) := dk_180 0 21 (dk_at dksX4_countReached_6 0 rfl rfl)
theorem dX4_countReached_143 : decode cX4_countReached 143 = .ok (.iload 5, 2) := dk_21 5 (dk_at dksX4_countReached_6 3 rfl rfl)
theorem dX4_countReached_145 : decode cX4_countReached 145 = .ok (.iconst 1, 1) := dk_4 (dk_at dksX4_countReached_6 5 rfl rfl)
theorem dX4_countReached_146 : decode cX4_countReached 146 = .ok (.iastore, 1) := dk_79 (dk_at dksX4_countReached_6 6 rfl rfl)
theorem dX4_countReached_147 : decode cX4_countReached 147 = .ok (.aload_n 0, 1) := dk_42 (dk_at dksX4_countReached_6 7 rfl rfl)
theorem dX4_countReached_148 : decode cX4_countReached 148 = .ok (.getfield 24, 3) := dk_180 0 24 (dk_at dksX4_countReached_6 8 rfl rfl)
theorem dX4_countReached_151 : decode cX4_countReached 151 = .ok (.iload_n 2, 1) := dk_28 (dk_at dksX4_countReached_6 11 rfl rfl)
theorem dX4_countReached_152 : decode cX4_countReached 152 = .ok (.iload 5, 2) := dk_21 5 (dk_at dksX4_countReached_6 12 rfl rfl)
theorem dX4_countReached_154 : decode cX4_countReached 154 = .ok (.iastore, 1) := dk_79 (dk_at dksX4_countReached_6 14 rfl rfl)
theorem dX4_countReached_155 : decode cX4_countReached 155 = .ok (.iinc 2 1, 3) := dk_132 2 1 (dk_at dksX4_countReached_6 15 rfl rfl)
theorem dX4_countReached_158 : decode cX4_countReached 158 = .ok (.iinc 4 1, 3) := dk_132 4 1 (dk_at dksX4_countReached_6 18 rfl rfl)
theorem dX4_countReached_161 : decode cX4_countReached 161 = .ok (.goto (-66), 3) := dk_167 255 190 (dk_at dksX4_countReached_6 21 rfl rfl)
theorem dX4_countReached_164 : decode cX4_countReached 164 = .ok (.iinc 3 1, 3) := dk_132 3 1 (dk_at dksX4_countReached_7 0 rfl rfl)
theorem dX4_countReached_167 : decode cX4_countReached 167 = .ok (.goto (-80), 3) := dk_167 255 176 (dk_at dksX4_countReached_7 3 rfl rfl)
theorem dX4_countReached_170 : decode cX4_countReached 170 = .ok (.iload_n 2, 1) := dk_28 (dk_at dksX4_countReached_7 6 rfl rfl)
theorem dX4_countReached_171 : decode cX4_countReached 171 = .ok (.ireturn, 1) := dk_172 (dk_at dksX4_countReached_7 7 rfl rfl)
abbrev cX4_isFree : ByteArray := prog_24_method_52_code
def yX4_isFree : MethodName := ⟨RX4, "isFree", "(II)Z"⟩
def dkwX4_isFree_0 : List UInt8 := [42, 27, 182, 0, 102, 153, 0, 16, 42, 27, 28, 182, 0, 126, 156, 0, 7, 4, 167, 0, 4, 3, 172]
abbrev dktX4_isFree_0 : List UInt8 := dkwX4_isFree_0 ++ []
theorem dksX4_isFree_0 : cX4_isFree.data.toList.drop 0 = dktX4_isFree_0 := by decide +kernel
theorem dX4_isFree_0 : decode cX4_isFree 0 = .ok (.aload_n 0, 1) := dk_42 (dk_at dksX4_isFree_0 0 rfl rfl)
theorem dX4_isFree_1 : decode cX4_isFree 1 = .ok (.iload_n 1, 1) := dk_27 (dk_at dksX4_isFree_0 1 rfl rfl)
theorem dX4_isFree_2 : decode cX4_isFree 2 = .ok (.invokevirtual 102, 3) := dk_182 0 102 (dk_at dksX4_isFree_0 2 rfl rfl)
theorem dX4_isFree_5 : decode cX4_isFree 5 = .ok (.ifCond .eq 16, 3) := dk_153 0 16 (dk_at dksX4_isFree_0 5 rfl rfl)
theorem dX4_isFree_8 : decode cX4_isFree 8 = .ok (.aload_n 0, 1) := dk_42 (dk_at dksX4_isFree_0 8 rfl rfl)
theorem dX4_isFree_9 : decode cX4_isFree 9 = .ok (.iload_n 1, 1) := dk_27 (dk_at dksX4_isFree_0 9 rfl rfl)
theorem dX4_isFree_10 : decode cX4_isFree 10 = .ok (.iload_n 2, 1) := dk_28 (dk_at dksX4_isFree_0 10 rfl rfl)
theorem dX4_isFree_11 : decode cX4_isFree 11 = .ok (.invokevirtual 126, 3) := dk_182 0 126 (dk_at dksX4_isFree_0 11 rfl rfl)
theorem dX4_isFree_14 : decode cX4_isFree 14 = .ok (.ifCond .ge 7, 3) := dk_156 0 7 (dk_at dksX4_isFree_0 14 rfl rfl)
theorem dX4_isFree_17 : decode cX4_isFree 17 = .ok (.iconst 1, 1) := dk_4 (dk_at dksX4_isFree_0 17 rfl rfl)
theorem dX4_isFree_18 : decode cX4_isFree 18 = .ok (.goto 4, 3) := dk_167 0 4 (dk_at dksX4_isFree_0 18 rfl rfl)
theorem dX4_isFree_21 : decode cX4_isFree 21 = .ok (.iconst 0, 1) := dk_3 (dk_at dksX4_isFree_0 21 rfl rfl)
theorem dX4_isFree_22 : decode cX4_isFree 22 = .ok (.ireturn, 1) := dk_172 (dk_at dksX4_isFree_0 22 rfl rfl)
abbrev cX4_best : ByteArray := prog_24_method_51_code
def yX4_best : MethodName := ⟨RX4, "best", "(I)I"⟩
def dkwX4_best_4 : List UInt8 := [153, 0, 7, 3, 167, 0, 4, 28, 172]
abbrev dktX4_best_4 : List UInt8 := dkwX4_best_4 ++ []
def dkwX4_best_3 : List UInt8 := [28, 61, 132, 3, 1, 167, 255, 206, 42, 5, 28, 156, 0, 7, 4, 167, 0, 4, 3, 182, 0, 98]
abbrev dktX4_best_3 : List UInt8 := dkwX4_best_3 ++ dktX4_best_4
def dkwX4_best_2 : List UInt8 := [29, 182, 0, 164, 153, 0, 20, 28, 155, 0, 12, 42, 29, 28, 182, 0, 167, 153, 0, 7, 29, 167, 0, 4]
abbrev dktX4_best_2 : List UInt8 := dkwX4_best_2 ++ dktX4_best_3
def dkwX4_best_1 : List UInt8 := [61, 3, 62, 29, 16, 64, 162, 0, 50, 42, 180, 0, 9, 17, 1, 72, 27, 96, 46, 154, 0, 37, 42, 27]
abbrev dktX4_best_1 : List UInt8 := dkwX4_best_1 ++ dktX4_best_2
def dkwX4_best_0 : List UInt8 := [42, 4, 42, 27, 182, 0, 148, 154, 0, 7, 4, 167, 0, 4, 3, 182, 0, 98, 153, 0, 5, 3, 172, 2]
abbrev dktX4_best_0 : List UInt8 := dkwX4_best_0 ++ dktX4_best_1
theorem dksX4_best_0 : cX4_best.data.toList.drop 0 = dktX4_best_0 := by decide +kernel
theorem dksX4_best_1 : cX4_best.data.toList.drop 24 = dktX4_best_1 := dk_seg dksX4_best_0 24 rfl rfl
theorem dksX4_best_2 : cX4_best.data.toList.drop 48 = dktX4_best_2 := dk_seg dksX4_best_1 24 rfl rfl
theorem dksX4_best_3 : cX4_best.data.toList.drop 72 = dktX4_best_3 := dk_seg dksX4_best_2 24 rfl rfl
theorem dksX4_best_4 : cX4_best.data.toList.drop 94 = dktX4_best_4 := dk_seg dksX4_best_3 22 rfl rfl
theorem dX4_best_0 : decode cX4_best 0 = .ok (.aload_n 0, 1) := dk_42 (dk_at dksX4_best_0 0 rfl rfl)
theorem dX4_best_1 : decode cX4_best 1 = .ok (.iconst 1, 1) := dk_4 (dk_at dksX4_best_0 1 rfl rfl)
theorem dX4_best_2 : decode cX4_best 2 = .ok (.aload_n 0, 1) := dk_42 (dk_at dksX4_best_0 2 rfl rfl)
theorem dX4_best_3 : decode cX4_best 3 = .ok (.iload_n 1, 1) := dk_27 (dk_at dksX4_best_0 3 rfl rfl)
theorem dX4_best_4 : decode cX4_best 4 = .ok (.invokevirtual 148, 3) := dk_182 0 148 (dk_at dksX4_best_0 4 rfl rfl)
theorem dX4_best_7 : decode cX4_best 7 = .ok (.ifCond .ne 7, 3) := dk_154 0 7 (dk_at dksX4_best_0 7 rfl rfl)
theorem dX4_best_10 : decode cX4_best 10 = .ok (.iconst 1, 1) := dk_4 (dk_at dksX4_best_0 10 rfl rfl)
theorem dX4_best_11 : decode cX4_best 11 = .ok (.goto 4, 3) := dk_167 0 4 (dk_at dksX4_best_0 11 rfl rfl)
theorem dX4_best_14 : decode cX4_best 14 = .ok (.iconst 0, 1) := dk_3 (dk_at dksX4_best_0 14 rfl rfl)
theorem dX4_best_15 : decode cX4_best 15 = .ok (.invokevirtual 98, 3) := dk_182 0 98 (dk_at dksX4_best_0 15 rfl rfl)
theorem dX4_best_18 : decode cX4_best 18 = .ok (.ifCond .eq 5, 3) := dk_153 0 5 (dk_at dksX4_best_0 18 rfl rfl)
theorem dX4_best_21 : decode cX4_best 21 = .ok (.iconst 0, 1) := dk_3 (dk_at dksX4_best_0 21 rfl rfl)
theorem dX4_best_22 : decode cX4_best 22 = .ok (.ireturn, 1) := dk_172 (dk_at dksX4_best_0 22 rfl rfl)
theorem dX4_best_23 : decode cX4_best 23 = .ok (.iconst (-1), 1) := dk_2 (dk_at dksX4_best_0 23 rfl rfl)
theorem dX4_best_24 : decode cX4_best 24 = .ok (.istore_n 2, 1) := dk_61 (dk_at dksX4_best_1 0 rfl rfl)
theorem dX4_best_25 : decode cX4_best 25 = .ok (.iconst 0, 1) := dk_3 (dk_at dksX4_best_1 1 rfl rfl)
theorem dX4_best_26 : decode cX4_best 26 = .ok (.istore_n 3, 1) := dk_62 (dk_at dksX4_best_1 2 rfl rfl)
theorem dX4_best_27 : decode cX4_best 27 = .ok (.iload_n 3, 1) := dk_29 (dk_at dksX4_best_1 3 rfl rfl)
theorem dX4_best_28 : decode cX4_best 28 = .ok (.bipush 64, 2) := dk_16 64 (dk_at dksX4_best_1 4 rfl rfl)
theorem dX4_best_30 : decode cX4_best 30 = .ok (.if_icmp .ge 50, 3) := dk_162 0 50 (dk_at dksX4_best_1 6 rfl rfl)
theorem dX4_best_33 : decode cX4_best 33 = .ok (.aload_n 0, 1) := dk_42 (dk_at dksX4_best_1 9 rfl rfl)
theorem dX4_best_34 : decode cX4_best 34 = .ok (.getfield 9, 3) := dk_180 0 9 (dk_at dksX4_best_1 10 rfl rfl)
theorem dX4_best_37 : decode cX4_best 37 = .ok (.sipush 328, 3) := dk_17 1 72 (dk_at dksX4_best_1 13 rfl rfl)
theorem dX4_best_40 : decode cX4_best 40 = .ok (.iload_n 1, 1) := dk_27 (dk_at dksX4_best_1 16 rfl rfl)
theorem dX4_best_41 : decode cX4_best 41 = .ok (.iadd, 1) := dk_96 (dk_at dksX4_best_1 17 rfl rfl)
theorem dX4_best_42 : decode cX4_best 42 = .ok (.iaload, 1) := dk_46 (dk_at dksX4_best_1 18 rfl rfl)
theorem dX4_best_43 : decode cX4_best 43 = .ok (.ifCond .ne 37, 3) := dk_154 0 37 (dk_at dksX4_best_1 19 rfl rfl)
theorem dX4_best_46 : decode cX4_best 46 = .ok (.aload_n 0, 1) := dk_42 (dk_at dksX4_best_1 22 rfl rfl)
theorem dX4_best_47 : decode cX4_best 47 = .ok (.iload_n 1, 1) := dk_27 (dk_at dksX4_best_1 23 rfl rfl)
theorem dX4_best_48 : decode cX4_best 48 = .ok (.iload_n 3, 1) := dk_29 (dk_at dksX4_best_2 0 rfl rfl)
theorem dX4_best_49 : decode cX4_best 49 = .ok (.invokevirtual 164, 3) := dk_182 0 164 (dk_at dksX4_best_2 1 rfl rfl)
theorem dX4_best_52 : decode cX4_best 52 = .ok (.ifCond .eq 20, 3) := dk_153 0 20 (dk_at dksX4_best_2 4 rfl rfl)
theorem dX4_best_55 : decode cX4_best 55 = .ok (.iload_n 2, 1) := dk_28 (dk_at dksX4_best_2 7 rfl rfl)
theorem dX4_best_56 : decode cX4_best 56 = .ok (.ifCond .lt 12, 3) := dk_155 0 12 (dk_at dksX4_best_2 8 rfl rfl)
theorem dX4_best_59 : decode cX4_best 59 = .ok (.aload_n 0, 1) := dk_42 (dk_at dksX4_best_2 11 rfl rfl)
theorem dX4_best_60 : decode cX4_best 60 = .ok (.iload_n 3, 1) := dk_29 (dk_at dksX4_best_2 12 rfl rfl)
theorem dX4_best_61 : decode cX4_best 61 = .ok (.iload_n 2, 1) := dk_28 (dk_at dksX4_best_2 13 rfl rfl)
theorem dX4_best_62 : decode cX4_best 62 = .ok (.invokevirtual 167, 3) := dk_182 0 167 (dk_at dksX4_best_2 14 rfl rfl)
theorem dX4_best_65 : decode cX4_best 65 = .ok (.ifCond .eq 7, 3) := dk_153 0 7 (dk_at dksX4_best_2 17 rfl rfl)
theorem dX4_best_68 : decode cX4_best 68 = .ok (.iload_n 3, 1) := dk_29 (dk_at dksX4_best_2 20 rfl rfl)
theorem dX4_best_69 : decode cX4_best 69 = .ok (.goto 4, 3) := dk_167 0 4 (dk_at dksX4_best_2 21 rfl rfl)
theorem dX4_best_72 : decode cX4_best 72 = .ok (.iload_n 2, 1) := dk_28 (dk_at dksX4_best_3 0 rfl rfl)
theorem dX4_best_73 : decode cX4_best 73 = .ok (.istore_n 2, 1) := dk_61 (dk_at dksX4_best_3 1 rfl rfl)
theorem dX4_best_74 : decode cX4_best 74 = .ok (.iinc 3 1, 3) := dk_132 3 1 (dk_at dksX4_best_3 2 rfl rfl)
theorem dX4_best_77 : decode cX4_best 77 = .ok (.goto (-50), 3) := dk_167 255 206 (dk_at dksX4_best_3 5 rfl rfl)
theorem dX4_best_80 : decode cX4_best 80 = .ok (.aload_n 0, 1) := dk_42 (dk_at dksX4_best_3 8 rfl rfl)
theorem dX4_best_81 : decode cX4_best 81 = .ok (.iconst 2, 1) := dk_5 (dk_at dksX4_best_3 9 rfl rfl)
theorem dX4_best_82 : decode cX4_best 82 = .ok (.iload_n 2, 1) := dk_28 (dk_at dksX4_best_3 10 rfl rfl)
theorem dX4_best_83 : decode cX4_best 83 = .ok (.ifCond .ge 7, 3) := dk_156 0 7 (dk_at dksX4_best_3 11 rfl rfl)
theorem dX4_best_86 : decode cX4_best 86 = .ok (.iconst 1, 1) := dk_4 (dk_at dksX4_best_3 14 rfl rfl)
theorem dX4_best_87 : decode cX4_best 87 = .ok (.goto 4, 3) := dk_167 0 4 (dk_at dksX4_best_3 15 rfl rfl)
theorem dX4_best_90 : decode cX4_best 90 = .ok (.iconst 0, 1) := dk_3 (dk_at dksX4_best_3 18 rfl rfl)
theorem dX4_best_91 : decode cX4_best 91 = .ok (.invokevirtual 98, 3) := dk_182 0 98 (dk_at dksX4_best_3 19 rfl rfl)
theorem dX4_best_94 : decode cX4_best 94 = .ok (.ifCond .eq 7, 3) := dk_153 0 7 (dk_at dksX4_best_4 0 rfl rfl)
theorem dX4_best_97 : decode cX4_best 97 = .ok (.iconst 0, 1) := dk_3 (dk_at dksX4_best_4 3 rfl rfl)
theorem dX4_best_98 : decode cX4_best 98 = .ok (.goto 4, 3) := dk_167 0 4 (dk_at dksX4_best_4 4 rfl rfl)
theorem dX4_best_101 : decode cX4_best 101 = .ok (.iload_n 2, 1) := dk_28 (dk_at dksX4_best_4 7 rfl rfl)
theorem dX4_best_102 : decode cX4_best 102 = .ok (.ireturn, 1) := dk_172 (dk_at dksX4_best_4 8 rfl rfl)
abbrev cX4_isDiggable : ByteArray := prog_24_method_49_code
def yX4_isDiggable : MethodName := ⟨RX4, "isDiggable", "(II)Z"⟩
def dkwX4_isDiggable_3 : List UInt8 := [172]
abbrev dktX4_isDiggable_3 : List UInt8 := dkwX4_isDiggable_3 ++ []
def dkwX4_isDiggable_2 : List UInt8 := [17, 1, 99, 46, 163, 0, 19, 42, 42, 28, 182, 0, 109, 182, 0, 129, 155, 0, 7, 4, 167, 0, 4, 3]
abbrev dktX4_isDiggable_2 : List UInt8 := dkwX4_isDiggable_2 ++ dktX4_isDiggable_3
def dkwX4_isDiggable_1 : List UInt8 := [156, 0, 7, 4, 167, 0, 4, 3, 62, 29, 153, 0, 35, 42, 28, 182, 0, 91, 42, 180, 0, 9]
abbrev dktX4_isDiggable_1 : List UInt8 := dkwX4_isDiggable_1 ++ dktX4_isDiggable_2
def dkwX4_isDiggable_0 : List UInt8 := [42, 28, 182, 0, 102, 153, 0, 25, 42, 28, 27, 182, 0, 78, 153, 0, 16, 42, 28, 27, 182, 0, 126]
abbrev dktX4_isDiggable_0 : List UInt8 := dkwX4_isDiggable_0 ++ dktX4_isDiggable_1
theorem dksX4_isDiggable_0 : cX4_isDiggable.data.toList.drop 0 = dktX4_isDiggable_0 := by decide +kernel
theorem dksX4_isDiggable_1 : cX4_isDiggable.data.toList.drop 23 = dktX4_isDiggable_1 := dk_seg dksX4_isDiggable_0 23 rfl rfl
theorem dksX4_isDiggable_2 : cX4_isDiggable.data.toList.drop 45 = dktX4_isDiggable_2 := dk_seg dksX4_isDiggable_1 22 rfl rfl
theorem dksX4_isDiggable_3 : cX4_isDiggable.data.toList.drop 69 = dktX4_isDiggable_3 := dk_seg dksX4_isDiggable_2 24 rfl rfl
theorem dX4_isDiggable_0 : decode cX4_isDiggable 0 = .ok (.aload_n 0, 1) := dk_42 (dk_at dksX4_isDiggable_0 0 rfl rfl)
theorem dX4_isDiggable_1 : decode cX4_isDiggable 1 = .ok (.iload_n 2, 1) := dk_28 (dk_at dksX4_isDiggable_0 1 rfl rfl)
theorem dX4_isDiggable_2 : decode cX4_isDiggable 2 = .ok (.invokevirtual 102, 3) := dk_182 0 102 (dk_at dksX4_isDiggable_0 2 rfl rfl)
theorem dX4_isDiggable_5 : decode cX4_isDiggable 5 = .ok (.ifCond .eq 25, 3) := dk_153 0 25 (dk_at dksX4_isDiggable_0 5 rfl rfl)
theorem dX4_isDiggable_8 : decode cX4_isDiggable 8 = .ok (.aload_n 0, 1) := dk_42 (dk_at dksX4_isDiggable_0 8 rfl rfl)
theorem dX4_isDiggable_9 : decode cX4_isDiggable 9 = .ok (.iload_n 2, 1) := dk_28 (dk_at dksX4_isDiggable_0 9 rfl rfl)
theorem dX4_isDiggable_10 : decode cX4_isDiggable 10 = .ok (.iload_n 1, 1) := dk_27 (dk_at dksX4_isDiggable_0 10 rfl rfl)
theorem dX4_isDiggable_11 : decode cX4_isDiggable 11 = .ok (.invokevirtual 78, 3) := dk_182 0 78 (dk_at dksX4_isDiggable_0 11 rfl rfl)
theorem dX4_isDiggable_14 : decode cX4_isDiggable 14 = .ok (.ifCond .eq 16, 3) := dk_153 0 16 (dk_at dksX4_isDiggable_0 14 rfl rfl)
theorem dX4_isDiggable_17 : decode cX4_isDiggable 17 = .ok (.aload_n 0, 1) := dk_42 (dk_at dksX4_isDiggable_0 17 rfl rfl)
theorem dX4_isDiggable_18 : decode cX4_isDiggable 18 = .ok (.iload_n 2, 1) := dk_28 (dk_at dksX4_isDiggable_0 18 rfl rfl)
theorem dX4_isDiggable_19 : decode cX4_isDiggable 19 = .ok (.iload_n 1, 1) := dk_27 (dk_at dksX4_isDiggable_0 19 rfl rfl)
theorem dX4_isDiggable_20 : decode cX4_isDiggable 20 = .ok (.invokevirtual 126, 3) := dk_182 0 126 (dk_at dksX4_isDiggable_0 20 rfl rfl)
theorem dX4_isDiggable_23 : decode cX4_isDiggable 23 = .ok (.ifCond .ge 7, 3) := dk_156 0 7 (dk_at dksX4_isDiggable_1 0 rfl rfl)
theorem dX4_isDiggable_26 : decode cX4_isDiggable 26 = .ok (.iconst 1, 1) := dk_4 (dk_at dksX4_isDiggable_1 3 rfl rfl)
theorem dX4_isDiggable_27 : decode cX4_isDiggable 27 = .ok (.goto 4, 3) := dk_167 0 4 (dk_at dksX4_isDiggable_1 4 rfl rfl)
theorem dX4_isDiggable_30 : decode cX4_isDiggable 30 = .ok (.iconst 0, 1) := dk_3 (dk_at dksX4_isDiggable_1 7 rfl rfl)
theorem dX4_isDiggable_31 : decode cX4_isDiggable 31 = .ok (.istore_n 3, 1) := dk_62 (dk_at dksX4_isDiggable_1 8 rfl rfl)
theorem dX4_isDiggable_32 : decode cX4_isDiggable 32 = .ok (.iload_n 3, 1) := dk_29 (dk_at dksX4_isDiggable_1 9 rfl rfl)
theorem dX4_isDiggable_33 : decode cX4_isDiggable 33 = .ok (.ifCond .eq 35, 3) := dk_153 0 35 (dk_at dksX4_isDiggable_1 10 rfl rfl)
theorem dX4_isDiggable_36 : decode cX4_isDiggable 36 = .ok (.aload_n 0, 1) := dk_42 (dk_at dksX4_isDiggable_1 13 rfl rfl)
theorem dX4_isDiggable_37 : decode cX4_isDiggable 37 = .ok (.iload_n 2, 1) := dk_28 (dk_at dksX4_isDiggable_1 14 rfl rfl)
theorem dX4_isDiggable_38 : decode cX4_isDiggable 38 = .ok (.invokevirtual 91, 3) := dk_182 0 91 (dk_at dksX4_isDiggable_1 15 rfl rfl)
theorem dX4_isDiggable_41 : decode cX4_isDiggable 41 = .ok (.aload_n 0, 1) := dk_42 (dk_at dksX4_isDiggable_1 18 rfl rfl)
theorem dX4_isDiggable_42 : decode cX4_isDiggable 42 = .ok (.getfield 9, 3) := dk_180 0 9 (dk_at dksX4_isDiggable_1 19 rfl rfl)
theorem dX4_isDiggable_45 : decode cX4_isDiggable 45 = .ok (.sipush 355, 3) := dk_17 1 99 (dk_at dksX4_isDiggable_2 0 rfl rfl)
theorem dX4_isDiggable_48 : decode cX4_isDiggable 48 = .ok (.iaload, 1) := dk_46 (dk_at dksX4_isDiggable_2 3 rfl rfl)
theorem dX4_isDiggable_49 : decode cX4_isDiggable 49 = .ok (.if_icmp .gt 19, 3) := dk_163 0 19 (dk_at dksX4_isDiggable_2 4 rfl rfl)
theorem dX4_isDiggable_52 : decode cX4_isDiggable 52 = .ok (.aload_n 0, 1) := dk_42 (dk_at dksX4_isDiggable_2 7 rfl rfl)
theorem dX4_isDiggable_53 : decode cX4_isDiggable 53 = .ok (.aload_n 0, 1) := dk_42 (dk_at dksX4_isDiggable_2 8 rfl rfl)
theorem dX4_isDiggable_54 : decode cX4_isDiggable 54 = .ok (.iload_n 2, 1) := dk_28 (dk_at dksX4_isDiggable_2 9 rfl rfl)
theorem dX4_isDiggable_55 : decode cX4_isDiggable 55 = .ok (.invokevirtual 109, 3) := dk_182 0 109 (dk_at dksX4_isDiggable_2 10 rfl rfl)
theorem dX4_isDiggable_58 : decode cX4_isDiggable 58 = .ok (.invokevirtual 129, 3) := dk_182 0 129 (dk_at dksX4_isDiggable_2 13 rfl rfl)
theorem dX4_isDiggable_61 : decode cX4_isDiggable 61 = .ok (.ifCond .lt 7, 3) := dk_155 0 7 (dk_at dksX4_isDiggable_2 16 rfl rfl)
theorem dX4_isDiggable_64 : decode cX4_isDiggable 64 = .ok (.iconst 1, 1) := dk_4 (dk_at dksX4_isDiggable_2 19 rfl rfl)
theorem dX4_isDiggable_65 : decode cX4_isDiggable 65 = .ok (.goto 4, 3) := dk_167 0 4 (dk_at dksX4_isDiggable_2 20 rfl rfl)
theorem dX4_isDiggable_68 : decode cX4_isDiggable 68 = .ok (.iconst 0, 1) := dk_3 (dk_at dksX4_isDiggable_2 23 rfl rfl)
theorem dX4_isDiggable_69 : decode cX4_isDiggable 69 = .ok (.ireturn, 1) := dk_172 (dk_at dksX4_isDiggable_3 0 rfl rfl)
abbrev cX4_isBetter : ByteArray := prog_24_method_50_code
def yX4_isBetter : MethodName := ⟨RX4, "isBetter", "(II)Z"⟩
def dkwX4_isBetter_2 : List UInt8 := [28, 182, 0, 109, 162, 0, 7, 4, 167, 0, 4, 3, 172]
abbrev dktX4_isBetter_2 : List UInt8 := dkwX4_isBetter_2 ++ []
def dkwX4_isBetter_1 : List UInt8 := [96, 46, 42, 27, 182, 0, 109, 104, 100, 62, 29, 157, 0, 20, 29, 154, 0, 20, 42, 27, 182, 0, 109, 42]
abbrev dktX4_isBetter_1 : List UInt8 := dkwX4_isBetter_1 ++ dktX4_isBetter_2
def dkwX4_isBetter_0 : List UInt8 := [42, 180, 0, 9, 17, 0, 128, 27, 96, 46, 42, 28, 182, 0, 109, 104, 42, 180, 0, 9, 17, 0, 128, 28]
abbrev dktX4_isBetter_0 : List UInt8 := dkwX4_isBetter_0 ++ dktX4_isBetter_1
theorem dksX4_isBetter_0 : cX4_isBetter.data.toList.drop 0 = dktX4_isBetter_0 := by decide +kernel
theorem dksX4_isBetter_1 : cX4_isBetter.data.toList.drop 24 = dktX4_isBetter_1 := dk_seg dksX4_isBetter_0 24 rfl rfl
theorem dksX4_isBetter_2 : cX4_isBetter.data.toList.drop 48 = dktX4_isBetter_2 := dk_seg dksX4_isBetter_1 24 rfl rfl
theorem dX4_isBetter_0 : decode cX4_isBetter 0 = .ok (.aload_n 0, 1) := dk_42 (dk_at dksX4_isBetter_0 0 rfl rfl)
theorem dX4_isBetter_1 : decode cX4_isBetter 1 = .ok (.getfield 9, 3) := dk_180 0 9 (dk_at dksX4_isBetter_0 1 rfl rfl)
theorem dX4_isBetter_4 : decode cX4_isBetter 4 = .ok (.sipush 128, 3) := dk_17 0 128 (dk_at dksX4_isBetter_0 4 rfl rfl)
theorem dX4_isBetter_7 : decode cX4_isBetter 7 = .ok (.iload_n 1, 1) := dk_27 (dk_at dksX4_isBetter_0 7 rfl rfl)
theorem dX4_isBetter_8 : decode cX4_isBetter 8 = .ok (.iadd, 1) := dk_96 (dk_at dksX4_isBetter_0 8 rfl rfl)
theorem dX4_isBetter_9 : decode cX4_isBetter 9 = .ok (.iaload, 1) := dk_46 (dk_at dksX4_isBetter_0 9 rfl rfl)
theorem dX4_isBetter_10 : decode cX4_isBetter 10 = .ok (.aload_n 0, 1) := dk_42 (dk_at dksX4_isBetter_0 10 rfl rfl)
theorem dX4_isBetter_11 : decode cX4_isBetter 11 = .ok (.iload_n 2, 1) := dk_28 (dk_at dksX4_isBetter_0 11 rfl rfl)
theorem dX4_isBetter_12 : decode cX4_isBetter 12 = .ok (.invokevirtual 109, 3) := dk_182 0 109 (dk_at dksX4_isBetter_0 12 rfl rfl)
theorem dX4_isBetter_15 : decode cX4_isBetter 15 = .ok (.imul, 1) := dk_104 (dk_at dksX4_isBetter_0 15 rfl rfl)
theorem dX4_isBetter_16 : decode cX4_isBetter 16 = .ok (.aload_n 0, 1) := dk_42 (dk_at dksX4_isBetter_0 16 rfl rfl)
theorem dX4_isBetter_17 : decode cX4_isBetter 17 = .ok (.getfield 9, 3) := dk_180 0 9 (dk_at dksX4_isBetter_0 17 rfl rfl)
theorem dX4_isBetter_20 : decode cX4_isBetter 20 = .ok (.sipush 128, 3) := dk_17 0 128 (dk_at dksX4_isBetter_0 20 rfl rfl)
theorem dX4_isBetter_23 : decode cX4_isBetter 23 = .ok (.iload_n 2, 1) := dk_28 (dk_at dksX4_isBetter_0 23 rfl rfl)
theorem dX4_isBetter_24 : decode cX4_isBetter 24 = .ok (.iadd, 1) := dk_96 (dk_at dksX4_isBetter_1 0 rfl rfl)
theorem dX4_isBetter_25 : decode cX4_isBetter 25 = .ok (.iaload, 1) := dk_46 (dk_at dksX4_isBetter_1 1 rfl rfl)
theorem dX4_isBetter_26 : decode cX4_isBetter 26 = .ok (.aload_n 0, 1) := dk_42 (dk_at dksX4_isBetter_1 2 rfl rfl)
theorem dX4_isBetter_27 : decode cX4_isBetter 27 = .ok (.iload_n 1, 1) := dk_27 (dk_at dksX4_isBetter_1 3 rfl rfl)
theorem dX4_isBetter_28 : decode cX4_isBetter 28 = .ok (.invokevirtual 109, 3) := dk_182 0 109 (dk_at dksX4_isBetter_1 4 rfl rfl)
theorem dX4_isBetter_31 : decode cX4_isBetter 31 = .ok (.imul, 1) := dk_104 (dk_at dksX4_isBetter_1 7 rfl rfl)
theorem dX4_isBetter_32 : decode cX4_isBetter 32 = .ok (.isub, 1) := dk_100 (dk_at dksX4_isBetter_1 8 rfl rfl)
theorem dX4_isBetter_33 : decode cX4_isBetter 33 = .ok (.istore_n 3, 1) := dk_62 (dk_at dksX4_isBetter_1 9 rfl rfl)
theorem dX4_isBetter_34 : decode cX4_isBetter 34 = .ok (.iload_n 3, 1) := dk_29 (dk_at dksX4_isBetter_1 10 rfl rfl)
theorem dX4_isBetter_35 : decode cX4_isBetter 35 = .ok (.ifCond .gt 20, 3) := dk_157 0 20 (dk_at dksX4_isBetter_1 11 rfl rfl)
theorem dX4_isBetter_38 : decode cX4_isBetter 38 = .ok (.iload_n 3, 1) := dk_29 (dk_at dksX4_isBetter_1 14 rfl rfl)
theorem dX4_isBetter_39 : decode cX4_isBetter 39 = .ok (.ifCond .ne 20, 3) := dk_154 0 20 (dk_at dksX4_isBetter_1 15 rfl rfl)
theorem dX4_isBetter_42 : decode cX4_isBetter 42 = .ok (.aload_n 0, 1) := dk_42 (dk_at dksX4_isBetter_1 18 rfl rfl)
theorem dX4_isBetter_43 : decode cX4_isBetter 43 = .ok (.iload_n 1, 1) := dk_27 (dk_at dksX4_isBetter_1 19 rfl rfl)
theorem dX4_isBetter_44 : decode cX4_isBetter 44 = .ok (.invokevirtual 109, 3) := dk_182 0 109 (dk_at dksX4_isBetter_1 20 rfl rfl)
theorem dX4_isBetter_47 : decode cX4_isBetter 47 = .ok (.aload_n 0, 1) := dk_42 (dk_at dksX4_isBetter_1 23 rfl rfl)
theorem dX4_isBetter_48 : decode cX4_isBetter 48 = .ok (.iload_n 2, 1) := dk_28 (dk_at dksX4_isBetter_2 0 rfl rfl)
theorem dX4_isBetter_49 : decode cX4_isBetter 49 = .ok (.invokevirtual 109, 3) := dk_182 0 109 (dk_at dksX4_isBetter_2 1 rfl rfl)
theorem dX4_isBetter_52 : decode cX4_isBetter 52 = .ok (.if_icmp .ge 7, 3) := dk_162 0 7 (dk_at dksX4_isBetter_2 4 rfl rfl)
theorem dX4_isBetter_55 : decode cX4_isBetter 55 = .ok (.iconst 1, 1) := dk_4 (dk_at dksX4_isBetter_2 7 rfl rfl)
theorem dX4_isBetter_56 : decode cX4_isBetter 56 = .ok (.goto 4, 3) := dk_167 0 4 (dk_at dksX4_isBetter_2 8 rfl rfl)
theorem dX4_isBetter_59 : decode cX4_isBetter 59 = .ok (.iconst 0, 1) := dk_3 (dk_at dksX4_isBetter_2 11 rfl rfl)
theorem dX4_isBetter_60 : decode cX4_isBetter 60 = .ok (.ireturn, 1) := dk_172 (dk_at dksX4_isBetter_2 12 rfl rfl)
abbrev cX4_way : ByteArray := prog_24_method_58_code
def yX4_way : MethodName := ⟨RX4, "way", "(II)I"⟩
def dkwX4_way_0 : List UInt8 := [42, 27, 28, 182, 0, 179, 62, 29, 156, 0, 7, 3, 167, 0, 9, 42, 180, 0, 21, 29, 46, 172]
abbrev dktX4_way_0 : List UInt8 := dkwX4_way_0 ++ []
theorem dksX4_way_0 : cX4_way.data.toList.drop 0 = dktX4_way_0 := by decide +kernel
theorem dX4_way_0 : decode cX4_way 0 = .ok (.aload_n 0, 1) := dk_42 (dk_at dksX4_way_0 0 rfl rfl)
theorem dX4_way_1 : decode cX4_way 1 = .ok (.iload_n 1, 1) := dk_27 (dk_at dksX4_way_0 1 rfl rfl)
theorem dX4_way_2 : decode cX4_way 2 = .ok (.iload_n 2, 1) := dk_28 (dk_at dksX4_way_0 2 rfl rfl)
theorem dX4_way_3 : decode cX4_way 3 = .ok (.invokevirtual 179, 3) := dk_182 0 179 (dk_at dksX4_way_0 3 rfl rfl)
theorem dX4_way_6 : decode cX4_way 6 = .ok (.istore_n 3, 1) := dk_62 (dk_at dksX4_way_0 6 rfl rfl)
theorem dX4_way_7 : decode cX4_way 7 = .ok (.iload_n 3, 1) := dk_29 (dk_at dksX4_way_0 7 rfl rfl)
theorem dX4_way_8 : decode cX4_way 8 = .ok (.ifCond .ge 7, 3) := dk_156 0 7 (dk_at dksX4_way_0 8 rfl rfl)
theorem dX4_way_11 : decode cX4_way 11 = .ok (.iconst 0, 1) := dk_3 (dk_at dksX4_way_0 11 rfl rfl)
theorem dX4_way_12 : decode cX4_way 12 = .ok (.goto 9, 3) := dk_167 0 9 (dk_at dksX4_way_0 12 rfl rfl)
theorem dX4_way_15 : decode cX4_way 15 = .ok (.aload_n 0, 1) := dk_42 (dk_at dksX4_way_0 15 rfl rfl)
theorem dX4_way_16 : decode cX4_way 16 = .ok (.getfield 21, 3) := dk_180 0 21 (dk_at dksX4_way_0 16 rfl rfl)
theorem dX4_way_19 : decode cX4_way 19 = .ok (.iload_n 3, 1) := dk_29 (dk_at dksX4_way_0 19 rfl rfl)
theorem dX4_way_20 : decode cX4_way 20 = .ok (.iaload, 1) := dk_46 (dk_at dksX4_way_0 20 rfl rfl)
theorem dX4_way_21 : decode cX4_way 21 = .ok (.ireturn, 1) := dk_172 (dk_at dksX4_way_0 21 rfl rfl)
abbrev cX4_wayFor : ByteArray := prog_24_method_57_code
def yX4_wayFor : MethodName := ⟨RX4, "wayFor", "(II)I"⟩
def dkwX4_wayFor_2 : List UInt8 := [156, 0, 7, 4, 167, 0, 4, 3, 182, 0, 98, 87, 29, 172]
abbrev dktX4_wayFor_2 : List UInt8 := dkwX4_wayFor_2 ++ []
def dkwX4_wayFor_1 : List UInt8 := [182, 0, 98, 153, 0, 5, 2, 172, 42, 27, 28, 182, 0, 173, 42, 27, 182, 0, 176, 62, 42, 5, 29]
abbrev dktX4_wayFor_1 : List UInt8 := dkwX4_wayFor_1 ++ dktX4_wayFor_2
def dkwX4_wayFor_0 : List UInt8 := [42, 4, 42, 27, 182, 0, 148, 153, 0, 10, 28, 184, 0, 95, 154, 0, 7, 4, 167, 0, 4, 3]
abbrev dktX4_wayFor_0 : List UInt8 := dkwX4_wayFor_0 ++ dktX4_wayFor_1
theorem dksX4_wayFor_0 : cX4_wayFor.data.toList.drop 0 = dktX4_wayFor_0 := by decide +kernel
theorem dksX4_wayFor_1 : cX4_wayFor.data.toList.drop 22 = dktX4_wayFor_1 := dk_seg dksX4_wayFor_0 22 rfl rfl
theorem dksX4_wayFor_2 : cX4_wayFor.data.toList.drop 45 = dktX4_wayFor_2 := dk_seg dksX4_wayFor_1 23 rfl rfl
theorem dX4_wayFor_0 : decode cX4_wayFor 0 = .ok (.aload_n 0, 1) := dk_42 (dk_at dksX4_wayFor_0 0 rfl rfl)
theorem dX4_wayFor_1 : decode cX4_wayFor 1 = .ok (.iconst 1, 1) := dk_4 (dk_at dksX4_wayFor_0 1 rfl rfl)
theorem dX4_wayFor_2 : decode cX4_wayFor 2 = .ok (.aload_n 0, 1) := dk_42 (dk_at dksX4_wayFor_0 2 rfl rfl)
theorem dX4_wayFor_3 : decode cX4_wayFor 3 = .ok (.iload_n 1, 1) := dk_27 (dk_at dksX4_wayFor_0 3 rfl rfl)
theorem dX4_wayFor_4 : decode cX4_wayFor 4 = .ok (.invokevirtual 148, 3) := dk_182 0 148 (dk_at dksX4_wayFor_0 4 rfl rfl)
theorem dX4_wayFor_7 : decode cX4_wayFor 7 = .ok (.ifCond .eq 10, 3) := dk_153 0 10 (dk_at dksX4_wayFor_0 7 rfl rfl)
theorem dX4_wayFor_10 : decode cX4_wayFor 10 = .ok (.iload_n 2, 1) := dk_28 (dk_at dksX4_wayFor_0 10 rfl rfl)
theorem dX4_wayFor_11 : decode cX4_wayFor 11 = .ok (.invokestatic 95, 3) := dk_184 0 95 (dk_at dksX4_wayFor_0 11 rfl rfl)
theorem dX4_wayFor_14 : decode cX4_wayFor 14 = .ok (.ifCond .ne 7, 3) := dk_154 0 7 (dk_at dksX4_wayFor_0 14 rfl rfl)
theorem dX4_wayFor_17 : decode cX4_wayFor 17 = .ok (.iconst 1, 1) := dk_4 (dk_at dksX4_wayFor_0 17 rfl rfl)
theorem dX4_wayFor_18 : decode cX4_wayFor 18 = .ok (.goto 4, 3) := dk_167 0 4 (dk_at dksX4_wayFor_0 18 rfl rfl)
theorem dX4_wayFor_21 : decode cX4_wayFor 21 = .ok (.iconst 0, 1) := dk_3 (dk_at dksX4_wayFor_0 21 rfl rfl)
theorem dX4_wayFor_22 : decode cX4_wayFor 22 = .ok (.invokevirtual 98, 3) := dk_182 0 98 (dk_at dksX4_wayFor_1 0 rfl rfl)
theorem dX4_wayFor_25 : decode cX4_wayFor 25 = .ok (.ifCond .eq 5, 3) := dk_153 0 5 (dk_at dksX4_wayFor_1 3 rfl rfl)
theorem dX4_wayFor_28 : decode cX4_wayFor 28 = .ok (.iconst (-1), 1) := dk_2 (dk_at dksX4_wayFor_1 6 rfl rfl)
theorem dX4_wayFor_29 : decode cX4_wayFor 29 = .ok (.ireturn, 1) := dk_172 (dk_at dksX4_wayFor_1 7 rfl rfl)
theorem dX4_wayFor_30 : decode cX4_wayFor 30 = .ok (.aload_n 0, 1) := dk_42 (dk_at dksX4_wayFor_1 8 rfl rfl)
theorem dX4_wayFor_31 : decode cX4_wayFor 31 = .ok (.iload_n 1, 1) := dk_27 (dk_at dksX4_wayFor_1 9 rfl rfl)
theorem dX4_wayFor_32 : decode cX4_wayFor 32 = .ok (.iload_n 2, 1) := dk_28 (dk_at dksX4_wayFor_1 10 rfl rfl)
theorem dX4_wayFor_33 : decode cX4_wayFor 33 = .ok (.invokevirtual 173, 3) := dk_182 0 173 (dk_at dksX4_wayFor_1 11 rfl rfl)
theorem dX4_wayFor_36 : decode cX4_wayFor 36 = .ok (.aload_n 0, 1) := dk_42 (dk_at dksX4_wayFor_1 14 rfl rfl)
theorem dX4_wayFor_37 : decode cX4_wayFor 37 = .ok (.iload_n 1, 1) := dk_27 (dk_at dksX4_wayFor_1 15 rfl rfl)
theorem dX4_wayFor_38 : decode cX4_wayFor 38 = .ok (.invokevirtual 176, 3) := dk_182 0 176 (dk_at dksX4_wayFor_1 16 rfl rfl)
theorem dX4_wayFor_41 : decode cX4_wayFor 41 = .ok (.istore_n 3, 1) := dk_62 (dk_at dksX4_wayFor_1 19 rfl rfl)
theorem dX4_wayFor_42 : decode cX4_wayFor 42 = .ok (.aload_n 0, 1) := dk_42 (dk_at dksX4_wayFor_1 20 rfl rfl)
theorem dX4_wayFor_43 : decode cX4_wayFor 43 = .ok (.iconst 2, 1) := dk_5 (dk_at dksX4_wayFor_1 21 rfl rfl)
theorem dX4_wayFor_44 : decode cX4_wayFor 44 = .ok (.iload_n 3, 1) := dk_29 (dk_at dksX4_wayFor_1 22 rfl rfl)
theorem dX4_wayFor_45 : decode cX4_wayFor 45 = .ok (.ifCond .ge 7, 3) := dk_156 0 7 (dk_at dksX4_wayFor_2 0 rfl rfl)
theorem dX4_wayFor_48 : decode cX4_wayFor 48 = .ok (.iconst 1, 1) := dk_4 (dk_at dksX4_wayFor_2 3 rfl rfl)
theorem dX4_wayFor_49 : decode cX4_wayFor 49 = .ok (.goto 4, 3) := dk_167 0 4 (dk_at dksX4_wayFor_2 4 rfl rfl)
theorem dX4_wayFor_52 : decode cX4_wayFor 52 = .ok (.iconst 0, 1) := dk_3 (dk_at dksX4_wayFor_2 7 rfl rfl)
theorem dX4_wayFor_53 : decode cX4_wayFor 53 = .ok (.invokevirtual 98, 3) := dk_182 0 98 (dk_at dksX4_wayFor_2 8 rfl rfl)
theorem dX4_wayFor_56 : decode cX4_wayFor 56 = .ok (.pop, 1) := dk_87 (dk_at dksX4_wayFor_2 11 rfl rfl)
theorem dX4_wayFor_57 : decode cX4_wayFor 57 = .ok (.iload_n 3, 1) := dk_29 (dk_at dksX4_wayFor_2 12 rfl rfl)
theorem dX4_wayFor_58 : decode cX4_wayFor 58 = .ok (.ireturn, 1) := dk_172 (dk_at dksX4_wayFor_2 13 rfl rfl)
abbrev cX4_findFar : ByteArray := prog_24_method_53_code
def yX4_findFar : MethodName := ⟨RX4, "findFar", "(II)V"⟩
def dkwX4_findFar_6 : List UInt8 := [42, 180, 0, 24, 29, 21, 6, 79, 132, 3, 1, 132, 5, 1, 167, 255, 176, 132, 4, 1, 167, 255, 161, 177]
abbrev dktX4_findFar_6 : List UInt8 := dkwX4_findFar_6 ++ []
def dkwX4_findFar_5 : List UInt8 := [153, 0, 35, 42, 180, 0, 21, 21, 6, 42, 180, 0, 21, 42, 180, 0, 24, 21, 4, 46, 46, 4, 96, 79]
abbrev dktX4_findFar_5 : List UInt8 := dkwX4_findFar_5 ++ dktX4_findFar_6
def dkwX4_findFar_4 : List UInt8 := [21, 6, 155, 0, 55, 42, 180, 0, 21, 21, 6, 46, 154, 0, 45, 42, 21, 6, 27, 182, 0, 170]
abbrev dktX4_findFar_4 : List UInt8 := dkwX4_findFar_4 ++ dktX4_findFar_5
def dkwX4_findFar_3 : List UInt8 := [3, 54, 5, 21, 5, 7, 162, 0, 80, 42, 180, 0, 24, 21, 4, 46, 21, 5, 184, 0, 70, 54, 6]
abbrev dktX4_findFar_3 : List UInt8 := dkwX4_findFar_3 ++ dktX4_findFar_4
def dkwX4_findFar_2 : List UInt8 := [180, 0, 21, 28, 4, 79, 42, 180, 0, 24, 3, 28, 79, 4, 62, 3, 54, 4, 21, 4, 29, 162, 0, 95]
abbrev dktX4_findFar_2 : List UInt8 := dkwX4_findFar_2 ++ dktX4_findFar_3
def dkwX4_findFar_1 : List UInt8 := [28, 27, 182, 0, 170, 153, 0, 32, 42, 180, 0, 9, 17, 1, 72, 27, 96, 46, 154, 0, 19, 42]
abbrev dktX4_findFar_1 : List UInt8 := dkwX4_findFar_1 ++ dktX4_findFar_2
def dkwX4_findFar_0 : List UInt8 := [3, 62, 29, 16, 64, 162, 0, 16, 42, 180, 0, 21, 29, 3, 79, 132, 3, 1, 167, 255, 240, 3, 62, 42]
abbrev dktX4_findFar_0 : List UInt8 := dkwX4_findFar_0 ++ dktX4_findFar_1
theorem dksX4_findFar_0 : cX4_findFar.data.toList.drop 0 = dktX4_findFar_0 := by decide +kernel
theorem dksX4_findFar_1 : cX4_findFar.data.toList.drop 24 = dktX4_findFar_1 := dk_seg dksX4_findFar_0 24 rfl rfl
theorem dksX4_findFar_2 : cX4_findFar.data.toList.drop 46 = dktX4_findFar_2 := dk_seg dksX4_findFar_1 22 rfl rfl
theorem dksX4_findFar_3 : cX4_findFar.data.toList.drop 70 = dktX4_findFar_3 := dk_seg dksX4_findFar_2 24 rfl rfl
theorem dksX4_findFar_4 : cX4_findFar.data.toList.drop 93 = dktX4_findFar_4 := dk_seg dksX4_findFar_3 23 rfl rfl
theorem dksX4_findFar_5 : cX4_findFar.data.toList.drop 115 = dktX4_findFar_5 := dk_seg dksX4_findFar_4 22 rfl rfl
theorem dksX4_findFar_6 : cX4_findFar.data.toList.drop 139 = dktX4_findFar_6 := dk_seg dksX4_findFar_5 24 rfl rfl
theorem dX4_findFar_0 : decode cX4_findFar 0 = .ok (.iconst 0, 1) := dk_3 (dk_at dksX4_findFar_0 0 rfl rfl)
theorem dX4_findFar_1 : decode cX4_findFar 1 = .ok (.istore_n 3, 1) := dk_62 (dk_at dksX4_findFar_0 1 rfl rfl)
theorem dX4_findFar_2 : decode cX4_findFar 2 = .ok (.iload_n 3, 1) := dk_29 (dk_at dksX4_findFar_0 2 rfl rfl)
theorem dX4_findFar_3 : decode cX4_findFar 3 = .ok (.bipush 64, 2) := dk_16 64 (dk_at dksX4_findFar_0 3 rfl rfl)
theorem dX4_findFar_5 : decode cX4_findFar 5 = .ok (.if_icmp .ge 16, 3) := dk_162 0 16 (dk_at dksX4_findFar_0 5 rfl rfl)
theorem dX4_findFar_8 : decode cX4_findFar 8 = .ok (.aload_n 0, 1) := dk_42 (dk_at dksX4_findFar_0 8 rfl rfl)
theorem dX4_findFar_9 : decode cX4_findFar 9 = .ok (.getfield 21, 3) := dk_180 0 21 (dk_at dksX4_findFar_0 9 rfl rfl)
theorem dX4_findFar_12 : decode cX4_findFar 12 = .ok (.iload_n 3, 1) := dk_29 (dk_at dksX4_findFar_0 12 rfl rfl)
theorem dX4_findFar_13 : decode cX4_findFar 13 = .ok (.iconst 0, 1) := dk_3 (dk_at dksX4_findFar_0 13 rfl rfl)
theorem dX4_findFar_14 : decode cX4_findFar 14 = .ok (.iastore, 1) := dk_79 (dk_at dksX4_findFar_0 14 rfl rfl)
theorem dX4_findFar_15 : decode cX4_findFar 15 = .ok (.iinc 3 1, 3) := dk_132 3 1 (dk_at dksX4_findFar_0 15 rfl rfl)
theorem dX4_findFar_18 : decode cX4_findFar 18 = .ok (.goto (-16), 3) := dk_167 255 240 (dk_at dksX4_findFar_0 18 rfl rfl)
theorem dX4_findFar_21 : decode cX4_findFar 21 = .ok (.iconst 0, 1) := dk_3 (dk_at dksX4_findFar_0 21 rfl rfl)
theorem dX4_findFar_22 : decode cX4_findFar 22 = .ok (.istore_n 3, 1) := dk_62 (dk_at dksX4_findFar_0 22 rfl rfl)
theorem dX4_findFar_23 : decode cX4_findFar 23 = .ok (.aload_n 0, 1) := dk_42 (dk_at dksX4_findFar_0 23 rfl rfl)
theorem dX4_findFar_24 : decode cX4_findFar 24 = .ok (.iload_n 2, 1) := dk_28 (dk_at dksX4_findFar_1 0 rfl rfl)
theorem dX4_findFar_25 : decode cX4_findFar 25 = .ok (.iload_n 1, 1) := dk_27 (dk_at dksX4_findFar_1 1 rfl rfl)
theorem dX4_findFar_26 : decode cX4_findFar 26 = .ok (.invokevirtual 170, 3) := dk_182 0 170 (dk_at dksX4_findFar_1 2 rfl rfl)
theorem dX4_findFar_29 : decode cX4_findFar 29 = .ok (.ifCond .eq 32, 3) := dk_153 0 32 (dk_at dksX4_findFar_1 5 rfl rfl)
theorem dX4_findFar_32 : decode cX4_findFar 32 = .ok (.aload_n 0, 1) := dk_42 (dk_at dksX4_findFar_1 8 rfl rfl)
theorem dX4_findFar_33 : decode cX4_findFar 33 = .ok (.getfield 9, 3) := dk_180 0 9 (dk_at dksX4_findFar_1 9 rfl rfl)
theorem dX4_findFar_36 : decode cX4_findFar 36 = .ok (.sipush 328, 3) := dk_17 1 72 (dk_at dksX4_findFar_1 12 rfl rfl)
theorem dX4_findFar_39 : decode cX4_findFar 39 = .ok (.iload_n 1, 1) := dk_27 (dk_at dksX4_findFar_1 15 rfl rfl)
theorem dX4_findFar_40 : decode cX4_findFar 40 = .ok (.iadd, 1) := dk_96 (dk_at dksX4_findFar_1 16 rfl rfl)
theorem dX4_findFar_41 : decode cX4_findFar 41 = .ok (.iaload, 1) := dk_46 (dk_at dksX4_findFar_1 17 rfl rfl)
theorem dX4_findFar_42 : decode cX4_findFar 42 = .ok (.ifCond .ne 19, 3) := dk_154 0 19 (dk_at dksX4_findFar_1 18 rfl rfl)
theorem dX4_findFar_45 : decode cX4_findFar 45 = .ok (.aload_n 0, 1) := dk_42 (dk_at dksX4_findFar_1 21 rfl rfl)
theorem dX4_findFar_46 : decode cX4_findFar 46 = .ok (.getfield 21, 3) := dk_180 0 21 (dk_at dksX4_findFar_2 0 rfl rfl)
theorem dX4_findFar_49 : decode cX4_findFar 49 = .ok (.iload_n 2, 1) := dk_28 (dk_at dksX4_findFar_2 3 rfl rfl)
theorem dX4_findFar_50 : decode cX4_findFar 50 = .ok (.iconst 1, 1) := dk_4 (dk_at dksX4_findFar_2 4 rfl rfl)
theorem dX4_findFar_51 : decode cX4_findFar 51 = .ok (.iastore, 1) := dk_79 (dk_at dksX4_findFar_2 5 rfl rfl)
theorem dX4_findFar_52 : decode cX4_findFar 52 = .ok (.aload_n 0, 1) := dk_42 (dk_at dksX4_findFar_2 6 rfl rfl)
theorem dX4_findFar_53 : decode cX4_findFar 53 = .ok (.getfield 24, 3) := dk_180 0 24 (dk_at dksX4_findFar_2 7 rfl rfl)
theorem dX4_findFar_56 : decode cX4_findFar 56 = .ok (.iconst 0, 1) := dk_3 (dk_at dksX4_findFar_2 10 rfl rfl)
theorem dX4_findFar_57 : decode cX4_findFar 57 = .ok (.iload_n 2, 1) := dk_28 (dk_at dksX4_findFar_2 11 rfl rfl)
theorem dX4_findFar_58 : decode cX4_findFar 58 = .ok (.iastore, 1) := dk_79 (dk_at dksX4_findFar_2 12 rfl rfl)
theorem dX4_findFar_59 : decode cX4_findFar 59 = .ok (.iconst 1, 1) := dk_4 (dk_at dksX4_findFar_2 13 rfl rfl)
theorem dX4_findFar_60 : decode cX4_findFar 60 = .ok (.istore_n 3, 1) := dk_62 (dk_at dksX4_findFar_2 14 rfl rfl)
theorem dX4_findFar_61 : decode cX4_findFar 61 = .ok (.iconst 0, 1) := dk_3 (dk_at dksX4_findFar_2 15 rfl rfl)
theorem dX4_findFar_62 : decode cX4_findFar 62 = .ok (.istore 4, 2) := dk_54 4 (dk_at dksX4_findFar_2 16 rfl rfl)
theorem dX4_findFar_64 : decode cX4_findFar 64 = .ok (.iload 4, 2) := dk_21 4 (dk_at dksX4_findFar_2 18 rfl rfl)
theorem dX4_findFar_66 : decode cX4_findFar 66 = .ok (.iload_n 3, 1) := dk_29 (dk_at dksX4_findFar_2 20 rfl rfl)
theorem dX4_findFar_67 : decode cX4_findFar 67 = .ok (.if_icmp .ge 95, 3) := dk_162 0 95 (dk_at dksX4_findFar_2 21 rfl rfl)
theorem dX4_findFar_70 : decode cX4_findFar 70 = .ok (.iconst 0, 1) := dk_3 (dk_at dksX4_findFar_3 0 rfl rfl)
theorem dX4_findFar_71 : decode cX4_findFar 71 = .ok (.istore 5, 2) := dk_54 5 (dk_at dksX4_findFar_3 1 rfl rfl)
theorem dX4_findFar_73 : decode cX4_findFar 73 = .ok (.iload 5, 2) := dk_21 5 (dk_at dksX4_findFar_3 3 rfl rfl)
theorem dX4_findFar_75 : decode cX4_findFar 75 = .ok (.iconst 4, 1) := dk_7 (dk_at dksX4_findFar_3 5 rfl rfl)
theorem dX4_findFar_76 : decode cX4_findFar 76 = .ok (.if_icmp .ge 80, 3) := dk_162 0 80 (dk_at dksX4_findFar_3 6 rfl rfl)
theorem dX4_findFar_79 : decode cX4_findFar 79 = .ok (.aload_n 0, 1) := dk_42 (dk_at dksX4_findFar_3 9 rfl rfl)
theorem dX4_findFar_80 : decode cX4_findFar 80 = .ok (.getfield 24, 3) := dk_180 0 24 (dk_at dksX4_findFar_3 10 rfl rfl)
theorem dX4_findFar_83 : decode cX4_findFar 83 = .ok (.iload 4, 2) := dk_21 4 (dk_at dksX4_findFar_3 13 rfl rfl)
theorem dX4_findFar_85 : decode cX4_findFar 85 = .ok (.iaload, 1) := dk_46 (dk_at dksX4_findFar_3 15 rfl rfl)
theorem dX4_findFar_86 : decode cX4_findFar 86 = .ok (.iload 5, 2) := dk_21 5 (dk_at dksX4_findFar_3 16 rfl rfl)
theorem dX4_findFar_88 : decode cX4_findFar 88 = .ok (.invokestatic 70, 3) := dk_184 0 70 (dk_at dksX4_findFar_3 18 rfl rfl)
theorem dX4_findFar_91 : decode cX4_findFar 91 = .ok (.istore 6, 2) := dk_54 6 (dk_at dksX4_findFar_3 21 rfl rfl)
theorem dX4_findFar_93 : decode cX4_findFar 93 = .ok (.iload 6, 2) := dk_21 6 (dk_at dksX4_findFar_4 0 rfl rfl)
theorem dX4_findFar_95 : decode cX4_findFar 95 = .ok (.ifCond .lt 55, 3) := dk_155 0 55 (dk_at dksX4_findFar_4 2 rfl rfl)
theorem dX4_findFar_98 : decode cX4_findFar 98 = .ok (.aload_n 0, 1) := dk_42 (dk_at dksX4_findFar_4 5 rfl rfl)
theorem dX4_findFar_99 : decode cX4_findFar 99 = .ok (.getfield 21, 3) := dk_180 0 21 (dk_at dksX4_findFar_4 6 rfl rfl)
theorem dX4_findFar_102 : decode cX4_findFar 102 = .ok (.iload 6, 2) := dk_21 6 (dk_at dksX4_findFar_4 9 rfl rfl)
theorem dX4_findFar_104 : decode cX4_findFar 104 = .ok (.iaload, 1) := dk_46 (dk_at dksX4_findFar_4 11 rfl rfl)
theorem dX4_findFar_105 : decode cX4_findFar 105 = .ok (.ifCond .ne 45, 3) := dk_154 0 45 (dk_at dksX4_findFar_4 12 rfl rfl)
theorem dX4_findFar_108 : decode cX4_findFar 108 = .ok (.aload_n 0, 1) := dk_42 (dk_at dksX4_findFar_4 15 rfl rfl)
theorem dX4_findFar_109 : decode cX4_findFar 109 = .ok (.iload 6, 2) := dk_21 6 (dk_at dksX4_findFar_4 16 rfl rfl)
theorem dX4_findFar_111 : decode cX4_findFar 111 = .ok (.iload_n 1, 1) := dk_27 (dk_at dksX4_findFar_4 18 rfl rfl)
theorem dX4_findFar_112 : decode cX4_findFar 112 = .ok (.invokevirtual 170, 3) := dk_182 0 170 (dk_at dksX4_findFar_4 19 rfl rfl)
theorem dX4_findFar_115 : decode cX4_findFar 115 = .ok (.ifCond .eq 35, 3) := dk_153 0 35 (dk_at dksX4_findFar_5 0 rfl rfl)
theorem dX4_findFar_118 : decode cX4_findFar 118 = .ok (.aload_n 0, 1) := dk_42 (dk_at dksX4_findFar_5 3 rfl rfl)
theorem dX4_findFar_119 : decode cX4_findFar 119 = .ok (.getfield 21, 3) := dk_180 0 21 (dk_at dksX4_findFar_5 4 rfl rfl)
theorem dX4_findFar_122 : decode cX4_findFar 122 = .ok (.iload 6, 2) := dk_21 6 (dk_at dksX4_findFar_5 7 rfl rfl)
theorem dX4_findFar_124 : decode cX4_findFar 124 = .ok (.aload_n 0, 1) := dk_42 (dk_at dksX4_findFar_5 9 rfl rfl)
theorem dX4_findFar_125 : decode cX4_findFar 125 = .ok (.getfield 21, 3) := dk_180 0 21 (dk_at dksX4_findFar_5 10 rfl rfl)
theorem dX4_findFar_128 : decode cX4_findFar 128 = .ok (.aload_n 0, 1) := dk_42 (dk_at dksX4_findFar_5 13 rfl rfl)
theorem dX4_findFar_129 : decode cX4_findFar 129 = .ok (.getfield 24, 3) := dk_180 0 24 (dk_at dksX4_findFar_5 14 rfl rfl)
theorem dX4_findFar_132 : decode cX4_findFar 132 = .ok (.iload 4, 2) := dk_21 4 (dk_at dksX4_findFar_5 17 rfl rfl)
theorem dX4_findFar_134 : decode cX4_findFar 134 = .ok (.iaload, 1) := dk_46 (dk_at dksX4_findFar_5 19 rfl rfl)
theorem dX4_findFar_135 : decode cX4_findFar 135 = .ok (.iaload, 1) := dk_46 (dk_at dksX4_findFar_5 20 rfl rfl)
theorem dX4_findFar_136 : decode cX4_findFar 136 = .ok (.iconst 1, 1) := dk_4 (dk_at dksX4_findFar_5 21 rfl rfl)
theorem dX4_findFar_137 : decode cX4_findFar 137 = .ok (.iadd, 1) := dk_96 (dk_at dksX4_findFar_5 22 rfl rfl)
theorem dX4_findFar_138 : decode cX4_findFar 138 = .ok (.iastore, 1) := dk_79 (dk_at dksX4_findFar_5 23 rfl rfl)
theorem dX4_findFar_139 : decode cX4_findFar 139 = .ok (.aload_n 0, 1) := dk_42 (dk_at dksX4_findFar_6 0 rfl rfl)
theorem dX4_findFar_140 : decode cX4_findFar 140 = .ok (.getfield 24, 3) := dk_180 0 24 (dk_at dksX4_findFar_6 1 rfl rfl)
theorem dX4_findFar_143 : decode cX4_findFar 143 = .ok (.iload_n 3, 1) := dk_29 (dk_at dksX4_findFar_6 4 rfl rfl)
theorem dX4_findFar_144 : decode cX4_findFar 144 = .ok (.iload 6, 2) := dk_21 6 (dk_at dksX4_findFar_6 5 rfl rfl)
theorem dX4_findFar_146 : decode cX4_findFar 146 = .ok (.iastore, 1) := dk_79 (dk_at dksX4_findFar_6 7 rfl rfl)
theorem dX4_findFar_147 : decode cX4_findFar 147 = .ok (.iinc 3 1, 3) := dk_132 3 1 (dk_at dksX4_findFar_6 8 rfl rfl)
theorem dX4_findFar_150 : decode cX4_findFar 150 = .ok (.iinc 5 1, 3) := dk_132 5 1 (dk_at dksX4_findFar_6 11 rfl rfl)
theorem dX4_findFar_153 : decode cX4_findFar 153 = .ok (.goto (-80), 3) := dk_167 255 176 (dk_at dksX4_findFar_6 14 rfl rfl)
theorem dX4_findFar_156 : decode cX4_findFar 156 = .ok (.iinc 4 1, 3) := dk_132 4 1 (dk_at dksX4_findFar_6 17 rfl rfl)
theorem dX4_findFar_159 : decode cX4_findFar 159 = .ok (.goto (-95), 3) := dk_167 255 161 (dk_at dksX4_findFar_6 20 rfl rfl)
theorem dX4_findFar_162 : decode cX4_findFar 162 = .ok (.return_, 1) := dk_177 (dk_at dksX4_findFar_6 23 rfl rfl)
abbrev cX4_firstOfWay : ByteArray := prog_24_method_54_code
def yX4_firstOfWay : MethodName := ⟨RX4, "firstOfWay", "(I)I"⟩
def dkwX4_firstOfWay_3 : List UInt8 := [167, 255, 192, 28, 172]
abbrev dktX4_firstOfWay_3 : List UInt8 := dkwX4_firstOfWay_3 ++ []
def dkwX4_firstOfWay_2 : List UInt8 := [180, 0, 21, 29, 46, 42, 180, 0, 21, 28, 46, 162, 0, 7, 29, 167, 0, 4, 28, 61, 132, 3, 1]
abbrev dktX4_firstOfWay_2 : List UInt8 := dkwX4_firstOfWay_2 ++ dktX4_firstOfWay_3
def dkwX4_firstOfWay_1 : List UInt8 := [182, 0, 78, 153, 0, 7, 4, 167, 0, 4, 3, 54, 4, 21, 4, 153, 0, 26, 28, 155, 0, 18, 42]
abbrev dktX4_firstOfWay_1 : List UInt8 := dkwX4_firstOfWay_1 ++ dktX4_firstOfWay_2
def dkwX4_firstOfWay_0 : List UInt8 := [2, 61, 3, 62, 29, 16, 64, 162, 0, 64, 42, 180, 0, 21, 29, 46, 158, 0, 16, 42, 29, 27]
abbrev dktX4_firstOfWay_0 : List UInt8 := dkwX4_firstOfWay_0 ++ dktX4_firstOfWay_1
theorem dksX4_firstOfWay_0 : cX4_firstOfWay.data.toList.drop 0 = dktX4_firstOfWay_0 := by decide +kernel
theorem dksX4_firstOfWay_1 : cX4_firstOfWay.data.toList.drop 22 = dktX4_firstOfWay_1 := dk_seg dksX4_firstOfWay_0 22 rfl rfl
theorem dksX4_firstOfWay_2 : cX4_firstOfWay.data.toList.drop 45 = dktX4_firstOfWay_2 := dk_seg dksX4_firstOfWay_1 23 rfl rfl
theorem dksX4_firstOfWay_3 : cX4_firstOfWay.data.toList.drop 68 = dktX4_firstOfWay_3 := dk_seg dksX4_firstOfWay_2 23 rfl rfl
theorem dX4_firstOfWay_0 : decode cX4_firstOfWay 0 = .ok (.iconst (-1), 1) := dk_2 (dk_at dksX4_firstOfWay_0 0 rfl rfl)
theorem dX4_firstOfWay_1 : decode cX4_firstOfWay 1 = .ok (.istore_n 2, 1) := dk_61 (dk_at dksX4_firstOfWay_0 1 rfl rfl)
theorem dX4_firstOfWay_2 : decode cX4_firstOfWay 2 = .ok (.iconst 0, 1) := dk_3 (dk_at dksX4_firstOfWay_0 2 rfl rfl)
theorem dX4_firstOfWay_3 : decode cX4_firstOfWay 3 = .ok (.istore_n 3, 1) := dk_62 (dk_at dksX4_firstOfWay_0 3 rfl rfl)
theorem dX4_firstOfWay_4 : decode cX4_firstOfWay 4 = .ok (.iload_n 3, 1) := dk_29 (dk_at dksX4_firstOfWay_0 4 rfl rfl)
theorem dX4_firstOfWay_5 : decode cX4_firstOfWay 5 = .ok (.bipush 64, 2) := dk_16 64 (dk_at dksX4_firstOfWay_0 5 rfl rfl)
theorem dX4_firstOfWay_7 : decode cX4_firstOfWay 7 = .ok (.if_icmp .ge 64, 3) := dk_162 0 64 (dk_at dksX4_firstOfWay_0 7 rfl rfl)
theorem dX4_firstOfWay_10 : decode cX4_firstOfWay 10 = .ok (.aload_n 0, 1) := dk_42 (dk_at dksX4_firstOfWay_0 10 rfl rfl)
theorem dX4_firstOfWay_11 : decode cX4_firstOfWay 11 = .ok (.getfield 21, 3) := dk_180 0 21 (dk_at dksX4_firstOfWay_0 11 rfl rfl)
theorem dX4_firstOfWay_14 : decode cX4_firstOfWay 14 = .ok (.iload_n 3, 1) := dk_29 (dk_at dksX4_firstOfWay_0 14 rfl rfl)
theorem dX4_firstOfWay_15 : decode cX4_firstOfWay 15 = .ok (.iaload, 1) := dk_46 (dk_at dksX4_firstOfWay_0 15 rfl rfl)
theorem dX4_firstOfWay_16 : decode cX4_firstOfWay 16 = .ok (.ifCond .le 16, 3) := dk_158 0 16 (dk_at dksX4_firstOfWay_0 16 rfl rfl)
theorem dX4_firstOfWay_19 : decode cX4_firstOfWay 19 = .ok (.aload_n 0, 1) := dk_42 (dk_at dksX4_firstOfWay_0 19 rfl rfl)
theorem dX4_firstOfWay_20 : decode cX4_firstOfWay 20 = .ok (.iload_n 3, 1) := dk_29 (dk_at dksX4_firstOfWay_0 20 rfl rfl)
theorem dX4_firstOfWay_21 : decode cX4_firstOfWay 21 = .ok (.iload_n 1, 1) := dk_27 (dk_at dksX4_firstOfWay_0 21 rfl rfl)
theorem dX4_firstOfWay_22 : decode cX4_firstOfWay 22 = .ok (.invokevirtual 78, 3) := dk_182 0 78 (dk_at dksX4_firstOfWay_1 0 rfl rfl)
theorem dX4_firstOfWay_25 : decode cX4_firstOfWay 25 = .ok (.ifCond .eq 7, 3) := dk_153 0 7 (dk_at dksX4_firstOfWay_1 3 rfl rfl)
theorem dX4_firstOfWay_28 : decode cX4_firstOfWay 28 = .ok (.iconst 1, 1) := dk_4 (dk_at dksX4_firstOfWay_1 6 rfl rfl)
theorem dX4_firstOfWay_29 : decode cX4_firstOfWay 29 = .ok (.goto 4, 3) := dk_167 0 4 (dk_at dksX4_firstOfWay_1 7 rfl rfl)
theorem dX4_firstOfWay_32 : decode cX4_firstOfWay 32 = .ok (.iconst 0, 1) := dk_3 (dk_at dksX4_firstOfWay_1 10 rfl rfl)
theorem dX4_firstOfWay_33 : decode cX4_firstOfWay 33 = .ok (.istore 4, 2) := dk_54 4 (dk_at dksX4_firstOfWay_1 11 rfl rfl)
theorem dX4_firstOfWay_35 : decode cX4_firstOfWay 35 = .ok (.iload 4, 2) := dk_21 4 (dk_at dksX4_firstOfWay_1 13 rfl rfl)
theorem dX4_firstOfWay_37 : decode cX4_firstOfWay 37 = .ok (.ifCond .eq 26, 3) := dk_153 0 26 (dk_at dksX4_firstOfWay_1 15 rfl rfl)
theorem dX4_firstOfWay_40 : decode cX4_firstOfWay 40 = .ok (.iload_n 2, 1) := dk_28 (dk_at dksX4_firstOfWay_1 18 rfl rfl)
theorem dX4_firstOfWay_41 : decode cX4_firstOfWay 41 = .ok (.ifCond .lt 18, 3) := dk_155 0 18 (dk_at dksX4_firstOfWay_1 19 rfl rfl)
theorem dX4_firstOfWay_44 : decode cX4_firstOfWay 44 = .ok (.aload_n 0, 1) := dk_42 (dk_at dksX4_firstOfWay_1 22 rfl rfl)
theorem dX4_firstOfWay_45 : decode cX4_firstOfWay 45 = .ok (.getfield 21, 3) := dk_180 0 21 (dk_at dksX4_firstOfWay_2 0 rfl rfl)
theorem dX4_firstOfWay_48 : decode cX4_firstOfWay 48 = .ok (.iload_n 3, 1) := dk_29 (dk_at dksX4_firstOfWay_2 3 rfl rfl)
theorem dX4_firstOfWay_49 : decode cX4_firstOfWay 49 = .ok (.iaload, 1) := dk_46 (dk_at dksX4_firstOfWay_2 4 rfl rfl)
theorem dX4_firstOfWay_50 : decode cX4_firstOfWay 50 = .ok (.aload_n 0, 1) := dk_42 (dk_at dksX4_firstOfWay_2 5 rfl rfl)
theorem dX4_firstOfWay_51 : decode cX4_firstOfWay 51 = .ok (.getfield 21, 3) := dk_180 0 21 (dk_at dksX4_firstOfWay_2 6 rfl rfl)
theorem dX4_firstOfWay_54 : decode cX4_firstOfWay 54 = .ok (.iload_n 2, 1) := dk_28 (dk_at dksX4_firstOfWay_2 9 rfl rfl)
theorem dX4_firstOfWay_55 : decode cX4_firstOfWay 55 = .ok (.iaload, 1) := dk_46 (dk_at dksX4_firstOfWay_2 10 rfl rfl)
theorem dX4_firstOfWay_56 : decode cX4_firstOfWay 56 = .ok (.if_icmp .ge 7, 3) := dk_162 0 7 (dk_at dksX4_firstOfWay_2 11 rfl rfl)
theorem dX4_firstOfWay_59 : decode cX4_firstOfWay 59 = .ok (.iload_n 3, 1) := dk_29 (dk_at dksX4_firstOfWay_2 14 rfl rfl)
theorem dX4_firstOfWay_60 : decode cX4_firstOfWay 60 = .ok (.goto 4, 3) := dk_167 0 4 (dk_at dksX4_firstOfWay_2 15 rfl rfl)
theorem dX4_firstOfWay_63 : decode cX4_firstOfWay 63 = .ok (.iload_n 2, 1) := dk_28 (dk_at dksX4_firstOfWay_2 18 rfl rfl)
theorem dX4_firstOfWay_64 : decode cX4_firstOfWay 64 = .ok (.istore_n 2, 1) := dk_61 (dk_at dksX4_firstOfWay_2 19 rfl rfl)
theorem dX4_firstOfWay_65 : decode cX4_firstOfWay 65 = .ok (.iinc 3 1, 3) := dk_132 3 1 (dk_at dksX4_firstOfWay_2 20 rfl rfl)
theorem dX4_firstOfWay_68 : decode cX4_firstOfWay 68 = .ok (.goto (-64), 3) := dk_167 255 192 (dk_at dksX4_firstOfWay_3 0 rfl rfl)
theorem dX4_firstOfWay_71 : decode cX4_firstOfWay 71 = .ok (.iload_n 2, 1) := dk_28 (dk_at dksX4_firstOfWay_3 3 rfl rfl)
theorem dX4_firstOfWay_72 : decode cX4_firstOfWay 72 = .ok (.ireturn, 1) := dk_172 (dk_at dksX4_firstOfWay_3 4 rfl rfl)
abbrev cX4_wayAgain : ByteArray := prog_24_method_59_code
def yX4_wayAgain : MethodName := ⟨RX4, "wayAgain", "(II)I"⟩
def dkwX4_wayAgain_0 : List UInt8 := [42, 27, 28, 182, 0, 182, 172]
abbrev dktX4_wayAgain_0 : List UInt8 := dkwX4_wayAgain_0 ++ []
theorem dksX4_wayAgain_0 : cX4_wayAgain.data.toList.drop 0 = dktX4_wayAgain_0 := by decide +kernel
theorem dX4_wayAgain_0 : decode cX4_wayAgain 0 = .ok (.aload_n 0, 1) := dk_42 (dk_at dksX4_wayAgain_0 0 rfl rfl)
theorem dX4_wayAgain_1 : decode cX4_wayAgain 1 = .ok (.iload_n 1, 1) := dk_27 (dk_at dksX4_wayAgain_0 1 rfl rfl)
theorem dX4_wayAgain_2 : decode cX4_wayAgain 2 = .ok (.iload_n 2, 1) := dk_28 (dk_at dksX4_wayAgain_0 2 rfl rfl)
theorem dX4_wayAgain_3 : decode cX4_wayAgain 3 = .ok (.invokevirtual 182, 3) := dk_182 0 182 (dk_at dksX4_wayAgain_0 3 rfl rfl)
theorem dX4_wayAgain_6 : decode cX4_wayAgain 6 = .ok (.ireturn, 1) := dk_172 (dk_at dksX4_wayAgain_0 6 rfl rfl)
abbrev cX4_step : ByteArray := prog_24_method_60_code
def yX4_step : MethodName := ⟨RX4, "step", "(III)I"⟩
def dkwX4_step_3 : List UInt8 := [167, 255, 239, 21, 5, 172]
abbrev dktX4_step_3 : List UInt8 := dkwX4_step_3 ++ []
def dkwX4_step_2 : List UInt8 := [54, 5, 3, 54, 6, 21, 6, 29, 162, 0, 17, 42, 21, 5, 182, 0, 185, 54, 5, 132, 6, 1]
abbrev dktX4_step_2 : List UInt8 := dkwX4_step_2 ++ dktX4_step_3
def dkwX4_step_1 : List UInt8 := [4, 100, 184, 0, 62, 154, 0, 7, 4, 167, 0, 4, 3, 182, 0, 98, 153, 0, 5, 3, 172, 21, 4]
abbrev dktX4_step_1 : List UInt8 := dkwX4_step_1 ++ dktX4_step_2
def dkwX4_step_0 : List UInt8 := [42, 27, 28, 182, 0, 179, 54, 4, 21, 4, 155, 0, 33, 42, 5, 29, 3, 42, 180, 0, 21, 21, 4, 46]
abbrev dktX4_step_0 : List UInt8 := dkwX4_step_0 ++ dktX4_step_1
theorem dksX4_step_0 : cX4_step.data.toList.drop 0 = dktX4_step_0 := by decide +kernel
theorem dksX4_step_1 : cX4_step.data.toList.drop 24 = dktX4_step_1 := dk_seg dksX4_step_0 24 rfl rfl
theorem dksX4_step_2 : cX4_step.data.toList.drop 47 = dktX4_step_2 := dk_seg dksX4_step_1 23 rfl rfl
theorem dksX4_step_3 : cX4_step.data.toList.drop 69 = dktX4_step_3 := dk_seg dksX4_step_2 22 rfl rfl
theorem dX4_step_0 : decode cX4_step 0 = .ok (.aload_n 0, 1) := dk_42 (dk_at dksX4_step_0 0 rfl rfl)
theorem dX4_step_1 : decode cX4_step 1 = .ok (.iload_n 1, 1) := dk_27 (dk_at dksX4_step_0 1 rfl rfl)
theorem dX4_step_2 : decode cX4_step 2 = .ok (.iload_n 2, 1) := dk_28 (dk_at dksX4_step_0 2 rfl rfl)
theorem dX4_step_3 : decode cX4_step 3 = .ok (.invokevirtual 179, 3) := dk_182 0 179 (dk_at dksX4_step_0 3 rfl rfl)
theorem dX4_step_6 : decode cX4_step 6 = .ok (.istore 4, 2) := dk_54 4 (dk_at dksX4_step_0 6 rfl rfl)
theorem dX4_step_8 : decode cX4_step 8 = .ok (.iload 4, 2) := dk_21 4 (dk_at dksX4_step_0 8 rfl rfl)
theorem dX4_step_10 : decode cX4_step 10 = .ok (.ifCond .lt 33, 3) := dk_155 0 33 (dk_at dksX4_step_0 10 rfl rfl)
theorem dX4_step_13 : decode cX4_step 13 = .ok (.aload_n 0, 1) := dk_42 (dk_at dksX4_step_0 13 rfl rfl)
theorem dX4_step_14 : decode cX4_step 14 = .ok (.iconst 2, 1) := dk_5 (dk_at dksX4_step_0 14 rfl rfl)
theorem dX4_step_15 : decode cX4_step 15 = .ok (.iload_n 3, 1) := dk_29 (dk_at dksX4_step_0 15 rfl rfl)
theorem dX4_step_16 : decode cX4_step 16 = .ok (.iconst 0, 1) := dk_3 (dk_at dksX4_step_0 16 rfl rfl)
theorem dX4_step_17 : decode cX4_step 17 = .ok (.aload_n 0, 1) := dk_42 (dk_at dksX4_step_0 17 rfl rfl)
theorem dX4_step_18 : decode cX4_step 18 = .ok (.getfield 21, 3) := dk_180 0 21 (dk_at dksX4_step_0 18 rfl rfl)
theorem dX4_step_21 : decode cX4_step 21 = .ok (.iload 4, 2) := dk_21 4 (dk_at dksX4_step_0 21 rfl rfl)
theorem dX4_step_23 : decode cX4_step 23 = .ok (.iaload, 1) := dk_46 (dk_at dksX4_step_0 23 rfl rfl)
theorem dX4_step_24 : decode cX4_step 24 = .ok (.iconst 1, 1) := dk_4 (dk_at dksX4_step_1 0 rfl rfl)
theorem dX4_step_25 : decode cX4_step 25 = .ok (.isub, 1) := dk_100 (dk_at dksX4_step_1 1 rfl rfl)
theorem dX4_step_26 : decode cX4_step 26 = .ok (.invokestatic 62, 3) := dk_184 0 62 (dk_at dksX4_step_1 2 rfl rfl)
theorem dX4_step_29 : decode cX4_step 29 = .ok (.ifCond .ne 7, 3) := dk_154 0 7 (dk_at dksX4_step_1 5 rfl rfl)
theorem dX4_step_32 : decode cX4_step 32 = .ok (.iconst 1, 1) := dk_4 (dk_at dksX4_step_1 8 rfl rfl)
theorem dX4_step_33 : decode cX4_step 33 = .ok (.goto 4, 3) := dk_167 0 4 (dk_at dksX4_step_1 9 rfl rfl)
theorem dX4_step_36 : decode cX4_step 36 = .ok (.iconst 0, 1) := dk_3 (dk_at dksX4_step_1 12 rfl rfl)
theorem dX4_step_37 : decode cX4_step 37 = .ok (.invokevirtual 98, 3) := dk_182 0 98 (dk_at dksX4_step_1 13 rfl rfl)
theorem dX4_step_40 : decode cX4_step 40 = .ok (.ifCond .eq 5, 3) := dk_153 0 5 (dk_at dksX4_step_1 16 rfl rfl)
theorem dX4_step_43 : decode cX4_step 43 = .ok (.iconst 0, 1) := dk_3 (dk_at dksX4_step_1 19 rfl rfl)
theorem dX4_step_44 : decode cX4_step 44 = .ok (.ireturn, 1) := dk_172 (dk_at dksX4_step_1 20 rfl rfl)
theorem dX4_step_45 : decode cX4_step 45 = .ok (.iload 4, 2) := dk_21 4 (dk_at dksX4_step_1 21 rfl rfl)
theorem dX4_step_47 : decode cX4_step 47 = .ok (.istore 5, 2) := dk_54 5 (dk_at dksX4_step_2 0 rfl rfl)
theorem dX4_step_49 : decode cX4_step 49 = .ok (.iconst 0, 1) := dk_3 (dk_at dksX4_step_2 2 rfl rfl)
theorem dX4_step_50 : decode cX4_step 50 = .ok (.istore 6, 2) := dk_54 6 (dk_at dksX4_step_2 3 rfl rfl)
theorem dX4_step_52 : decode cX4_step 52 = .ok (.iload 6, 2) := dk_21 6 (dk_at dksX4_step_2 5 rfl rfl)
theorem dX4_step_54 : decode cX4_step 54 = .ok (.iload_n 3, 1) := dk_29 (dk_at dksX4_step_2 7 rfl rfl)
theorem dX4_step_55 : decode cX4_step 55 = .ok (.if_icmp .ge 17, 3) := dk_162 0 17 (dk_at dksX4_step_2 8 rfl rfl)
theorem dX4_step_58 : decode cX4_step 58 = .ok (.aload_n 0, 1) := dk_42 (dk_at dksX4_step_2 11 rfl rfl)
theorem dX4_step_59 : decode cX4_step 59 = .ok (.iload 5, 2) := dk_21 5 (dk_at dksX4_step_2 12 rfl rfl)
theorem dX4_step_61 : decode cX4_step 61 = .ok (.invokevirtual 185, 3) := dk_182 0 185 (dk_at dksX4_step_2 14 rfl rfl)
theorem dX4_step_64 : decode cX4_step 64 = .ok (.istore 5, 2) := dk_54 5 (dk_at dksX4_step_2 17 rfl rfl)
theorem dX4_step_66 : decode cX4_step 66 = .ok (.iinc 6 1, 3) := dk_132 6 1 (dk_at dksX4_step_2 19 rfl rfl)
theorem dX4_step_69 : decode cX4_step 69 = .ok (.goto (-17), 3) := dk_167 255 239 (dk_at dksX4_step_3 0 rfl rfl)
theorem dX4_step_72 : decode cX4_step 72 = .ok (.iload 5, 2) := dk_21 5 (dk_at dksX4_step_3 3 rfl rfl)
theorem dX4_step_74 : decode cX4_step 74 = .ok (.ireturn, 1) := dk_172 (dk_at dksX4_step_3 5 rfl rfl)
abbrev cX4_nextOfWay : ByteArray := prog_24_method_55_code
def yX4_nextOfWay : MethodName := ⟨RX4, "nextOfWay", "(I)I"⟩
def dkwX4_nextOfWay_2 : List UInt8 := [21, 4, 167, 0, 4, 28, 61, 132, 3, 255, 167, 255, 202, 28, 172]
abbrev dktX4_nextOfWay_2 : List UInt8 := dkwX4_nextOfWay_2 ++ []
def dkwX4_nextOfWay_1 : List UInt8 := [21, 4, 46, 158, 0, 26, 42, 180, 0, 21, 21, 4, 46, 42, 180, 0, 21, 27, 46, 4, 100, 160, 0, 8]
abbrev dktX4_nextOfWay_1 : List UInt8 := dkwX4_nextOfWay_1 ++ dktX4_nextOfWay_2
def dkwX4_nextOfWay_0 : List UInt8 := [2, 61, 6, 62, 29, 155, 0, 56, 27, 29, 184, 0, 70, 54, 4, 21, 4, 155, 0, 36, 42, 180, 0, 21]
abbrev dktX4_nextOfWay_0 : List UInt8 := dkwX4_nextOfWay_0 ++ dktX4_nextOfWay_1
theorem dksX4_nextOfWay_0 : cX4_nextOfWay.data.toList.drop 0 = dktX4_nextOfWay_0 := by decide +kernel
theorem dksX4_nextOfWay_1 : cX4_nextOfWay.data.toList.drop 24 = dktX4_nextOfWay_1 := dk_seg dksX4_nextOfWay_0 24 rfl rfl
theorem dksX4_nextOfWay_2 : cX4_nextOfWay.data.toList.drop 48 = dktX4_nextOfWay_2 := dk_seg dksX4_nextOfWay_1 24 rfl rfl
theorem dX4_nextOfWay_0 : decode cX4_nextOfWay 0 = .ok (.iconst (-1), 1) := dk_2 (dk_at dksX4_nextOfWay_0 0 rfl rfl)
theorem dX4_nextOfWay_1 : decode cX4_nextOfWay 1 = .ok (.istore_n 2, 1) := dk_61 (dk_at dksX4_nextOfWay_0 1 rfl rfl)
theorem dX4_nextOfWay_2 : decode cX4_nextOfWay 2 = .ok (.iconst 3, 1) := dk_6 (dk_at dksX4_nextOfWay_0 2 rfl rfl)
theorem dX4_nextOfWay_3 : decode cX4_nextOfWay 3 = .ok (.istore_n 3, 1) := dk_62 (dk_at dksX4_nextOfWay_0 3 rfl rfl)
theorem dX4_nextOfWay_4 : decode cX4_nextOfWay 4 = .ok (.iload_n 3, 1) := dk_29 (dk_at dksX4_nextOfWay_0 4 rfl rfl)
theorem dX4_nextOfWay_5 : decode cX4_nextOfWay 5 = .ok (.ifCond .lt 56, 3) := dk_155 0 56 (dk_at dksX4_nextOfWay_0 5 rfl rfl)
theorem dX4_nextOfWay_8 : decode cX4_nextOfWay 8 = .ok (.iload_n 1, 1) := dk_27 (dk_at dksX4_nextOfWay_0 8 rfl rfl)
theorem dX4_nextOfWay_9 : decode cX4_nextOfWay 9 = .ok (.iload_n 3, 1) := dk_29 (dk_at dksX4_nextOfWay_0 9 rfl rfl)
theorem dX4_nextOfWay_10 : decode cX4_nextOfWay 10 = .ok (.invokestatic 70, 3) := dk_184 0 70 (dk_at dksX4_nextOfWay_0 10 rfl rfl)
theorem dX4_nextOfWay_13 : decode cX4_nextOfWay 13 = .ok (.istore 4, 2) := dk_54 4 (dk_at dksX4_nextOfWay_0 13 rfl rfl)
theorem dX4_nextOfWay_15 : decode cX4_nextOfWay 15 = .ok (.iload 4, 2) := dk_21 4 (dk_at dksX4_nextOfWay_0 15 rfl rfl)
theorem dX4_nextOfWay_17 : decode cX4_nextOfWay 17 = .ok (.ifCond .lt 36, 3) := dk_155 0 36 (dk_at dksX4_nextOfWay_0 17 rfl rfl)
theorem dX4_nextOfWay_20 : decode cX4_nextOfWay 20 = .ok (.aload_n 0, 1) := dk_42 (dk_at dksX4_nextOfWay_0 20 rfl rfl)
theorem dX4_nextOfWay_21 : decode cX4_nextOfWay 21 = .ok (.getfield 21, 3) := dk_180 0 21 (dk_at dksX4_nextOfWay_0 21 rfl rfl)
theorem dX4_nextOfWay_24 : decode cX4_nextOfWay 24 = .ok (.iload 4, 2) := dk_21 4 (dk_at dksX4_nextOfWay_1 0 rfl rfl)
theorem dX4_nextOfWay_26 : decode cX4_nextOfWay 26 = .ok (.iaload, 1) := dk_46 (dk_at dksX4_nextOfWay_1 2 rfl rfl)
theorem dX4_nextOfWay_27 : decode cX4_nextOfWay 27 = .ok (.ifCond .le 26, 3) := dk_158 0 26 (dk_at dksX4_nextOfWay_1 3 rfl rfl)
theorem dX4_nextOfWay_30 : decode cX4_nextOfWay 30 = .ok (.aload_n 0, 1) := dk_42 (dk_at dksX4_nextOfWay_1 6 rfl rfl)
theorem dX4_nextOfWay_31 : decode cX4_nextOfWay 31 = .ok (.getfield 21, 3) := dk_180 0 21 (dk_at dksX4_nextOfWay_1 7 rfl rfl)
theorem dX4_nextOfWay_34 : decode cX4_nextOfWay 34 = .ok (.iload 4, 2) := dk_21 4 (dk_at dksX4_nextOfWay_1 10 rfl rfl)
theorem dX4_nextOfWay_36 : decode cX4_nextOfWay 36 = .ok (.iaload, 1) := dk_46 (dk_at dksX4_nextOfWay_1 12 rfl rfl)
theorem dX4_nextOfWay_37 : decode cX4_nextOfWay 37 = .ok (.aload_n 0, 1) := dk_42 (dk_at dksX4_nextOfWay_1 13 rfl rfl)
theorem dX4_nextOfWay_38 : decode cX4_nextOfWay 38 = .ok (.getfield 21, 3) := dk_180 0 21 (dk_at dksX4_nextOfWay_1 14 rfl rfl)
theorem dX4_nextOfWay_41 : decode cX4_nextOfWay 41 = .ok (.iload_n 1, 1) := dk_27 (dk_at dksX4_nextOfWay_1 17 rfl rfl)
theorem dX4_nextOfWay_42 : decode cX4_nextOfWay 42 = .ok (.iaload, 1) := dk_46 (dk_at dksX4_nextOfWay_1 18 rfl rfl)
theorem dX4_nextOfWay_43 : decode cX4_nextOfWay 43 = .ok (.iconst 1, 1) := dk_4 (dk_at dksX4_nextOfWay_1 19 rfl rfl)
theorem dX4_nextOfWay_44 : decode cX4_nextOfWay 44 = .ok (.isub, 1) := dk_100 (dk_at dksX4_nextOfWay_1 20 rfl rfl)
theorem dX4_nextOfWay_45 : decode cX4_nextOfWay 45 = .ok (.if_icmp .ne 8, 3) := dk_160 0 8 (dk_at dksX4_nextOfWay_1 21 rfl rfl)
theorem dX4_nextOfWay_48 : decode cX4_nextOfWay 48 = .ok (.iload 4, 2) := dk_21 4 (dk_at dksX4_nextOfWay_2 0 rfl rfl)
theorem dX4_nextOfWay_50 : decode cX4_nextOfWay 50 = .ok (.goto 4, 3) := dk_167 0 4 (dk_at dksX4_nextOfWay_2 2 rfl rfl)
theorem dX4_nextOfWay_53 : decode cX4_nextOfWay 53 = .ok (.iload_n 2, 1) := dk_28 (dk_at dksX4_nextOfWay_2 5 rfl rfl)
theorem dX4_nextOfWay_54 : decode cX4_nextOfWay 54 = .ok (.istore_n 2, 1) := dk_61 (dk_at dksX4_nextOfWay_2 6 rfl rfl)
theorem dX4_nextOfWay_55 : decode cX4_nextOfWay 55 = .ok (.iinc 3 (-1), 3) := dk_132 3 255 (dk_at dksX4_nextOfWay_2 7 rfl rfl)
theorem dX4_nextOfWay_58 : decode cX4_nextOfWay 58 = .ok (.goto (-54), 3) := dk_167 255 202 (dk_at dksX4_nextOfWay_2 10 rfl rfl)
theorem dX4_nextOfWay_61 : decode cX4_nextOfWay 61 = .ok (.iload_n 2, 1) := dk_28 (dk_at dksX4_nextOfWay_2 13 rfl rfl)
theorem dX4_nextOfWay_62 : decode cX4_nextOfWay 62 = .ok (.ireturn, 1) := dk_172 (dk_at dksX4_nextOfWay_2 14 rfl rfl)
abbrev cX4_strokes : ByteArray := prog_24_method_61_code
def yX4_strokes : MethodName := ⟨RX4, "strokes", "(II)I"⟩
def dkwX4_strokes_1 : List UInt8 := [42, 29, 182, 0, 185, 62, 167, 255, 236, 21, 4, 172]
abbrev dktX4_strokes_1 : List UInt8 := dkwX4_strokes_1 ++ []
def dkwX4_strokes_0 : List UInt8 := [42, 27, 28, 182, 0, 179, 62, 3, 54, 4, 29, 155, 0, 22, 21, 4, 42, 29, 182, 0, 109, 96, 54, 4]
abbrev dktX4_strokes_0 : List UInt8 := dkwX4_strokes_0 ++ dktX4_strokes_1
theorem dksX4_strokes_0 : cX4_strokes.data.toList.drop 0 = dktX4_strokes_0 := by decide +kernel
theorem dksX4_strokes_1 : cX4_strokes.data.toList.drop 24 = dktX4_strokes_1 := dk_seg dksX4_strokes_0 24 rfl rfl
theorem dX4_strokes_0 : decode cX4_strokes 0 = .ok (.aload_n 0, 1) := dk_42 (dk_at dksX4_strokes_0 0 rfl rfl)
theorem dX4_strokes_1 : decode cX4_strokes 1 = .ok (.iload_n 1, 1) := dk_27 (dk_at dksX4_strokes_0 1 rfl rfl)
theorem dX4_strokes_2 : decode cX4_strokes 2 = .ok (.iload_n 2, 1) := dk_28 (dk_at dksX4_strokes_0 2 rfl rfl)
theorem dX4_strokes_3 : decode cX4_strokes 3 = .ok (.invokevirtual 179, 3) := dk_182 0 179 (dk_at dksX4_strokes_0 3 rfl rfl)
theorem dX4_strokes_6 : decode cX4_strokes 6 = .ok (.istore_n 3, 1) := dk_62 (dk_at dksX4_strokes_0 6 rfl rfl)
theorem dX4_strokes_7 : decode cX4_strokes 7 = .ok (.iconst 0, 1) := dk_3 (dk_at dksX4_strokes_0 7 rfl rfl)
theorem dX4_strokes_8 : decode cX4_strokes 8 = .ok (.istore 4, 2) := dk_54 4 (dk_at dksX4_strokes_0 8 rfl rfl)
theorem dX4_strokes_10 : decode cX4_strokes 10 = .ok (.iload_n 3, 1) := dk_29 (dk_at dksX4_strokes_0 10 rfl rfl)
theorem dX4_strokes_11 : decode cX4_strokes 11 = .ok (.ifCond .lt 22, 3) := dk_155 0 22 (dk_at dksX4_strokes_0 11 rfl rfl)
theorem dX4_strokes_14 : decode cX4_strokes 14 = .ok (.iload 4, 2) := dk_21 4 (dk_at dksX4_strokes_0 14 rfl rfl)
theorem dX4_strokes_16 : decode cX4_strokes 16 = .ok (.aload_n 0, 1) := dk_42 (dk_at dksX4_strokes_0 16 rfl rfl)
theorem dX4_strokes_17 : decode cX4_strokes 17 = .ok (.iload_n 3, 1) := dk_29 (dk_at dksX4_strokes_0 17 rfl rfl)
theorem dX4_strokes_18 : decode cX4_strokes 18 = .ok (.invokevirtual 109, 3) := dk_182 0 109 (dk_at dksX4_strokes_0 18 rfl rfl)
theorem dX4_strokes_21 : decode cX4_strokes 21 = .ok (.iadd, 1) := dk_96 (dk_at dksX4_strokes_0 21 rfl rfl)
theorem dX4_strokes_22 : decode cX4_strokes 22 = .ok (.istore 4, 2) := dk_54 4 (dk_at dksX4_strokes_0 22 rfl rfl)
theorem dX4_strokes_24 : decode cX4_strokes 24 = .ok (.aload_n 0, 1) := dk_42 (dk_at dksX4_strokes_1 0 rfl rfl)
theorem dX4_strokes_25 : decode cX4_strokes 25 = .ok (.iload_n 3, 1) := dk_29 (dk_at dksX4_strokes_1 1 rfl rfl)
theorem dX4_strokes_26 : decode cX4_strokes 26 = .ok (.invokevirtual 185, 3) := dk_182 0 185 (dk_at dksX4_strokes_1 2 rfl rfl)
theorem dX4_strokes_29 : decode cX4_strokes 29 = .ok (.istore_n 3, 1) := dk_62 (dk_at dksX4_strokes_1 5 rfl rfl)
theorem dX4_strokes_30 : decode cX4_strokes 30 = .ok (.goto (-20), 3) := dk_167 255 236 (dk_at dksX4_strokes_1 6 rfl rfl)
theorem dX4_strokes_33 : decode cX4_strokes 33 = .ok (.iload 4, 2) := dk_21 4 (dk_at dksX4_strokes_1 9 rfl rfl)
theorem dX4_strokes_35 : decode cX4_strokes 35 = .ok (.ireturn, 1) := dk_172 (dk_at dksX4_strokes_1 11 rfl rfl)
abbrev cX4_number : ByteArray := prog_24_method_65_code
def yX4_number : MethodName := ⟨RX4, "number", "(I)I"⟩
def dkwX4_number_8 : List UInt8 := [42, 180, 0, 9, 17, 1, 99, 46, 172, 42, 182, 0, 194, 172, 42, 180, 0, 47, 172, 42, 180, 0, 197, 172]
abbrev dktX4_number_8 : List UInt8 := dkwX4_number_8 ++ []
def dkwX4_number_7 : List UInt8 := [180, 0, 9, 17, 1, 95, 46, 172, 42, 17, 1, 88, 42, 180, 0, 9, 17, 1, 95, 46, 182, 0, 188, 172]
abbrev dktX4_number_7 : List UInt8 := dkwX4_number_7 ++ dktX4_number_8
def dkwX4_number_6 : List UInt8 := [42, 180, 0, 9, 17, 1, 94, 46, 182, 0, 188, 172, 42, 180, 0, 9, 17, 1, 98, 46, 172, 42]
abbrev dktX4_number_6 : List UInt8 := dkwX4_number_6 ++ dktX4_number_7
def dkwX4_number_5 : List UInt8 := [172, 42, 17, 1, 0, 16, 64, 182, 0, 188, 172, 42, 180, 0, 9, 17, 1, 97, 46, 172, 42, 17, 1, 80]
abbrev dktX4_number_5 : List UInt8 := dkwX4_number_5 ++ dktX4_number_6
def dkwX4_number_4 : List UInt8 := [172, 42, 27, 5, 160, 0, 7, 4, 167, 0, 4, 5, 182, 0, 191, 172, 42, 180, 0, 9, 17, 1, 96, 46]
abbrev dktX4_number_4 : List UInt8 := dkwX4_number_4 ++ dktX4_number_5
def dkwX4_number_3 : List UInt8 := [42, 180, 0, 9, 17, 1, 94, 46, 172, 42, 17, 1, 72, 42, 180, 0, 9, 17, 1, 94, 46, 182, 0, 188]
abbrev dktX4_number_3 : List UInt8 := dkwX4_number_3 ++ dktX4_number_4
def dkwX4_number_2 : List UInt8 := [170, 0, 0, 0, 0, 207, 0, 0, 0, 0, 0, 0, 0, 13, 0, 0, 0, 70, 0, 0, 0, 79, 0, 0, 0, 95, 0, 0, 0, 95, 0, 0, 0, 110, 0, 0, 0, 119, 0, 0, 0, 129, 0, 0, 0, 138, 0, 0, 0, 154, 0, 0, 0, 163, 0, 0, 0, 172, 0, 0, 0, 188, 0, 0, 0, 197, 0, 0, 0, 202]
abbrev dktX4_number_2 : List UInt8 := dkwX4_number_2 ++ dktX4_number_3
def dkwX4_number_1 : List UInt8 := [172, 27]
abbrev dktX4_number_1 : List UInt8 := dkwX4_number_1 ++ dktX4_number_2
def dkwX4_number_0 : List UInt8 := [42, 4, 27, 3, 16, 14, 184, 0, 62, 154, 0, 7, 4, 167, 0, 4, 3, 182, 0, 98, 153, 0, 5, 3]
abbrev dktX4_number_0 : List UInt8 := dkwX4_number_0 ++ dktX4_number_1
theorem dksX4_number_0 : cX4_number.data.toList.drop 0 = dktX4_number_0 := by decide +kernel
theorem dksX4_number_1 : cX4_number.data.toList.drop 24 = dktX4_number_1 := dk_seg dksX4_number_0 24 rfl rfl
theorem dksX4_number_2 : cX4_number.data.toList.drop 26 = dktX4_number_2 := dk_seg dksX4_number_1 2 rfl rfl
theorem dksX4_number_3 : cX4_number.data.toList.drop 96 = dktX4_number_3 := dk_seg dksX4_number_2 70 rfl rfl
theorem dksX4_number_4 : cX4_number.data.toList.drop 120 = dktX4_number_4 := dk_seg dksX4_number_3 24 rfl rfl
theorem dksX4_number_5 : cX4_number.data.toList.drop 144 = dktX4_number_5 := dk_seg dksX4_number_4 24 rfl rfl
theorem dksX4_number_6 : cX4_number.data.toList.drop 168 = dktX4_number_6 := dk_seg dksX4_number_5 24 rfl rfl
theorem dksX4_number_7 : cX4_number.data.toList.drop 190 = dktX4_number_7 := dk_seg dksX4_number_6 22 rfl rfl
theorem dksX4_number_8 : cX4_number.data.toList.drop 214 = dktX4_number_8 := dk_seg dksX4_number_7 24 rfl rfl
theorem dX4_number_0 : decode cX4_number 0 = .ok (.aload_n 0, 1) := dk_42 (dk_at dksX4_number_0 0 rfl rfl)
theorem dX4_number_1 : decode cX4_number 1 = .ok (.iconst 1, 1) := dk_4 (dk_at dksX4_number_0 1 rfl rfl)
theorem dX4_number_2 : decode cX4_number 2 = .ok (.iload_n 1, 1) := dk_27 (dk_at dksX4_number_0 2 rfl rfl)
theorem dX4_number_3 : decode cX4_number 3 = .ok (.iconst 0, 1) := dk_3 (dk_at dksX4_number_0 3 rfl rfl)
theorem dX4_number_4 : decode cX4_number 4 = .ok (.bipush 14, 2) := dk_16 14 (dk_at dksX4_number_0 4 rfl rfl)
theorem dX4_number_6 : decode cX4_number 6 = .ok (.invokestatic 62, 3) := dk_184 0 62 (dk_at dksX4_number_0 6 rfl rfl)
theorem dX4_number_9 : decode cX4_number 9 = .ok (.ifCond .ne 7, 3) := dk_154 0 7 (dk_at dksX4_number_0 9 rfl rfl)
theorem dX4_number_12 : decode cX4_number 12 = .ok (.iconst 1, 1) := dk_4 (dk_at dksX4_number_0 12 rfl rfl)
theorem dX4_number_13 : decode cX4_number 13 = .ok (.goto 4, 3) := dk_167 0 4 (dk_at dksX4_number_0 13 rfl rfl)
theorem dX4_number_16 : decode cX4_number 16 = .ok (.iconst 0, 1) := dk_3 (dk_at dksX4_number_0 16 rfl rfl)
theorem dX4_number_17 : decode cX4_number 17 = .ok (.invokevirtual 98, 3) := dk_182 0 98 (dk_at dksX4_number_0 17 rfl rfl)
theorem dX4_number_20 : decode cX4_number 20 = .ok (.ifCond .eq 5, 3) := dk_153 0 5 (dk_at dksX4_number_0 20 rfl rfl)
theorem dX4_number_23 : decode cX4_number 23 = .ok (.iconst 0, 1) := dk_3 (dk_at dksX4_number_0 23 rfl rfl)
theorem dX4_number_24 : decode cX4_number 24 = .ok (.ireturn, 1) := dk_172 (dk_at dksX4_number_1 0 rfl rfl)
theorem dX4_number_25 : decode cX4_number 25 = .ok (.iload_n 1, 1) := dk_27 (dk_at dksX4_number_1 1 rfl rfl)
theorem dX4_number_26 : decode cX4_number 26 = .ok (.tableswitch 207 0 13 #[70, 79, 95, 95, 110, 119, 129, 138, 154, 163, 172, 188, 197, 202], 70) := by decide +kernel
theorem dX4_number_96 : decode cX4_number 96 = .ok (.aload_n 0, 1) := dk_42 (dk_at dksX4_number_3 0 rfl rfl)
theorem dX4_number_97 : decode cX4_number 97 = .ok (.getfield 9, 3) := dk_180 0 9 (dk_at dksX4_number_3 1 rfl rfl)
theorem dX4_number_100 : decode cX4_number 100 = .ok (.sipush 350, 3) := dk_17 1 94 (dk_at dksX4_number_3 4 rfl rfl)
theorem dX4_number_103 : decode cX4_number 103 = .ok (.iaload, 1) := dk_46 (dk_at dksX4_number_3 7 rfl rfl)
theorem dX4_number_104 : decode cX4_number 104 = .ok (.ireturn, 1) := dk_172 (dk_at dksX4_number_3 8 rfl rfl)
theorem dX4_number_105 : decode cX4_number 105 = .ok (.aload_n 0, 1) := dk_42 (dk_at dksX4_number_3 9 rfl rfl)
theorem dX4_number_106 : decode cX4_number 106 = .ok (.sipush 328, 3) := dk_17 1 72 (dk_at dksX4_number_3 10 rfl rfl)
theorem dX4_number_109 : decode cX4_number 109 = .ok (.aload_n 0, 1) := dk_42 (dk_at dksX4_number_3 13 rfl rfl)
theorem dX4_number_110 : decode cX4_number 110 = .ok (.getfield 9, 3) := dk_180 0 9 (dk_at dksX4_number_3 14 rfl rfl)
theorem dX4_number_113 : decode cX4_number 113 = .ok (.sipush 350, 3) := dk_17 1 94 (dk_at dksX4_number_3 17 rfl rfl)
theorem dX4_number_116 : decode cX4_number 116 = .ok (.iaload, 1) := dk_46 (dk_at dksX4_number_3 20 rfl rfl)
theorem dX4_number_117 : decode cX4_number 117 = .ok (.invokevirtual 188, 3) := dk_182 0 188 (dk_at dksX4_number_3 21 rfl rfl)
theorem dX4_number_120 : decode cX4_number 120 = .ok (.ireturn, 1) := dk_172 (dk_at dksX4_number_4 0 rfl rfl)
theorem dX4_number_121 : decode cX4_number 121 = .ok (.aload_n 0, 1) := dk_42 (dk_at dksX4_number_4 1 rfl rfl)
theorem dX4_number_122 : decode cX4_number 122 = .ok (.iload_n 1, 1) := dk_27 (dk_at dksX4_number_4 2 rfl rfl)
theorem dX4_number_123 : decode cX4_number 123 = .ok (.iconst 2, 1) := dk_5 (dk_at dksX4_number_4 3 rfl rfl)
theorem dX4_number_124 : decode cX4_number 124 = .ok (.if_icmp .ne 7, 3) := dk_160 0 7 (dk_at dksX4_number_4 4 rfl rfl)
theorem dX4_number_127 : decode cX4_number 127 = .ok (.iconst 1, 1) := dk_4 (dk_at dksX4_number_4 7 rfl rfl)
theorem dX4_number_128 : decode cX4_number 128 = .ok (.goto 4, 3) := dk_167 0 4 (dk_at dksX4_number_4 8 rfl rfl)
theorem dX4_number_131 : decode cX4_number 131 = .ok (.iconst 2, 1) := dk_5 (dk_at dksX4_number_4 11 rfl rfl)
theorem dX4_number_132 : decode cX4_number 132 = .ok (.invokevirtual 191, 3) := dk_182 0 191 (dk_at dksX4_number_4 12 rfl rfl)
theorem dX4_number_135 : decode cX4_number 135 = .ok (.ireturn, 1) := dk_172 (dk_at dksX4_number_4 15 rfl rfl)
theorem dX4_number_136 : decode cX4_number 136 = .ok (.aload_n 0, 1) := dk_42 (dk_at dksX4_number_4 16 rfl rfl)
theorem dX4_number_137 : decode cX4_number 137 = .ok (.getfield 9, 3) := dk_180 0 9 (dk_at dksX4_number_4 17 rfl rfl)
theorem dX4_number_140 : decode cX4_number 140 = .ok (.sipush 352, 3) := dk_17 1 96 (dk_at dksX4_number_4 20 rfl rfl)
theorem dX4_number_143 : decode cX4_number 143 = .ok (.iaload, 1) := dk_46 (dk_at dksX4_number_4 23 rfl rfl)
theorem dX4_number_144 : decode cX4_number 144 = .ok (.ireturn, 1) := dk_172 (dk_at dksX4_number_5 0 rfl rfl)
theorem dX4_number_145 : decode cX4_number 145 = .ok (.aload_n 0, 1) := dk_42 (dk_at dksX4_number_5 1 rfl rfl)
theorem dX4_number_146 : decode cX4_number 146 = .ok (.sipush 256, 3) := dk_17 1 0 (dk_at dksX4_number_5 2 rfl rfl)
theorem dX4_number_149 : decode cX4_number 149 = .ok (.bipush 64, 2) := dk_16 64 (dk_at dksX4_number_5 5 rfl rfl)
theorem dX4_number_151 : decode cX4_number 151 = .ok (.invokevirtual 188, 3) := dk_182 0 188 (dk_at dksX4_number_5 7 rfl rfl)
theorem dX4_number_154 : decode cX4_number 154 = .ok (.ireturn, 1) := dk_172 (dk_at dksX4_number_5 10 rfl rfl)
theorem dX4_number_155 : decode cX4_number 155 = .ok (.aload_n 0, 1) := dk_42 (dk_at dksX4_number_5 11 rfl rfl)
theorem dX4_number_156 : decode cX4_number 156 = .ok (.getfield 9, 3) := dk_180 0 9 (dk_at dksX4_number_5 12 rfl rfl)
theorem dX4_number_159 : decode cX4_number 159 = .ok (.sipush 353, 3) := dk_17 1 97 (dk_at dksX4_number_5 15 rfl rfl)
theorem dX4_number_162 : decode cX4_number 162 = .ok (.iaload, 1) := dk_46 (dk_at dksX4_number_5 18 rfl rfl)
theorem dX4_number_163 : decode cX4_number 163 = .ok (.ireturn, 1) := dk_172 (dk_at dksX4_number_5 19 rfl rfl)
theorem dX4_number_164 : decode cX4_number 164 = .ok (.aload_n 0, 1) := dk_42 (dk_at dksX4_number_5 20 rfl rfl)
theorem dX4_number_165 : decode cX4_number 165 = .ok (.sipush 336, 3) := dk_17 1 80 (dk_at dksX4_number_5 21 rfl rfl)
theorem dX4_number_168 : decode cX4_number 168 = .ok (.aload_n 0, 1) := dk_42 (dk_at dksX4_number_6 0 rfl rfl)
theorem dX4_number_169 : decode cX4_number 169 = .ok (.getfield 9, 3) := dk_180 0 9 (dk_at dksX4_number_6 1 rfl rfl)
theorem dX4_number_172 : decode cX4_number 172 = .ok (.sipush 350, 3) := dk_17 1 94 (dk_at dksX4_number_6 4 rfl rfl)
theorem dX4_number_175 : decode cX4_number 175 = .ok (.iaload, 1) := dk_46 (dk_at dksX4_number_6 7 rfl rfl)
theorem dX4_number_176 : decode cX4_number 176 = .ok (.invokevirtual 188, 3) := dk_182 0 188 (dk_at dksX4_number_6 8 rfl rfl)
theorem dX4_number_179 : decode cX4_number 179 = .ok (.ireturn, 1) := dk_172 (dk_at dksX4_number_6 11 rfl rfl)
theorem dX4_number_180 : decode cX4_number 180 = .ok (.aload_n 0, 1) := dk_42 (dk_at dksX4_number_6 12 rfl rfl)
theorem dX4_number_181 : decode cX4_number 181 = .ok (.getfield 9, 3) := dk_180 0 9 (dk_at dksX4_number_6 13 rfl rfl)
theorem dX4_number_184 : decode cX4_number 184 = .ok (.sipush 354, 3) := dk_17 1 98 (dk_at dksX4_number_6 16 rfl rfl)
theorem dX4_number_187 : decode cX4_number 187 = .ok (.iaload, 1) := dk_46 (dk_at dksX4_number_6 19 rfl rfl)
theorem dX4_number_188 : decode cX4_number 188 = .ok (.ireturn, 1) := dk_172 (dk_at dksX4_number_6 20 rfl rfl)
theorem dX4_number_189 : decode cX4_number 189 = .ok (.aload_n 0, 1) := dk_42 (dk_at dksX4_number_6 21 rfl rfl)
theorem dX4_number_190 : decode cX4_number 190 = .ok (.getfield 9, 3) := dk_180 0 9 (dk_at dksX4_number_7 0 rfl rfl)
theorem dX4_number_193 : decode cX4_number 193 = .ok (.sipush 351, 3) := dk_17 1 95 (dk_at dksX4_number_7 3 rfl rfl)
theorem dX4_number_196 : decode cX4_number 196 = .ok (.iaload, 1) := dk_46 (dk_at dksX4_number_7 6 rfl rfl)
theorem dX4_number_197 : decode cX4_number 197 = .ok (.ireturn, 1) := dk_172 (dk_at dksX4_number_7 7 rfl rfl)
theorem dX4_number_198 : decode cX4_number 198 = .ok (.aload_n 0, 1) := dk_42 (dk_at dksX4_number_7 8 rfl rfl)
theorem dX4_number_199 : decode cX4_number 199 = .ok (.sipush 344, 3) := dk_17 1 88 (dk_at dksX4_number_7 9 rfl rfl)
theorem dX4_number_202 : decode cX4_number 202 = .ok (.aload_n 0, 1) := dk_42 (dk_at dksX4_number_7 12 rfl rfl)
theorem dX4_number_203 : decode cX4_number 203 = .ok (.getfield 9, 3) := dk_180 0 9 (dk_at dksX4_number_7 13 rfl rfl)
theorem dX4_number_206 : decode cX4_number 206 = .ok (.sipush 351, 3) := dk_17 1 95 (dk_at dksX4_number_7 16 rfl rfl)
theorem dX4_number_209 : decode cX4_number 209 = .ok (.iaload, 1) := dk_46 (dk_at dksX4_number_7 19 rfl rfl)
theorem dX4_number_210 : decode cX4_number 210 = .ok (.invokevirtual 188, 3) := dk_182 0 188 (dk_at dksX4_number_7 20 rfl rfl)
theorem dX4_number_213 : decode cX4_number 213 = .ok (.ireturn, 1) := dk_172 (dk_at dksX4_number_7 23 rfl rfl)
theorem dX4_number_214 : decode cX4_number 214 = .ok (.aload_n 0, 1) := dk_42 (dk_at dksX4_number_8 0 rfl rfl)
theorem dX4_number_215 : decode cX4_number 215 = .ok (.getfield 9, 3) := dk_180 0 9 (dk_at dksX4_number_8 1 rfl rfl)
theorem dX4_number_218 : decode cX4_number 218 = .ok (.sipush 355, 3) := dk_17 1 99 (dk_at dksX4_number_8 4 rfl rfl)
theorem dX4_number_221 : decode cX4_number 221 = .ok (.iaload, 1) := dk_46 (dk_at dksX4_number_8 7 rfl rfl)
theorem dX4_number_222 : decode cX4_number 222 = .ok (.ireturn, 1) := dk_172 (dk_at dksX4_number_8 8 rfl rfl)
theorem dX4_number_223 : decode cX4_number 223 = .ok (.aload_n 0, 1) := dk_42 (dk_at dksX4_number_8 9 rfl rfl)
theorem dX4_number_224 : decode cX4_number 224 = .ok (.invokevirtual 194, 3) := dk_182 0 194 (dk_at dksX4_number_8 10 rfl rfl)
theorem dX4_number_227 : decode cX4_number 227 = .ok (.ireturn, 1) := dk_172 (dk_at dksX4_number_8 13 rfl rfl)
theorem dX4_number_228 : decode cX4_number 228 = .ok (.aload_n 0, 1) := dk_42 (dk_at dksX4_number_8 14 rfl rfl)
theorem dX4_number_229 : decode cX4_number 229 = .ok (.getfield 47, 3) := dk_180 0 47 (dk_at dksX4_number_8 15 rfl rfl)
theorem dX4_number_232 : decode cX4_number 232 = .ok (.ireturn, 1) := dk_172 (dk_at dksX4_number_8 18 rfl rfl)
theorem dX4_number_233 : decode cX4_number 233 = .ok (.aload_n 0, 1) := dk_42 (dk_at dksX4_number_8 19 rfl rfl)
theorem dX4_number_234 : decode cX4_number 234 = .ok (.getfield 197, 3) := dk_180 0 197 (dk_at dksX4_number_8 20 rfl rfl)
theorem dX4_number_237 : decode cX4_number 237 = .ok (.ireturn, 1) := dk_172 (dk_at dksX4_number_8 23 rfl rfl)
abbrev cX4_sumOf : ByteArray := prog_24_method_63_code
def yX4_sumOf : MethodName := ⟨RX4, "sumOf", "(II)I"⟩
def dkwX4_sumOf_1 : List UInt8 := [132, 4, 1, 167, 255, 235, 29, 172]
abbrev dktX4_sumOf_1 : List UInt8 := dkwX4_sumOf_1 ++ []
def dkwX4_sumOf_0 : List UInt8 := [3, 62, 3, 54, 4, 21, 4, 28, 162, 0, 21, 29, 42, 180, 0, 9, 27, 21, 4, 96, 46, 96, 62]
abbrev dktX4_sumOf_0 : List UInt8 := dkwX4_sumOf_0 ++ dktX4_sumOf_1
theorem dksX4_sumOf_0 : cX4_sumOf.data.toList.drop 0 = dktX4_sumOf_0 := by decide +kernel
theorem dksX4_sumOf_1 : cX4_sumOf.data.toList.drop 23 = dktX4_sumOf_1 := dk_seg dksX4_sumOf_0 23 rfl rfl
theorem dX4_sumOf_0 : decode cX4_sumOf 0 = .ok (.iconst 0, 1) := dk_3 (dk_at dksX4_sumOf_0 0 rfl rfl)
theorem dX4_sumOf_1 : decode cX4_sumOf 1 = .ok (.istore_n 3, 1) := dk_62 (dk_at dksX4_sumOf_0 1 rfl rfl)
theorem dX4_sumOf_2 : decode cX4_sumOf 2 = .ok (.iconst 0, 1) := dk_3 (dk_at dksX4_sumOf_0 2 rfl rfl)
theorem dX4_sumOf_3 : decode cX4_sumOf 3 = .ok (.istore 4, 2) := dk_54 4 (dk_at dksX4_sumOf_0 3 rfl rfl)
theorem dX4_sumOf_5 : decode cX4_sumOf 5 = .ok (.iload 4, 2) := dk_21 4 (dk_at dksX4_sumOf_0 5 rfl rfl)
theorem dX4_sumOf_7 : decode cX4_sumOf 7 = .ok (.iload_n 2, 1) := dk_28 (dk_at dksX4_sumOf_0 7 rfl rfl)
theorem dX4_sumOf_8 : decode cX4_sumOf 8 = .ok (.if_icmp .ge 21, 3) := dk_162 0 21 (dk_at dksX4_sumOf_0 8 rfl rfl)
theorem dX4_sumOf_11 : decode cX4_sumOf 11 = .ok (.iload_n 3, 1) := dk_29 (dk_at dksX4_sumOf_0 11 rfl rfl)
theorem dX4_sumOf_12 : decode cX4_sumOf 12 = .ok (.aload_n 0, 1) := dk_42 (dk_at dksX4_sumOf_0 12 rfl rfl)
theorem dX4_sumOf_13 : decode cX4_sumOf 13 = .ok (.getfield 9, 3) := dk_180 0 9 (dk_at dksX4_sumOf_0 13 rfl rfl)
theorem dX4_sumOf_16 : decode cX4_sumOf 16 = .ok (.iload_n 1, 1) := dk_27 (dk_at dksX4_sumOf_0 16 rfl rfl)
theorem dX4_sumOf_17 : decode cX4_sumOf 17 = .ok (.iload 4, 2) := dk_21 4 (dk_at dksX4_sumOf_0 17 rfl rfl)
theorem dX4_sumOf_19 : decode cX4_sumOf 19 = .ok (.iadd, 1) := dk_96 (dk_at dksX4_sumOf_0 19 rfl rfl)
theorem dX4_sumOf_20 : decode cX4_sumOf 20 = .ok (.iaload, 1) := dk_46 (dk_at dksX4_sumOf_0 20 rfl rfl)
theorem dX4_sumOf_21 : decode cX4_sumOf 21 = .ok (.iadd, 1) := dk_96 (dk_at dksX4_sumOf_0 21 rfl rfl)
theorem dX4_sumOf_22 : decode cX4_sumOf 22 = .ok (.istore_n 3, 1) := dk_62 (dk_at dksX4_sumOf_0 22 rfl rfl)
theorem dX4_sumOf_23 : decode cX4_sumOf 23 = .ok (.iinc 4 1, 3) := dk_132 4 1 (dk_at dksX4_sumOf_1 0 rfl rfl)
theorem dX4_sumOf_26 : decode cX4_sumOf 26 = .ok (.goto (-21), 3) := dk_167 255 235 (dk_at dksX4_sumOf_1 3 rfl rfl)
theorem dX4_sumOf_29 : decode cX4_sumOf 29 = .ok (.iload_n 3, 1) := dk_29 (dk_at dksX4_sumOf_1 6 rfl rfl)
theorem dX4_sumOf_30 : decode cX4_sumOf 30 = .ok (.ireturn, 1) := dk_172 (dk_at dksX4_sumOf_1 7 rfl rfl)
abbrev cX4_countStates : ByteArray := prog_24_method_62_code
def yX4_countStates : MethodName := ⟨RX4, "countStates", "(I)I"⟩
def dkwX4_countStates_1 : List UInt8 := [167, 0, 4, 3, 96, 61, 132, 3, 1, 167, 255, 227, 28, 172]
abbrev dktX4_countStates_1 : List UInt8 := dkwX4_countStates_1 ++ []
def dkwX4_countStates_0 : List UInt8 := [3, 61, 3, 62, 29, 16, 64, 162, 0, 29, 28, 42, 180, 0, 9, 3, 29, 96, 46, 27, 160, 0, 7, 4]
abbrev dktX4_countStates_0 : List UInt8 := dkwX4_countStates_0 ++ dktX4_countStates_1
theorem dksX4_countStates_0 : cX4_countStates.data.toList.drop 0 = dktX4_countStates_0 := by decide +kernel
theorem dksX4_countStates_1 : cX4_countStates.data.toList.drop 24 = dktX4_countStates_1 := dk_seg dksX4_countStates_0 24 rfl rfl
theorem dX4_countStates_0 : decode cX4_countStates 0 = .ok (.iconst 0, 1) := dk_3 (dk_at dksX4_countStates_0 0 rfl rfl)
theorem dX4_countStates_1 : decode cX4_countStates 1 = .ok (.istore_n 2, 1) := dk_61 (dk_at dksX4_countStates_0 1 rfl rfl)
theorem dX4_countStates_2 : decode cX4_countStates 2 = .ok (.iconst 0, 1) := dk_3 (dk_at dksX4_countStates_0 2 rfl rfl)
theorem dX4_countStates_3 : decode cX4_countStates 3 = .ok (.istore_n 3, 1) := dk_62 (dk_at dksX4_countStates_0 3 rfl rfl)
theorem dX4_countStates_4 : decode cX4_countStates 4 = .ok (.iload_n 3, 1) := dk_29 (dk_at dksX4_countStates_0 4 rfl rfl)
theorem dX4_countStates_5 : decode cX4_countStates 5 = .ok (.bipush 64, 2) := dk_16 64 (dk_at dksX4_countStates_0 5 rfl rfl)
theorem dX4_countStates_7 : decode cX4_countStates 7 = .ok (.if_icmp .ge 29, 3) := dk_162 0 29 (dk_at dksX4_countStates_0 7 rfl rfl)
theorem dX4_countStates_10 : decode cX4_countStates 10 = .ok (.iload_n 2, 1) := dk_28 (dk_at dksX4_countStates_0 10 rfl rfl)
theorem dX4_countStates_11 : decode cX4_countStates 11 = .ok (.aload_n 0, 1) := dk_42 (dk_at dksX4_countStates_0 11 rfl rfl)
theorem dX4_countStates_12 : decode cX4_countStates 12 = .ok (.getfield 9, 3) := dk_180 0 9 (dk_at dksX4_countStates_0 12 rfl rfl)
theorem dX4_countStates_15 : decode cX4_countStates 15 = .ok (.iconst 0, 1) := dk_3 (dk_at dksX4_countStates_0 15 rfl rfl)
theorem dX4_countStates_16 : decode cX4_countStates 16 = .ok (.iload_n 3, 1) := dk_29 (dk_at dksX4_countStates_0 16 rfl rfl)
theorem dX4_countStates_17 : decode cX4_countStates 17 = .ok (.iadd, 1) := dk_96 (dk_at dksX4_countStates_0 17 rfl rfl)
theorem dX4_countStates_18 : decode cX4_countStates 18 = .ok (.iaload, 1) := dk_46 (dk_at dksX4_countStates_0 18 rfl rfl)
theorem dX4_countStates_19 : decode cX4_countStates 19 = .ok (.iload_n 1, 1) := dk_27 (dk_at dksX4_countStates_0 19 rfl rfl)
theorem dX4_countStates_20 : decode cX4_countStates 20 = .ok (.if_icmp .ne 7, 3) := dk_160 0 7 (dk_at dksX4_countStates_0 20 rfl rfl)
theorem dX4_countStates_23 : decode cX4_countStates 23 = .ok (.iconst 1, 1) := dk_4 (dk_at dksX4_countStates_0 23 rfl rfl)
theorem dX4_countStates_24 : decode cX4_countStates 24 = .ok (.goto 4, 3) := dk_167 0 4 (dk_at dksX4_countStates_1 0 rfl rfl)
theorem dX4_countStates_27 : decode cX4_countStates 27 = .ok (.iconst 0, 1) := dk_3 (dk_at dksX4_countStates_1 3 rfl rfl)
theorem dX4_countStates_28 : decode cX4_countStates 28 = .ok (.iadd, 1) := dk_96 (dk_at dksX4_countStates_1 4 rfl rfl)
theorem dX4_countStates_29 : decode cX4_countStates 29 = .ok (.istore_n 2, 1) := dk_61 (dk_at dksX4_countStates_1 5 rfl rfl)
theorem dX4_countStates_30 : decode cX4_countStates 30 = .ok (.iinc 3 1, 3) := dk_132 3 1 (dk_at dksX4_countStates_1 6 rfl rfl)
theorem dX4_countStates_33 : decode cX4_countStates 33 = .ok (.goto (-29), 3) := dk_167 255 227 (dk_at dksX4_countStates_1 9 rfl rfl)
theorem dX4_countStates_36 : decode cX4_countStates 36 = .ok (.iload_n 2, 1) := dk_28 (dk_at dksX4_countStates_1 12 rfl rfl)
theorem dX4_countStates_37 : decode cX4_countStates 37 = .ok (.ireturn, 1) := dk_172 (dk_at dksX4_countStates_1 13 rfl rfl)
abbrev cX4_nodulesInChalk : ByteArray := prog_24_method_64_code
def yX4_nodulesInChalk : MethodName := ⟨RX4, "nodulesInChalk", "()I"⟩
def dkwX4_nodulesInChalk_1 : List UInt8 := [17, 0, 128, 28, 96, 46, 167, 0, 4, 3, 96, 60, 132, 2, 1, 167, 255, 222, 27, 172]
abbrev dktX4_nodulesInChalk_1 : List UInt8 := dkwX4_nodulesInChalk_1 ++ []
def dkwX4_nodulesInChalk_0 : List UInt8 := [3, 60, 3, 61, 28, 16, 64, 162, 0, 34, 27, 42, 28, 182, 0, 102, 153, 0, 16, 42, 180, 0, 9]
abbrev dktX4_nodulesInChalk_0 : List UInt8 := dkwX4_nodulesInChalk_0 ++ dktX4_nodulesInChalk_1
theorem dksX4_nodulesInChalk_0 : cX4_nodulesInChalk.data.toList.drop 0 = dktX4_nodulesInChalk_0 := by decide +kernel
theorem dksX4_nodulesInChalk_1 : cX4_nodulesInChalk.data.toList.drop 23 = dktX4_nodulesInChalk_1 := dk_seg dksX4_nodulesInChalk_0 23 rfl rfl
theorem dX4_nodulesInChalk_0 : decode cX4_nodulesInChalk 0 = .ok (.iconst 0, 1) := dk_3 (dk_at dksX4_nodulesInChalk_0 0 rfl rfl)
theorem dX4_nodulesInChalk_1 : decode cX4_nodulesInChalk 1 = .ok (.istore_n 1, 1) := dk_60 (dk_at dksX4_nodulesInChalk_0 1 rfl rfl)
theorem dX4_nodulesInChalk_2 : decode cX4_nodulesInChalk 2 = .ok (.iconst 0, 1) := dk_3 (dk_at dksX4_nodulesInChalk_0 2 rfl rfl)
theorem dX4_nodulesInChalk_3 : decode cX4_nodulesInChalk 3 = .ok (.istore_n 2, 1) := dk_61 (dk_at dksX4_nodulesInChalk_0 3 rfl rfl)
theorem dX4_nodulesInChalk_4 : decode cX4_nodulesInChalk 4 = .ok (.iload_n 2, 1) := dk_28 (dk_at dksX4_nodulesInChalk_0 4 rfl rfl)
theorem dX4_nodulesInChalk_5 : decode cX4_nodulesInChalk 5 = .ok (.bipush 64, 2) := dk_16 64 (dk_at dksX4_nodulesInChalk_0 5 rfl rfl)
theorem dX4_nodulesInChalk_7 : decode cX4_nodulesInChalk 7 = .ok (.if_icmp .ge 34, 3) := dk_162 0 34 (dk_at dksX4_nodulesInChalk_0 7 rfl rfl)
theorem dX4_nodulesInChalk_10 : decode cX4_nodulesInChalk 10 = .ok (.iload_n 1, 1) := dk_27 (dk_at dksX4_nodulesInChalk_0 10 rfl rfl)
theorem dX4_nodulesInChalk_11 : decode cX4_nodulesInChalk 11 = .ok (.aload_n 0, 1) := dk_42 (dk_at dksX4_nodulesInChalk_0 11 rfl rfl)
theorem dX4_nodulesInChalk_12 : decode cX4_nodulesInChalk 12 = .ok (.iload_n 2, 1) := dk_28 (dk_at dksX4_nodulesInChalk_0 12 rfl rfl)
theorem dX4_nodulesInChalk_13 : decode cX4_nodulesInChalk 13 = .ok (.invokevirtual 102, 3) := dk_182 0 102 (dk_at dksX4_nodulesInChalk_0 13 rfl rfl)
theorem dX4_nodulesInChalk_16 : decode cX4_nodulesInChalk 16 = .ok (.ifCond .eq 16, 3) := dk_153 0 16 (dk_at dksX4_nodulesInChalk_0 16 rfl rfl)
theorem dX4_nodulesInChalk_19 : decode cX4_nodulesInChalk 19 = .ok (.aload_n 0, 1) := dk_42 (dk_at dksX4_nodulesInChalk_0 19 rfl rfl)
theorem dX4_nodulesInChalk_20 : decode cX4_nodulesInChalk 20 = .ok (.getfield 9, 3) := dk_180 0 9 (dk_at dksX4_nodulesInChalk_0 20 rfl rfl)
theorem dX4_nodulesInChalk_23 : decode cX4_nodulesInChalk 23 = .ok (.sipush 128, 3) := dk_17 0 128 (dk_at dksX4_nodulesInChalk_1 0 rfl rfl)
theorem dX4_nodulesInChalk_26 : decode cX4_nodulesInChalk 26 = .ok (.iload_n 2, 1) := dk_28 (dk_at dksX4_nodulesInChalk_1 3 rfl rfl)
theorem dX4_nodulesInChalk_27 : decode cX4_nodulesInChalk 27 = .ok (.iadd, 1) := dk_96 (dk_at dksX4_nodulesInChalk_1 4 rfl rfl)
theorem dX4_nodulesInChalk_28 : decode cX4_nodulesInChalk 28 = .ok (.iaload, 1) := dk_46 (dk_at dksX4_nodulesInChalk_1 5 rfl rfl)
theorem dX4_nodulesInChalk_29 : decode cX4_nodulesInChalk 29 = .ok (.goto 4, 3) := dk_167 0 4 (dk_at dksX4_nodulesInChalk_1 6 rfl rfl)
theorem dX4_nodulesInChalk_32 : decode cX4_nodulesInChalk 32 = .ok (.iconst 0, 1) := dk_3 (dk_at dksX4_nodulesInChalk_1 9 rfl rfl)
theorem dX4_nodulesInChalk_33 : decode cX4_nodulesInChalk 33 = .ok (.iadd, 1) := dk_96 (dk_at dksX4_nodulesInChalk_1 10 rfl rfl)
theorem dX4_nodulesInChalk_34 : decode cX4_nodulesInChalk 34 = .ok (.istore_n 1, 1) := dk_60 (dk_at dksX4_nodulesInChalk_1 11 rfl rfl)
theorem dX4_nodulesInChalk_35 : decode cX4_nodulesInChalk 35 = .ok (.iinc 2 1, 3) := dk_132 2 1 (dk_at dksX4_nodulesInChalk_1 12 rfl rfl)
theorem dX4_nodulesInChalk_38 : decode cX4_nodulesInChalk 38 = .ok (.goto (-34), 3) := dk_167 255 222 (dk_at dksX4_nodulesInChalk_1 15 rfl rfl)
theorem dX4_nodulesInChalk_41 : decode cX4_nodulesInChalk 41 = .ok (.iload_n 1, 1) := dk_27 (dk_at dksX4_nodulesInChalk_1 18 rfl rfl)
theorem dX4_nodulesInChalk_42 : decode cX4_nodulesInChalk 42 = .ok (.ireturn, 1) := dk_172 (dk_at dksX4_nodulesInChalk_1 19 rfl rfl)
abbrev cX4_perStroke : ByteArray := prog_24_method_66_code
def yX4_perStroke : MethodName := ⟨RX4, "perStroke", "()D"⟩
def dkwX4_perStroke_2 : List UInt8 := [17, 1, 98, 46, 135, 111, 175]
abbrev dktX4_perStroke_2 : List UInt8 := dkwX4_perStroke_2 ++ []
def dkwX4_perStroke_1 : List UInt8 := [14, 175, 42, 17, 1, 80, 42, 180, 0, 9, 17, 1, 94, 46, 182, 0, 188, 135, 42, 180, 0, 9]
abbrev dktX4_perStroke_1 : List UInt8 := dkwX4_perStroke_1 ++ dktX4_perStroke_2
def dkwX4_perStroke_0 : List UInt8 := [42, 4, 42, 180, 0, 9, 17, 1, 98, 46, 154, 0, 7, 4, 167, 0, 4, 3, 182, 0, 98, 153, 0, 5]
abbrev dktX4_perStroke_0 : List UInt8 := dkwX4_perStroke_0 ++ dktX4_perStroke_1
theorem dksX4_perStroke_0 : cX4_perStroke.data.toList.drop 0 = dktX4_perStroke_0 := by decide +kernel
theorem dksX4_perStroke_1 : cX4_perStroke.data.toList.drop 24 = dktX4_perStroke_1 := dk_seg dksX4_perStroke_0 24 rfl rfl
theorem dksX4_perStroke_2 : cX4_perStroke.data.toList.drop 46 = dktX4_perStroke_2 := dk_seg dksX4_perStroke_1 22 rfl rfl
theorem dX4_perStroke_0 : decode cX4_perStroke 0 = .ok (.aload_n 0, 1) := dk_42 (dk_at dksX4_perStroke_0 0 rfl rfl)
theorem dX4_perStroke_1 : decode cX4_perStroke 1 = .ok (.iconst 1, 1) := dk_4 (dk_at dksX4_perStroke_0 1 rfl rfl)
theorem dX4_perStroke_2 : decode cX4_perStroke 2 = .ok (.aload_n 0, 1) := dk_42 (dk_at dksX4_perStroke_0 2 rfl rfl)
theorem dX4_perStroke_3 : decode cX4_perStroke 3 = .ok (.getfield 9, 3) := dk_180 0 9 (dk_at dksX4_perStroke_0 3 rfl rfl)
theorem dX4_perStroke_6 : decode cX4_perStroke 6 = .ok (.sipush 354, 3) := dk_17 1 98 (dk_at dksX4_perStroke_0 6 rfl rfl)
theorem dX4_perStroke_9 : decode cX4_perStroke 9 = .ok (.iaload, 1) := dk_46 (dk_at dksX4_perStroke_0 9 rfl rfl)
theorem dX4_perStroke_10 : decode cX4_perStroke 10 = .ok (.ifCond .ne 7, 3) := dk_154 0 7 (dk_at dksX4_perStroke_0 10 rfl rfl)
theorem dX4_perStroke_13 : decode cX4_perStroke 13 = .ok (.iconst 1, 1) := dk_4 (dk_at dksX4_perStroke_0 13 rfl rfl)
theorem dX4_perStroke_14 : decode cX4_perStroke 14 = .ok (.goto 4, 3) := dk_167 0 4 (dk_at dksX4_perStroke_0 14 rfl rfl)
theorem dX4_perStroke_17 : decode cX4_perStroke 17 = .ok (.iconst 0, 1) := dk_3 (dk_at dksX4_perStroke_0 17 rfl rfl)
theorem dX4_perStroke_18 : decode cX4_perStroke 18 = .ok (.invokevirtual 98, 3) := dk_182 0 98 (dk_at dksX4_perStroke_0 18 rfl rfl)
theorem dX4_perStroke_21 : decode cX4_perStroke 21 = .ok (.ifCond .eq 5, 3) := dk_153 0 5 (dk_at dksX4_perStroke_0 21 rfl rfl)
theorem dX4_perStroke_24 : decode cX4_perStroke 24 = .ok (.dconst 0, 1) := dk_14 (dk_at dksX4_perStroke_1 0 rfl rfl)
theorem dX4_perStroke_25 : decode cX4_perStroke 25 = .ok (.dreturn, 1) := dk_175 (dk_at dksX4_perStroke_1 1 rfl rfl)
theorem dX4_perStroke_26 : decode cX4_perStroke 26 = .ok (.aload_n 0, 1) := dk_42 (dk_at dksX4_perStroke_1 2 rfl rfl)
theorem dX4_perStroke_27 : decode cX4_perStroke 27 = .ok (.sipush 336, 3) := dk_17 1 80 (dk_at dksX4_perStroke_1 3 rfl rfl)
theorem dX4_perStroke_30 : decode cX4_perStroke 30 = .ok (.aload_n 0, 1) := dk_42 (dk_at dksX4_perStroke_1 6 rfl rfl)
theorem dX4_perStroke_31 : decode cX4_perStroke 31 = .ok (.getfield 9, 3) := dk_180 0 9 (dk_at dksX4_perStroke_1 7 rfl rfl)
theorem dX4_perStroke_34 : decode cX4_perStroke 34 = .ok (.sipush 350, 3) := dk_17 1 94 (dk_at dksX4_perStroke_1 10 rfl rfl)
theorem dX4_perStroke_37 : decode cX4_perStroke 37 = .ok (.iaload, 1) := dk_46 (dk_at dksX4_perStroke_1 13 rfl rfl)
theorem dX4_perStroke_38 : decode cX4_perStroke 38 = .ok (.invokevirtual 188, 3) := dk_182 0 188 (dk_at dksX4_perStroke_1 14 rfl rfl)
theorem dX4_perStroke_41 : decode cX4_perStroke 41 = .ok (.i2d, 1) := dk_135 (dk_at dksX4_perStroke_1 17 rfl rfl)
theorem dX4_perStroke_42 : decode cX4_perStroke 42 = .ok (.aload_n 0, 1) := dk_42 (dk_at dksX4_perStroke_1 18 rfl rfl)
theorem dX4_perStroke_43 : decode cX4_perStroke 43 = .ok (.getfield 9, 3) := dk_180 0 9 (dk_at dksX4_perStroke_1 19 rfl rfl)
theorem dX4_perStroke_46 : decode cX4_perStroke 46 = .ok (.sipush 354, 3) := dk_17 1 98 (dk_at dksX4_perStroke_2 0 rfl rfl)
theorem dX4_perStroke_49 : decode cX4_perStroke 49 = .ok (.iaload, 1) := dk_46 (dk_at dksX4_perStroke_2 3 rfl rfl)
theorem dX4_perStroke_50 : decode cX4_perStroke 50 = .ok (.i2d, 1) := dk_135 (dk_at dksX4_perStroke_2 4 rfl rfl)
theorem dX4_perStroke_51 : decode cX4_perStroke 51 = .ok (.ddiv, 1) := dk_111 (dk_at dksX4_perStroke_2 5 rfl rfl)
theorem dX4_perStroke_52 : decode cX4_perStroke 52 = .ok (.dreturn, 1) := dk_175 (dk_at dksX4_perStroke_2 6 rfl rfl)
abbrev cX4_chalk : ByteArray := prog_24_method_67_code
def yX4_chalk : MethodName := ⟨RX4, "chalk", "()F"⟩
def dkwX4_chalk_0 : List UInt8 := [42, 3, 181, 0, 38, 42, 3, 182, 0, 191, 134, 18, 200, 110, 174]
abbrev dktX4_chalk_0 : List UInt8 := dkwX4_chalk_0 ++ []
theorem dksX4_chalk_0 : cX4_chalk.data.toList.drop 0 = dktX4_chalk_0 := by decide +kernel
theorem dX4_chalk_0 : decode cX4_chalk 0 = .ok (.aload_n 0, 1) := dk_42 (dk_at dksX4_chalk_0 0 rfl rfl)
theorem dX4_chalk_1 : decode cX4_chalk 1 = .ok (.iconst 0, 1) := dk_3 (dk_at dksX4_chalk_0 1 rfl rfl)
theorem dX4_chalk_2 : decode cX4_chalk 2 = .ok (.putfield 38, 3) := dk_181 0 38 (dk_at dksX4_chalk_0 2 rfl rfl)
theorem dX4_chalk_5 : decode cX4_chalk 5 = .ok (.aload_n 0, 1) := dk_42 (dk_at dksX4_chalk_0 5 rfl rfl)
theorem dX4_chalk_6 : decode cX4_chalk 6 = .ok (.iconst 0, 1) := dk_3 (dk_at dksX4_chalk_0 6 rfl rfl)
theorem dX4_chalk_7 : decode cX4_chalk 7 = .ok (.invokevirtual 191, 3) := dk_182 0 191 (dk_at dksX4_chalk_0 7 rfl rfl)
theorem dX4_chalk_10 : decode cX4_chalk 10 = .ok (.i2f, 1) := dk_134 (dk_at dksX4_chalk_0 10 rfl rfl)
theorem dX4_chalk_11 : decode cX4_chalk 11 = .ok (.ldc 200, 2) := dk_18 200 (dk_at dksX4_chalk_0 11 rfl rfl)
theorem dX4_chalk_13 : decode cX4_chalk 13 = .ok (.fdiv, 1) := dk_110 (dk_at dksX4_chalk_0 13 rfl rfl)
theorem dX4_chalk_14 : decode cX4_chalk 14 = .ok (.freturn, 1) := dk_174 (dk_at dksX4_chalk_0 14 rfl rfl)
abbrev cX4_feed : ByteArray := prog_24_method_68_code
def yX4_feed : MethodName := ⟨RX4, "feed", "(C)I"⟩
def dkwX4_feed_2 : List UInt8 := [172]
abbrev dktX4_feed_2 : List UInt8 := dkwX4_feed_2 ++ []
def dkwX4_feed_1 : List UInt8 := [42, 180, 0, 27, 42, 180, 0, 197, 27, 85, 42, 89, 180, 0, 197, 4, 96, 181, 0, 197, 42, 180, 0, 197]
abbrev dktX4_feed_1 : List UInt8 := dkwX4_feed_1 ++ dktX4_feed_2
def dkwX4_feed_0 : List UInt8 := [42, 4, 42, 180, 0, 197, 16, 60, 160, 0, 7, 4, 167, 0, 4, 3, 182, 0, 98, 153, 0, 5, 3, 172]
abbrev dktX4_feed_0 : List UInt8 := dkwX4_feed_0 ++ dktX4_feed_1
theorem dksX4_feed_0 : cX4_feed.data.toList.drop 0 = dktX4_feed_0 := by decide +kernel
theorem dksX4_feed_1 : cX4_feed.data.toList.drop 24 = dktX4_feed_1 := dk_seg dksX4_feed_0 24 rfl rfl
theorem dksX4_feed_2 : cX4_feed.data.toList.drop 48 = dktX4_feed_2 := dk_seg dksX4_feed_1 24 rfl rfl
theorem dX4_feed_0 : decode cX4_feed 0 = .ok (.aload_n 0, 1) := dk_42 (dk_at dksX4_feed_0 0 rfl rfl)
theorem dX4_feed_1 : decode cX4_feed 1 = .ok (.iconst 1, 1) := dk_4 (dk_at dksX4_feed_0 1 rfl rfl)
theorem dX4_feed_2 : decode cX4_feed 2 = .ok (.aload_n 0, 1) := dk_42 (dk_at dksX4_feed_0 2 rfl rfl)
theorem dX4_feed_3 : decode cX4_feed 3 = .ok (.getfield 197, 3) := dk_180 0 197 (dk_at dksX4_feed_0 3 rfl rfl)
theorem dX4_feed_6 : decode cX4_feed 6 = .ok (.bipush 60, 2) := dk_16 60 (dk_at dksX4_feed_0 6 rfl rfl)
theorem dX4_feed_8 : decode cX4_feed 8 = .ok (.if_icmp .ne 7, 3) := dk_160 0 7 (dk_at dksX4_feed_0 8 rfl rfl)
theorem dX4_feed_11 : decode cX4_feed 11 = .ok (.iconst 1, 1) := dk_4 (dk_at dksX4_feed_0 11 rfl rfl)
theorem dX4_feed_12 : decode cX4_feed 12 = .ok (.goto 4, 3) := dk_167 0 4 (dk_at dksX4_feed_0 12 rfl rfl)
theorem dX4_feed_15 : decode cX4_feed 15 = .ok (.iconst 0, 1) := dk_3 (dk_at dksX4_feed_0 15 rfl rfl)
theorem dX4_feed_16 : decode cX4_feed 16 = .ok (.invokevirtual 98, 3) := dk_182 0 98 (dk_at dksX4_feed_0 16 rfl rfl)
theorem dX4_feed_19 : decode cX4_feed 19 = .ok (.ifCond .eq 5, 3) := dk_153 0 5 (dk_at dksX4_feed_0 19 rfl rfl)
theorem dX4_feed_22 : decode cX4_feed 22 = .ok (.iconst 0, 1) := dk_3 (dk_at dksX4_feed_0 22 rfl rfl)
theorem dX4_feed_23 : decode cX4_feed 23 = .ok (.ireturn, 1) := dk_172 (dk_at dksX4_feed_0 23 rfl rfl)
theorem dX4_feed_24 : decode cX4_feed 24 = .ok (.aload_n 0, 1) := dk_42 (dk_at dksX4_feed_1 0 rfl rfl)
theorem dX4_feed_25 : decode cX4_feed 25 = .ok (.getfield 27, 3) := dk_180 0 27 (dk_at dksX4_feed_1 1 rfl rfl)
theorem dX4_feed_28 : decode cX4_feed 28 = .ok (.aload_n 0, 1) := dk_42 (dk_at dksX4_feed_1 4 rfl rfl)
theorem dX4_feed_29 : decode cX4_feed 29 = .ok (.getfield 197, 3) := dk_180 0 197 (dk_at dksX4_feed_1 5 rfl rfl)
theorem dX4_feed_32 : decode cX4_feed 32 = .ok (.iload_n 1, 1) := dk_27 (dk_at dksX4_feed_1 8 rfl rfl)
theorem dX4_feed_33 : decode cX4_feed 33 = .ok (.castore, 1) := dk_85 (dk_at dksX4_feed_1 9 rfl rfl)
theorem dX4_feed_34 : decode cX4_feed 34 = .ok (.aload_n 0, 1) := dk_42 (dk_at dksX4_feed_1 10 rfl rfl)
theorem dX4_feed_35 : decode cX4_feed 35 = .ok (.dup, 1) := dk_89 (dk_at dksX4_feed_1 11 rfl rfl)
theorem dX4_feed_36 : decode cX4_feed 36 = .ok (.getfield 197, 3) := dk_180 0 197 (dk_at dksX4_feed_1 12 rfl rfl)
theorem dX4_feed_39 : decode cX4_feed 39 = .ok (.iconst 1, 1) := dk_4 (dk_at dksX4_feed_1 15 rfl rfl)
theorem dX4_feed_40 : decode cX4_feed 40 = .ok (.iadd, 1) := dk_96 (dk_at dksX4_feed_1 16 rfl rfl)
theorem dX4_feed_41 : decode cX4_feed 41 = .ok (.putfield 197, 3) := dk_181 0 197 (dk_at dksX4_feed_1 17 rfl rfl)
theorem dX4_feed_44 : decode cX4_feed 44 = .ok (.aload_n 0, 1) := dk_42 (dk_at dksX4_feed_1 20 rfl rfl)
theorem dX4_feed_45 : decode cX4_feed 45 = .ok (.getfield 197, 3) := dk_180 0 197 (dk_at dksX4_feed_1 21 rfl rfl)
theorem dX4_feed_48 : decode cX4_feed 48 = .ok (.ireturn, 1) := dk_172 (dk_at dksX4_feed_2 0 rfl rfl)
abbrev cX4_read : ByteArray := prog_24_method_75_code
def yX4_read : MethodName := ⟨RX4, "read", "()I"⟩
def dkwX4_read_8 : List UInt8 := [27, 172]
abbrev dktX4_read_8 : List UInt8 := dkwX4_read_8 ++ []
def dkwX4_read_7 : List UInt8 := [153, 0, 16, 42, 180, 0, 35, 42, 180, 0, 9, 184, 0, 50, 3, 172, 42, 42, 180, 0, 35, 182, 0, 58]
abbrev dktX4_read_7 : List UInt8 := dkwX4_read_7 ++ dktX4_read_8
def dkwX4_read_6 : List UInt8 := [181, 0, 54, 42, 3, 181, 0, 197, 42, 5, 28, 154, 0, 7, 4, 167, 0, 4, 3, 182, 0, 98]
abbrev dktX4_read_6 : List UInt8 := dkwX4_read_6 ++ dktX4_read_7
def dkwX4_read_5 : List UInt8 := [160, 0, 7, 4, 167, 0, 4, 3, 16, 20, 29, 182, 0, 105, 87, 132, 3, 1, 167, 255, 192, 42, 3]
abbrev dktX4_read_5 : List UInt8 := dkwX4_read_5 ++ dktX4_read_6
def dkwX4_read_4 : List UInt8 := [182, 1, 3, 42, 180, 0, 38, 154, 0, 7, 4, 167, 0, 4, 3, 61, 42, 42, 180, 0, 38, 4]
abbrev dktX4_read_4 : List UInt8 := dkwX4_read_4 ++ dktX4_read_5
def dkwX4_read_3 : List UInt8 := [29, 27, 162, 0, 65, 28, 153, 0, 61, 42, 182, 0, 231, 42, 89, 180, 0, 204, 4, 96, 181, 0, 204, 42]
abbrev dktX4_read_3 : List UInt8 := dkwX4_read_3 ++ dktX4_read_4
def dkwX4_read_2 : List UInt8 := [180, 0, 9, 42, 180, 0, 35, 184, 0, 50, 42, 4, 181, 0, 54, 4, 61, 42, 3, 181, 0, 204, 3, 62]
abbrev dktX4_read_2 : List UInt8 := dkwX4_read_2 ++ dktX4_read_3
def dkwX4_read_1 : List UInt8 := [181, 0, 31, 42, 4, 42, 180, 0, 201, 182, 0, 98, 153, 0, 10, 42, 3, 181, 0, 197, 3, 172, 42]
abbrev dktX4_read_1 : List UInt8 := dkwX4_read_1 ++ dktX4_read_2
def dkwX4_read_0 : List UInt8 := [42, 182, 1, 0, 60, 42, 42, 180, 0, 201, 153, 0, 10, 42, 180, 0, 204, 167, 0, 7, 42, 180, 0, 31]
abbrev dktX4_read_0 : List UInt8 := dkwX4_read_0 ++ dktX4_read_1
theorem dksX4_read_0 : cX4_read.data.toList.drop 0 = dktX4_read_0 := by decide +kernel
theorem dksX4_read_1 : cX4_read.data.toList.drop 24 = dktX4_read_1 := dk_seg dksX4_read_0 24 rfl rfl
theorem dksX4_read_2 : cX4_read.data.toList.drop 47 = dktX4_read_2 := dk_seg dksX4_read_1 23 rfl rfl
theorem dksX4_read_3 : cX4_read.data.toList.drop 71 = dktX4_read_3 := dk_seg dksX4_read_2 24 rfl rfl
theorem dksX4_read_4 : cX4_read.data.toList.drop 95 = dktX4_read_4 := dk_seg dksX4_read_3 24 rfl rfl
theorem dksX4_read_5 : cX4_read.data.toList.drop 117 = dktX4_read_5 := dk_seg dksX4_read_4 22 rfl rfl
theorem dksX4_read_6 : cX4_read.data.toList.drop 140 = dktX4_read_6 := dk_seg dksX4_read_5 23 rfl rfl
theorem dksX4_read_7 : cX4_read.data.toList.drop 162 = dktX4_read_7 := dk_seg dksX4_read_6 22 rfl rfl
theorem dksX4_read_8 : cX4_read.data.toList.drop 186 = dktX4_read_8 := dk_seg dksX4_read_7 24 rfl rfl
theorem dX4_read_0 : decode cX4_read 0 = .ok (.aload_n 0, 1) := dk_42 (dk_at dksX4_read_0 0 rfl rfl)
theorem dX4_read_1 : decode cX4_read 1 = .ok (.invokevirtual 256, 3) := dk_182 1 0 (dk_at dksX4_read_0 1 rfl rfl)
theorem dX4_read_4 : decode cX4_read 4 = .ok (.istore_n 1, 1) := dk_60 (dk_at dksX4_read_0 4 rfl rfl)
theorem dX4_read_5 : decode cX4_read 5 = .ok (.aload_n 0, 1) := dk_42 (dk_at dksX4_read_0 5 rfl rfl)
theorem dX4_read_6 : decode cX4_read 6 = .ok (.aload_n 0, 1) := dk_42 (dk_at dksX4_read_0 6 rfl rfl)
theorem dX4_read_7 : decode cX4_read 7 = .ok (.getfield 201, 3) := dk_180 0 201 (dk_at dksX4_read_0 7 rfl rfl)
theorem dX4_read_10 : decode cX4_read 10 = .ok (.ifCond .eq 10, 3) := dk_153 0 10 (dk_at dksX4_read_0 10 rfl rfl)
theorem dX4_read_13 : decode cX4_read 13 = .ok (.aload_n 0, 1) := dk_42 (dk_at dksX4_read_0 13 rfl rfl)
theorem dX4_read_14 : decode cX4_read 14 = .ok (.getfield 204, 3) := dk_180 0 204 (dk_at dksX4_read_0 14 rfl rfl)
theorem dX4_read_17 : decode cX4_read 17 = .ok (.goto 7, 3) := dk_167 0 7 (dk_at dksX4_read_0 17 rfl rfl)
theorem dX4_read_20 : decode cX4_read 20 = .ok (.aload_n 0, 1) := dk_42 (dk_at dksX4_read_0 20 rfl rfl)
theorem dX4_read_21 : decode cX4_read 21 = .ok (.getfield 31, 3) := dk_180 0 31 (dk_at dksX4_read_0 21 rfl rfl)
theorem dX4_read_24 : decode cX4_read 24 = .ok (.putfield 31, 3) := dk_181 0 31 (dk_at dksX4_read_1 0 rfl rfl)
theorem dX4_read_27 : decode cX4_read 27 = .ok (.aload_n 0, 1) := dk_42 (dk_at dksX4_read_1 3 rfl rfl)
theorem dX4_read_28 : decode cX4_read 28 = .ok (.iconst 1, 1) := dk_4 (dk_at dksX4_read_1 4 rfl rfl)
theorem dX4_read_29 : decode cX4_read 29 = .ok (.aload_n 0, 1) := dk_42 (dk_at dksX4_read_1 5 rfl rfl)
theorem dX4_read_30 : decode cX4_read 30 = .ok (.getfield 201, 3) := dk_180 0 201 (dk_at dksX4_read_1 6 rfl rfl)
theorem dX4_read_33 : decode cX4_read 33 = .ok (.invokevirtual 98, 3) := dk_182 0 98 (dk_at dksX4_read_1 9 rfl rfl)
theorem dX4_read_36 : decode cX4_read 36 = .ok (.ifCond .eq 10, 3) := dk_153 0 10 (dk_at dksX4_read_1 12 rfl rfl)
theorem dX4_read_39 : decode cX4_read 39 = .ok (.aload_n 0, 1) := dk_42 (dk_at dksX4_read_1 15 rfl rfl)
theorem dX4_read_40 : decode cX4_read 40 = .ok (.iconst 0, 1) := dk_3 (dk_at dksX4_read_1 16 rfl rfl)
theorem dX4_read_41 : decode cX4_read 41 = .ok (.putfield 197, 3) := dk_181 0 197 (dk_at dksX4_read_1 17 rfl rfl)
theorem dX4_read_44 : decode cX4_read 44 = .ok (.iconst 0, 1) := dk_3 (dk_at dksX4_read_1 20 rfl rfl)
theorem dX4_read_45 : decode cX4_read 45 = .ok (.ireturn, 1) := dk_172 (dk_at dksX4_read_1 21 rfl rfl)
theorem dX4_read_46 : decode cX4_read 46 = .ok (.aload_n 0, 1) := dk_42 (dk_at dksX4_read_1 22 rfl rfl)
theorem dX4_read_47 : decode cX4_read 47 = .ok (.getfield 9, 3) := dk_180 0 9 (dk_at dksX4_read_2 0 rfl rfl)
theorem dX4_read_50 : decode cX4_read 50 = .ok (.aload_n 0, 1) := dk_42 (dk_at dksX4_read_2 3 rfl rfl)
theorem dX4_read_51 : decode cX4_read 51 = .ok (.getfield 35, 3) := dk_180 0 35 (dk_at dksX4_read_2 4 rfl rfl)
theorem dX4_read_54 : decode cX4_read 54 = .ok (.invokestatic 50, 3) := dk_184 0 50 (dk_at dksX4_read_2 7 rfl rfl)
theorem dX4_read_57 : decode cX4_read 57 = .ok (.aload_n 0, 1) := dk_42 (dk_at dksX4_read_2 10 rfl rfl)
theorem dX4_read_58 : decode cX4_read 58 = .ok (.iconst 1, 1) := dk_4 (dk_at dksX4_read_2 11 rfl rfl)
theorem dX4_read_59 : decode cX4_read 59 = .ok (.putfield 54, 3) := dk_181 0 54 (dk_at dksX4_read_2 12 rfl rfl)
theorem dX4_read_62 : decode cX4_read 62 = .ok (.iconst 1, 1) := dk_4 (dk_at dksX4_read_2 15 rfl rfl)
theorem dX4_read_63 : decode cX4_read 63 = .ok (.istore_n 2, 1) := dk_61 (dk_at dksX4_read_2 16 rfl rfl)
theorem dX4_read_64 : decode cX4_read 64 = .ok (.aload_n 0, 1) := dk_42 (dk_at dksX4_read_2 17 rfl rfl)
theorem dX4_read_65 : decode cX4_read 65 = .ok (.iconst 0, 1) := dk_3 (dk_at dksX4_read_2 18 rfl rfl)
theorem dX4_read_66 : decode cX4_read 66 = .ok (.putfield 204, 3) := dk_181 0 204 (dk_at dksX4_read_2 19 rfl rfl)
theorem dX4_read_69 : decode cX4_read 69 = .ok (.iconst 0, 1) := dk_3 (dk_at dksX4_read_2 22 rfl rfl)
theorem dX4_read_70 : decode cX4_read 70 = .ok (.istore_n 3, 1) := dk_62 (dk_at dksX4_read_2 23 rfl rfl)
theorem dX4_read_71 : decode cX4_read 71 = .ok (.iload_n 3, 1) := dk_29 (dk_at dksX4_read_3 0 rfl rfl)
theorem dX4_read_72 : decode cX4_read 72 = .ok (.iload_n 1, 1) := dk_27 (dk_at dksX4_read_3 1 rfl rfl)
theorem dX4_read_73 : decode cX4_read 73 = .ok (.if_icmp .ge 65, 3) := dk_162 0 65 (dk_at dksX4_read_3 2 rfl rfl)
theorem dX4_read_76 : decode cX4_read 76 = .ok (.iload_n 2, 1) := dk_28 (dk_at dksX4_read_3 5 rfl rfl)
theorem dX4_read_77 : decode cX4_read 77 = .ok (.ifCond .eq 61, 3) := dk_153 0 61 (dk_at dksX4_read_3 6 rfl rfl)
theorem dX4_read_80 : decode cX4_read 80 = .ok (.aload_n 0, 1) := dk_42 (dk_at dksX4_read_3 9 rfl rfl)
theorem dX4_read_81 : decode cX4_read 81 = .ok (.invokevirtual 231, 3) := dk_182 0 231 (dk_at dksX4_read_3 10 rfl rfl)
theorem dX4_read_84 : decode cX4_read 84 = .ok (.aload_n 0, 1) := dk_42 (dk_at dksX4_read_3 13 rfl rfl)
theorem dX4_read_85 : decode cX4_read 85 = .ok (.dup, 1) := dk_89 (dk_at dksX4_read_3 14 rfl rfl)
theorem dX4_read_86 : decode cX4_read 86 = .ok (.getfield 204, 3) := dk_180 0 204 (dk_at dksX4_read_3 15 rfl rfl)
theorem dX4_read_89 : decode cX4_read 89 = .ok (.iconst 1, 1) := dk_4 (dk_at dksX4_read_3 18 rfl rfl)
theorem dX4_read_90 : decode cX4_read 90 = .ok (.iadd, 1) := dk_96 (dk_at dksX4_read_3 19 rfl rfl)
theorem dX4_read_91 : decode cX4_read 91 = .ok (.putfield 204, 3) := dk_181 0 204 (dk_at dksX4_read_3 20 rfl rfl)
theorem dX4_read_94 : decode cX4_read 94 = .ok (.aload_n 0, 1) := dk_42 (dk_at dksX4_read_3 23 rfl rfl)
theorem dX4_read_95 : decode cX4_read 95 = .ok (.invokevirtual 259, 3) := dk_182 1 3 (dk_at dksX4_read_4 0 rfl rfl)
theorem dX4_read_98 : decode cX4_read 98 = .ok (.aload_n 0, 1) := dk_42 (dk_at dksX4_read_4 3 rfl rfl)
theorem dX4_read_99 : decode cX4_read 99 = .ok (.getfield 38, 3) := dk_180 0 38 (dk_at dksX4_read_4 4 rfl rfl)
theorem dX4_read_102 : decode cX4_read 102 = .ok (.ifCond .ne 7, 3) := dk_154 0 7 (dk_at dksX4_read_4 7 rfl rfl)
theorem dX4_read_105 : decode cX4_read 105 = .ok (.iconst 1, 1) := dk_4 (dk_at dksX4_read_4 10 rfl rfl)
theorem dX4_read_106 : decode cX4_read 106 = .ok (.goto 4, 3) := dk_167 0 4 (dk_at dksX4_read_4 11 rfl rfl)
theorem dX4_read_109 : decode cX4_read 109 = .ok (.iconst 0, 1) := dk_3 (dk_at dksX4_read_4 14 rfl rfl)
theorem dX4_read_110 : decode cX4_read 110 = .ok (.istore_n 2, 1) := dk_61 (dk_at dksX4_read_4 15 rfl rfl)
theorem dX4_read_111 : decode cX4_read 111 = .ok (.aload_n 0, 1) := dk_42 (dk_at dksX4_read_4 16 rfl rfl)
theorem dX4_read_112 : decode cX4_read 112 = .ok (.aload_n 0, 1) := dk_42 (dk_at dksX4_read_4 17 rfl rfl)
theorem dX4_read_113 : decode cX4_read 113 = .ok (.getfield 38, 3) := dk_180 0 38 (dk_at dksX4_read_4 18 rfl rfl)
theorem dX4_read_116 : decode cX4_read 116 = .ok (.iconst 1, 1) := dk_4 (dk_at dksX4_read_4 21 rfl rfl)
theorem dX4_read_117 : decode cX4_read 117 = .ok (.if_icmp .ne 7, 3) := dk_160 0 7 (dk_at dksX4_read_5 0 rfl rfl)
theorem dX4_read_120 : decode cX4_read 120 = .ok (.iconst 1, 1) := dk_4 (dk_at dksX4_read_5 3 rfl rfl)
theorem dX4_read_121 : decode cX4_read 121 = .ok (.goto 4, 3) := dk_167 0 4 (dk_at dksX4_read_5 4 rfl rfl)
theorem dX4_read_124 : decode cX4_read 124 = .ok (.iconst 0, 1) := dk_3 (dk_at dksX4_read_5 7 rfl rfl)
theorem dX4_read_125 : decode cX4_read 125 = .ok (.bipush 20, 2) := dk_16 20 (dk_at dksX4_read_5 8 rfl rfl)
theorem dX4_read_127 : decode cX4_read 127 = .ok (.iload_n 3, 1) := dk_29 (dk_at dksX4_read_5 10 rfl rfl)
theorem dX4_read_128 : decode cX4_read 128 = .ok (.invokevirtual 105, 3) := dk_182 0 105 (dk_at dksX4_read_5 11 rfl rfl)
theorem dX4_read_131 : decode cX4_read 131 = .ok (.pop, 1) := dk_87 (dk_at dksX4_read_5 14 rfl rfl)
theorem dX4_read_132 : decode cX4_read 132 = .ok (.iinc 3 1, 3) := dk_132 3 1 (dk_at dksX4_read_5 15 rfl rfl)
theorem dX4_read_135 : decode cX4_read 135 = .ok (.goto (-64), 3) := dk_167 255 192 (dk_at dksX4_read_5 18 rfl rfl)
theorem dX4_read_138 : decode cX4_read 138 = .ok (.aload_n 0, 1) := dk_42 (dk_at dksX4_read_5 21 rfl rfl)
theorem dX4_read_139 : decode cX4_read 139 = .ok (.iconst 0, 1) := dk_3 (dk_at dksX4_read_5 22 rfl rfl)
theorem dX4_read_140 : decode cX4_read 140 = .ok (.putfield 54, 3) := dk_181 0 54 (dk_at dksX4_read_6 0 rfl rfl)
theorem dX4_read_143 : decode cX4_read 143 = .ok (.aload_n 0, 1) := dk_42 (dk_at dksX4_read_6 3 rfl rfl)
theorem dX4_read_144 : decode cX4_read 144 = .ok (.iconst 0, 1) := dk_3 (dk_at dksX4_read_6 4 rfl rfl)
theorem dX4_read_145 : decode cX4_read 145 = .ok (.putfield 197, 3) := dk_181 0 197 (dk_at dksX4_read_6 5 rfl rfl)
theorem dX4_read_148 : decode cX4_read 148 = .ok (.aload_n 0, 1) := dk_42 (dk_at dksX4_read_6 8 rfl rfl)
theorem dX4_read_149 : decode cX4_read 149 = .ok (.iconst 2, 1) := dk_5 (dk_at dksX4_read_6 9 rfl rfl)
theorem dX4_read_150 : decode cX4_read 150 = .ok (.iload_n 2, 1) := dk_28 (dk_at dksX4_read_6 10 rfl rfl)
theorem dX4_read_151 : decode cX4_read 151 = .ok (.ifCond .ne 7, 3) := dk_154 0 7 (dk_at dksX4_read_6 11 rfl rfl)
theorem dX4_read_154 : decode cX4_read 154 = .ok (.iconst 1, 1) := dk_4 (dk_at dksX4_read_6 14 rfl rfl)
theorem dX4_read_155 : decode cX4_read 155 = .ok (.goto 4, 3) := dk_167 0 4 (dk_at dksX4_read_6 15 rfl rfl)
theorem dX4_read_158 : decode cX4_read 158 = .ok (.iconst 0, 1) := dk_3 (dk_at dksX4_read_6 18 rfl rfl)
theorem dX4_read_159 : decode cX4_read 159 = .ok (.invokevirtual 98, 3) := dk_182 0 98 (dk_at dksX4_read_6 19 rfl rfl)
theorem dX4_read_162 : decode cX4_read 162 = .ok (.ifCond .eq 16, 3) := dk_153 0 16 (dk_at dksX4_read_7 0 rfl rfl)
theorem dX4_read_165 : decode cX4_read 165 = .ok (.aload_n 0, 1) := dk_42 (dk_at dksX4_read_7 3 rfl rfl)
theorem dX4_read_166 : decode cX4_read 166 = .ok (.getfield 35, 3) := dk_180 0 35 (dk_at dksX4_read_7 4 rfl rfl)
theorem dX4_read_169 : decode cX4_read 169 = .ok (.aload_n 0, 1) := dk_42 (dk_at dksX4_read_7 7 rfl rfl)
theorem dX4_read_170 : decode cX4_read 170 = .ok (.getfield 9, 3) := dk_180 0 9 (dk_at dksX4_read_7 8 rfl rfl)
theorem dX4_read_173 : decode cX4_read 173 = .ok (.invokestatic 50, 3) := dk_184 0 50 (dk_at dksX4_read_7 11 rfl rfl)
theorem dX4_read_176 : decode cX4_read 176 = .ok (.iconst 0, 1) := dk_3 (dk_at dksX4_read_7 14 rfl rfl)
theorem dX4_read_177 : decode cX4_read 177 = .ok (.ireturn, 1) := dk_172 (dk_at dksX4_read_7 15 rfl rfl)
theorem dX4_read_178 : decode cX4_read 178 = .ok (.aload_n 0, 1) := dk_42 (dk_at dksX4_read_7 16 rfl rfl)
theorem dX4_read_179 : decode cX4_read 179 = .ok (.aload_n 0, 1) := dk_42 (dk_at dksX4_read_7 17 rfl rfl)
theorem dX4_read_180 : decode cX4_read 180 = .ok (.getfield 35, 3) := dk_180 0 35 (dk_at dksX4_read_7 18 rfl rfl)
theorem dX4_read_183 : decode cX4_read 183 = .ok (.invokevirtual 58, 3) := dk_182 0 58 (dk_at dksX4_read_7 21 rfl rfl)
theorem dX4_read_186 : decode cX4_read 186 = .ok (.iload_n 1, 1) := dk_27 (dk_at dksX4_read_8 0 rfl rfl)
theorem dX4_read_187 : decode cX4_read 187 = .ok (.ireturn, 1) := dk_172 (dk_at dksX4_read_8 1 rfl rfl)
abbrev cX4_countCommands : ByteArray := prog_24_method_73_code
def yX4_countCommands : MethodName := ⟨RX4, "countCommands", "()I"⟩
def dkwX4_countCommands_2 : List UInt8 := [3, 181, 0, 201, 42, 182, 0, 231, 132, 1, 1, 167, 255, 213, 27, 172]
abbrev dktX4_countCommands_2 : List UInt8 := dkwX4_countCommands_2 ++ []
def dkwX4_countCommands_1 : List UInt8 := [180, 0, 204, 42, 180, 0, 197, 162, 0, 31, 42, 42, 16, 59, 182, 0, 224, 154, 0, 7, 4, 167, 0, 4]
abbrev dktX4_countCommands_1 : List UInt8 := dkwX4_countCommands_1 ++ dktX4_countCommands_2
def dkwX4_countCommands_0 : List UInt8 := [42, 3, 181, 0, 204, 42, 3, 181, 0, 201, 4, 60, 42, 182, 0, 231, 42, 180, 0, 201, 154, 0, 42, 42]
abbrev dktX4_countCommands_0 : List UInt8 := dkwX4_countCommands_0 ++ dktX4_countCommands_1
theorem dksX4_countCommands_0 : cX4_countCommands.data.toList.drop 0 = dktX4_countCommands_0 := by decide +kernel
theorem dksX4_countCommands_1 : cX4_countCommands.data.toList.drop 24 = dktX4_countCommands_1 := dk_seg dksX4_countCommands_0 24 rfl rfl
theorem dksX4_countCommands_2 : cX4_countCommands.data.toList.drop 48 = dktX4_countCommands_2 := dk_seg dksX4_countCommands_1 24 rfl rfl
theorem dX4_countCommands_0 : decode cX4_countCommands 0 = .ok (.aload_n 0, 1) := dk_42 (dk_at dksX4_countCommands_0 0 rfl rfl)
theorem dX4_countCommands_1 : decode cX4_countCommands 1 = .ok (.iconst 0, 1) := dk_3 (dk_at dksX4_countCommands_0 1 rfl rfl)
theorem dX4_countCommands_2 : decode cX4_countCommands 2 = .ok (.putfield 204, 3) := dk_181 0 204 (dk_at dksX4_countCommands_0 2 rfl rfl)
theorem dX4_countCommands_5 : decode cX4_countCommands 5 = .ok (.aload_n 0, 1) := dk_42 (dk_at dksX4_countCommands_0 5 rfl rfl)
theorem dX4_countCommands_6 : decode cX4_countCommands 6 = .ok (.iconst 0, 1) := dk_3 (dk_at dksX4_countCommands_0 6 rfl rfl)
theorem dX4_countCommands_7 : decode cX4_countCommands 7 = .ok (.putfield 201, 3) := dk_181 0 201 (dk_at dksX4_countCommands_0 7 rfl rfl)
theorem dX4_countCommands_10 : decode cX4_countCommands 10 = .ok (.iconst 1, 1) := dk_4 (dk_at dksX4_countCommands_0 10 rfl rfl)
theorem dX4_countCommands_11 : decode cX4_countCommands 11 = .ok (.istore_n 1, 1) := dk_60 (dk_at dksX4_countCommands_0 11 rfl rfl)
theorem dX4_countCommands_12 : decode cX4_countCommands 12 = .ok (.aload_n 0, 1) := dk_42 (dk_at dksX4_countCommands_0 12 rfl rfl)
theorem dX4_countCommands_13 : decode cX4_countCommands 13 = .ok (.invokevirtual 231, 3) := dk_182 0 231 (dk_at dksX4_countCommands_0 13 rfl rfl)
theorem dX4_countCommands_16 : decode cX4_countCommands 16 = .ok (.aload_n 0, 1) := dk_42 (dk_at dksX4_countCommands_0 16 rfl rfl)
theorem dX4_countCommands_17 : decode cX4_countCommands 17 = .ok (.getfield 201, 3) := dk_180 0 201 (dk_at dksX4_countCommands_0 17 rfl rfl)
theorem dX4_countCommands_20 : decode cX4_countCommands 20 = .ok (.ifCond .ne 42, 3) := dk_154 0 42 (dk_at dksX4_countCommands_0 20 rfl rfl)
theorem dX4_countCommands_23 : decode cX4_countCommands 23 = .ok (.aload_n 0, 1) := dk_42 (dk_at dksX4_countCommands_0 23 rfl rfl)
theorem dX4_countCommands_24 : decode cX4_countCommands 24 = .ok (.getfield 204, 3) := dk_180 0 204 (dk_at dksX4_countCommands_1 0 rfl rfl)
theorem dX4_countCommands_27 : decode cX4_countCommands 27 = .ok (.aload_n 0, 1) := dk_42 (dk_at dksX4_countCommands_1 3 rfl rfl)
theorem dX4_countCommands_28 : decode cX4_countCommands 28 = .ok (.getfield 197, 3) := dk_180 0 197 (dk_at dksX4_countCommands_1 4 rfl rfl)
theorem dX4_countCommands_31 : decode cX4_countCommands 31 = .ok (.if_icmp .ge 31, 3) := dk_162 0 31 (dk_at dksX4_countCommands_1 7 rfl rfl)
theorem dX4_countCommands_34 : decode cX4_countCommands 34 = .ok (.aload_n 0, 1) := dk_42 (dk_at dksX4_countCommands_1 10 rfl rfl)
theorem dX4_countCommands_35 : decode cX4_countCommands 35 = .ok (.aload_n 0, 1) := dk_42 (dk_at dksX4_countCommands_1 11 rfl rfl)
theorem dX4_countCommands_36 : decode cX4_countCommands 36 = .ok (.bipush 59, 2) := dk_16 59 (dk_at dksX4_countCommands_1 12 rfl rfl)
theorem dX4_countCommands_38 : decode cX4_countCommands 38 = .ok (.invokevirtual 224, 3) := dk_182 0 224 (dk_at dksX4_countCommands_1 14 rfl rfl)
theorem dX4_countCommands_41 : decode cX4_countCommands 41 = .ok (.ifCond .ne 7, 3) := dk_154 0 7 (dk_at dksX4_countCommands_1 17 rfl rfl)
theorem dX4_countCommands_44 : decode cX4_countCommands 44 = .ok (.iconst 1, 1) := dk_4 (dk_at dksX4_countCommands_1 20 rfl rfl)
theorem dX4_countCommands_45 : decode cX4_countCommands 45 = .ok (.goto 4, 3) := dk_167 0 4 (dk_at dksX4_countCommands_1 21 rfl rfl)
theorem dX4_countCommands_48 : decode cX4_countCommands 48 = .ok (.iconst 0, 1) := dk_3 (dk_at dksX4_countCommands_2 0 rfl rfl)
theorem dX4_countCommands_49 : decode cX4_countCommands 49 = .ok (.putfield 201, 3) := dk_181 0 201 (dk_at dksX4_countCommands_2 1 rfl rfl)
theorem dX4_countCommands_52 : decode cX4_countCommands 52 = .ok (.aload_n 0, 1) := dk_42 (dk_at dksX4_countCommands_2 4 rfl rfl)
theorem dX4_countCommands_53 : decode cX4_countCommands 53 = .ok (.invokevirtual 231, 3) := dk_182 0 231 (dk_at dksX4_countCommands_2 5 rfl rfl)
theorem dX4_countCommands_56 : decode cX4_countCommands 56 = .ok (.iinc 1 1, 3) := dk_132 1 1 (dk_at dksX4_countCommands_2 8 rfl rfl)
theorem dX4_countCommands_59 : decode cX4_countCommands 59 = .ok (.goto (-43), 3) := dk_167 255 213 (dk_at dksX4_countCommands_2 11 rfl rfl)
theorem dX4_countCommands_62 : decode cX4_countCommands 62 = .ok (.iload_n 1, 1) := dk_27 (dk_at dksX4_countCommands_2 14 rfl rfl)
theorem dX4_countCommands_63 : decode cX4_countCommands 63 = .ok (.ireturn, 1) := dk_172 (dk_at dksX4_countCommands_2 15 rfl rfl)
abbrev cX4_readCommand : ByteArray := prog_24_method_72_code
def yX4_readCommand : MethodName := ⟨RX4, "readCommand", "()V"⟩
def dkwX4_readCommand_8 : List UInt8 := [181, 0, 228, 42, 42, 16, 112, 182, 0, 224, 181, 0, 221, 177]
abbrev dktX4_readCommand_8 : List UInt8 := dkwX4_readCommand_8 ++ []
def dkwX4_readCommand_7 : List UInt8 := [16, 44, 182, 0, 224, 154, 0, 7, 4, 167, 0, 4, 3, 128, 181, 0, 201, 42, 42, 182, 0, 215]
abbrev dktX4_readCommand_7 : List UInt8 := dkwX4_readCommand_7 ++ dktX4_readCommand_8
def dkwX4_readCommand_6 : List UInt8 := [181, 0, 218, 42, 3, 181, 0, 221, 42, 180, 0, 211, 16, 100, 160, 0, 44, 42, 89, 180, 0, 201, 42]
abbrev dktX4_readCommand_6 : List UInt8 := dkwX4_readCommand_6 ++ dktX4_readCommand_7
def dkwX4_readCommand_5 : List UInt8 := [180, 0, 204, 42, 180, 0, 201, 153, 0, 7, 3, 167, 0, 4, 4, 96, 181, 0, 204, 42, 42, 182, 0, 215]
abbrev dktX4_readCommand_5 : List UInt8 := dkwX4_readCommand_5 ++ dktX4_readCommand_6
def dkwX4_readCommand_4 : List UInt8 := [159, 0, 16, 42, 180, 0, 211, 16, 110, 159, 0, 7, 4, 167, 0, 4, 3, 128, 181, 0, 201, 42, 89]
abbrev dktX4_readCommand_4 : List UInt8 := dkwX4_readCommand_4 ++ dktX4_readCommand_5
def dkwX4_readCommand_3 : List UInt8 := [180, 0, 211, 16, 117, 159, 0, 34, 42, 180, 0, 211, 16, 99, 159, 0, 25, 42, 180, 0, 211, 16, 116]
abbrev dktX4_readCommand_3 : List UInt8 := dkwX4_readCommand_3 ++ dktX4_readCommand_4
def dkwX4_readCommand_2 : List UInt8 := [159, 0, 61, 42, 180, 0, 211, 16, 100, 159, 0, 52, 42, 180, 0, 211, 16, 112, 159, 0, 43, 42]
abbrev dktX4_readCommand_2 : List UInt8 := dkwX4_readCommand_2 ++ dktX4_readCommand_3
def dkwX4_readCommand_1 : List UInt8 := [180, 0, 204, 52, 167, 0, 5, 16, 32, 181, 0, 211, 42, 89, 180, 0, 201, 42, 180, 0, 211, 16, 115]
abbrev dktX4_readCommand_1 : List UInt8 := dkwX4_readCommand_1 ++ dktX4_readCommand_2
def dkwX4_readCommand_0 : List UInt8 := [42, 42, 180, 0, 201, 154, 0, 26, 42, 180, 0, 204, 42, 180, 0, 197, 162, 0, 15, 42, 180, 0, 27, 42]
abbrev dktX4_readCommand_0 : List UInt8 := dkwX4_readCommand_0 ++ dktX4_readCommand_1
theorem dksX4_readCommand_0 : cX4_readCommand.data.toList.drop 0 = dktX4_readCommand_0 := by decide +kernel
theorem dksX4_readCommand_1 : cX4_readCommand.data.toList.drop 24 = dktX4_readCommand_1 := dk_seg dksX4_readCommand_0 24 rfl rfl
theorem dksX4_readCommand_2 : cX4_readCommand.data.toList.drop 47 = dktX4_readCommand_2 := dk_seg dksX4_readCommand_1 23 rfl rfl
theorem dksX4_readCommand_3 : cX4_readCommand.data.toList.drop 69 = dktX4_readCommand_3 := dk_seg dksX4_readCommand_2 22 rfl rfl
theorem dksX4_readCommand_4 : cX4_readCommand.data.toList.drop 92 = dktX4_readCommand_4 := dk_seg dksX4_readCommand_3 23 rfl rfl
theorem dksX4_readCommand_5 : cX4_readCommand.data.toList.drop 115 = dktX4_readCommand_5 := dk_seg dksX4_readCommand_4 23 rfl rfl
theorem dksX4_readCommand_6 : cX4_readCommand.data.toList.drop 139 = dktX4_readCommand_6 := dk_seg dksX4_readCommand_5 24 rfl rfl
theorem dksX4_readCommand_7 : cX4_readCommand.data.toList.drop 162 = dktX4_readCommand_7 := dk_seg dksX4_readCommand_6 23 rfl rfl
theorem dksX4_readCommand_8 : cX4_readCommand.data.toList.drop 184 = dktX4_readCommand_8 := dk_seg dksX4_readCommand_7 22 rfl rfl
theorem dX4_readCommand_0 : decode cX4_readCommand 0 = .ok (.aload_n 0, 1) := dk_42 (dk_at dksX4_readCommand_0 0 rfl rfl)
theorem dX4_readCommand_1 : decode cX4_readCommand 1 = .ok (.aload_n 0, 1) := dk_42 (dk_at dksX4_readCommand_0 1 rfl rfl)
theorem dX4_readCommand_2 : decode cX4_readCommand 2 = .ok (.getfield 201, 3) := dk_180 0 201 (dk_at dksX4_readCommand_0 2 rfl rfl)
theorem dX4_readCommand_5 : decode cX4_readCommand 5 = .ok (.ifCond .ne 26, 3) := dk_154 0 26 (dk_at dksX4_readCommand_0 5 rfl rfl)
theorem dX4_readCommand_8 : decode cX4_readCommand 8 = .ok (.aload_n 0, 1) := dk_42 (dk_at dksX4_readCommand_0 8 rfl rfl)
theorem dX4_readCommand_9 : decode cX4_readCommand 9 = .ok (.getfield 204, 3) := dk_180 0 204 (dk_at dksX4_readCommand_0 9 rfl rfl)
theorem dX4_readCommand_12 : decode cX4_readCommand 12 = .ok (.aload_n 0, 1) := dk_42 (dk_at dksX4_readCommand_0 12 rfl rfl)
theorem dX4_readCommand_13 : decode cX4_readCommand 13 = .ok (.getfield 197, 3) := dk_180 0 197 (dk_at dksX4_readCommand_0 13 rfl rfl)
theorem dX4_readCommand_16 : decode cX4_readCommand 16 = .ok (.if_icmp .ge 15, 3) := dk_162 0 15 (dk_at dksX4_readCommand_0 16 rfl rfl)
theorem dX4_readCommand_19 : decode cX4_readCommand 19 = .ok (.aload_n 0, 1) := dk_42 (dk_at dksX4_readCommand_0 19 rfl rfl)
theorem dX4_readCommand_20 : decode cX4_readCommand 20 = .ok (.getfield 27, 3) := dk_180 0 27 (dk_at dksX4_readCommand_0 20 rfl rfl)
theorem dX4_readCommand_23 : decode cX4_readCommand 23 = .ok (.aload_n 0, 1) := dk_42 (dk_at dksX4_readCommand_0 23 rfl rfl)
theorem dX4_readCommand_24 : decode cX4_readCommand 24 = .ok (.getfield 204, 3) := dk_180 0 204 (dk_at dksX4_readCommand_1 0 rfl rfl)
theorem dX4_readCommand_27 : decode cX4_readCommand 27 = .ok (.caload, 1) := dk_52 (dk_at dksX4_readCommand_1 3 rfl rfl)
theorem dX4_readCommand_28 : decode cX4_readCommand 28 = .ok (.goto 5, 3) := dk_167 0 5 (dk_at dksX4_readCommand_1 4 rfl rfl)
theorem dX4_readCommand_31 : decode cX4_readCommand 31 = .ok (.bipush 32, 2) := dk_16 32 (dk_at dksX4_readCommand_1 7 rfl rfl)
theorem dX4_readCommand_33 : decode cX4_readCommand 33 = .ok (.putfield 211, 3) := dk_181 0 211 (dk_at dksX4_readCommand_1 9 rfl rfl)
theorem dX4_readCommand_36 : decode cX4_readCommand 36 = .ok (.aload_n 0, 1) := dk_42 (dk_at dksX4_readCommand_1 12 rfl rfl)
theorem dX4_readCommand_37 : decode cX4_readCommand 37 = .ok (.dup, 1) := dk_89 (dk_at dksX4_readCommand_1 13 rfl rfl)
theorem dX4_readCommand_38 : decode cX4_readCommand 38 = .ok (.getfield 201, 3) := dk_180 0 201 (dk_at dksX4_readCommand_1 14 rfl rfl)
theorem dX4_readCommand_41 : decode cX4_readCommand 41 = .ok (.aload_n 0, 1) := dk_42 (dk_at dksX4_readCommand_1 17 rfl rfl)
theorem dX4_readCommand_42 : decode cX4_readCommand 42 = .ok (.getfield 211, 3) := dk_180 0 211 (dk_at dksX4_readCommand_1 18 rfl rfl)
theorem dX4_readCommand_45 : decode cX4_readCommand 45 = .ok (.bipush 115, 2) := dk_16 115 (dk_at dksX4_readCommand_1 21 rfl rfl)
theorem dX4_readCommand_47 : decode cX4_readCommand 47 = .ok (.if_icmp .eq 61, 3) := dk_159 0 61 (dk_at dksX4_readCommand_2 0 rfl rfl)
theorem dX4_readCommand_50 : decode cX4_readCommand 50 = .ok (.aload_n 0, 1) := dk_42 (dk_at dksX4_readCommand_2 3 rfl rfl)
theorem dX4_readCommand_51 : decode cX4_readCommand 51 = .ok (.getfield 211, 3) := dk_180 0 211 (dk_at dksX4_readCommand_2 4 rfl rfl)
theorem dX4_readCommand_54 : decode cX4_readCommand 54 = .ok (.bipush 100, 2) := dk_16 100 (dk_at dksX4_readCommand_2 7 rfl rfl)
theorem dX4_readCommand_56 : decode cX4_readCommand 56 = .ok (.if_icmp .eq 52, 3) := dk_159 0 52 (dk_at dksX4_readCommand_2 9 rfl rfl)
theorem dX4_readCommand_59 : decode cX4_readCommand 59 = .ok (.aload_n 0, 1) := dk_42 (dk_at dksX4_readCommand_2 12 rfl rfl)
theorem dX4_readCommand_60 : decode cX4_readCommand 60 = .ok (.getfield 211, 3) := dk_180 0 211 (dk_at dksX4_readCommand_2 13 rfl rfl)
theorem dX4_readCommand_63 : decode cX4_readCommand 63 = .ok (.bipush 112, 2) := dk_16 112 (dk_at dksX4_readCommand_2 16 rfl rfl)
theorem dX4_readCommand_65 : decode cX4_readCommand 65 = .ok (.if_icmp .eq 43, 3) := dk_159 0 43 (dk_at dksX4_readCommand_2 18 rfl rfl)
theorem dX4_readCommand_68 : decode cX4_readCommand 68 = .ok (.aload_n 0, 1) := dk_42 (dk_at dksX4_readCommand_2 21 rfl rfl)
theorem dX4_readCommand_69 : decode cX4_readCommand 69 = .ok (.getfield 211, 3) := dk_180 0 211 (dk_at dksX4_readCommand_3 0 rfl rfl)
theorem dX4_readCommand_72 : decode cX4_readCommand 72 = .ok (.bipush 117, 2) := dk_16 117 (dk_at dksX4_readCommand_3 3 rfl rfl)
theorem dX4_readCommand_74 : decode cX4_readCommand 74 = .ok (.if_icmp .eq 34, 3) := dk_159 0 34 (dk_at dksX4_readCommand_3 5 rfl rfl)
theorem dX4_readCommand_77 : decode cX4_readCommand 77 = .ok (.aload_n 0, 1) := dk_42 (dk_at dksX4_readCommand_3 8 rfl rfl)
theorem dX4_readCommand_78 : decode cX4_readCommand 78 = .ok (.getfield 211, 3) := dk_180 0 211 (dk_at dksX4_readCommand_3 9 rfl rfl)
theorem dX4_readCommand_81 : decode cX4_readCommand 81 = .ok (.bipush 99, 2) := dk_16 99 (dk_at dksX4_readCommand_3 12 rfl rfl)
theorem dX4_readCommand_83 : decode cX4_readCommand 83 = .ok (.if_icmp .eq 25, 3) := dk_159 0 25 (dk_at dksX4_readCommand_3 14 rfl rfl)
theorem dX4_readCommand_86 : decode cX4_readCommand 86 = .ok (.aload_n 0, 1) := dk_42 (dk_at dksX4_readCommand_3 17 rfl rfl)
theorem dX4_readCommand_87 : decode cX4_readCommand 87 = .ok (.getfield 211, 3) := dk_180 0 211 (dk_at dksX4_readCommand_3 18 rfl rfl)
theorem dX4_readCommand_90 : decode cX4_readCommand 90 = .ok (.bipush 116, 2) := dk_16 116 (dk_at dksX4_readCommand_3 21 rfl rfl)
theorem dX4_readCommand_92 : decode cX4_readCommand 92 = .ok (.if_icmp .eq 16, 3) := dk_159 0 16 (dk_at dksX4_readCommand_4 0 rfl rfl)
theorem dX4_readCommand_95 : decode cX4_readCommand 95 = .ok (.aload_n 0, 1) := dk_42 (dk_at dksX4_readCommand_4 3 rfl rfl)
theorem dX4_readCommand_96 : decode cX4_readCommand 96 = .ok (.getfield 211, 3) := dk_180 0 211 (dk_at dksX4_readCommand_4 4 rfl rfl)
theorem dX4_readCommand_99 : decode cX4_readCommand 99 = .ok (.bipush 110, 2) := dk_16 110 (dk_at dksX4_readCommand_4 7 rfl rfl)
theorem dX4_readCommand_101 : decode cX4_readCommand 101 = .ok (.if_icmp .eq 7, 3) := dk_159 0 7 (dk_at dksX4_readCommand_4 9 rfl rfl)
theorem dX4_readCommand_104 : decode cX4_readCommand 104 = .ok (.iconst 1, 1) := dk_4 (dk_at dksX4_readCommand_4 12 rfl rfl)
theorem dX4_readCommand_105 : decode cX4_readCommand 105 = .ok (.goto 4, 3) := dk_167 0 4 (dk_at dksX4_readCommand_4 13 rfl rfl)
theorem dX4_readCommand_108 : decode cX4_readCommand 108 = .ok (.iconst 0, 1) := dk_3 (dk_at dksX4_readCommand_4 16 rfl rfl)
theorem dX4_readCommand_109 : decode cX4_readCommand 109 = .ok (.ior, 1) := dk_128 (dk_at dksX4_readCommand_4 17 rfl rfl)
theorem dX4_readCommand_110 : decode cX4_readCommand 110 = .ok (.putfield 201, 3) := dk_181 0 201 (dk_at dksX4_readCommand_4 18 rfl rfl)
theorem dX4_readCommand_113 : decode cX4_readCommand 113 = .ok (.aload_n 0, 1) := dk_42 (dk_at dksX4_readCommand_4 21 rfl rfl)
theorem dX4_readCommand_114 : decode cX4_readCommand 114 = .ok (.dup, 1) := dk_89 (dk_at dksX4_readCommand_4 22 rfl rfl)
theorem dX4_readCommand_115 : decode cX4_readCommand 115 = .ok (.getfield 204, 3) := dk_180 0 204 (dk_at dksX4_readCommand_5 0 rfl rfl)
theorem dX4_readCommand_118 : decode cX4_readCommand 118 = .ok (.aload_n 0, 1) := dk_42 (dk_at dksX4_readCommand_5 3 rfl rfl)
theorem dX4_readCommand_119 : decode cX4_readCommand 119 = .ok (.getfield 201, 3) := dk_180 0 201 (dk_at dksX4_readCommand_5 4 rfl rfl)
theorem dX4_readCommand_122 : decode cX4_readCommand 122 = .ok (.ifCond .eq 7, 3) := dk_153 0 7 (dk_at dksX4_readCommand_5 7 rfl rfl)
theorem dX4_readCommand_125 : decode cX4_readCommand 125 = .ok (.iconst 0, 1) := dk_3 (dk_at dksX4_readCommand_5 10 rfl rfl)
theorem dX4_readCommand_126 : decode cX4_readCommand 126 = .ok (.goto 4, 3) := dk_167 0 4 (dk_at dksX4_readCommand_5 11 rfl rfl)
theorem dX4_readCommand_129 : decode cX4_readCommand 129 = .ok (.iconst 1, 1) := dk_4 (dk_at dksX4_readCommand_5 14 rfl rfl)
theorem dX4_readCommand_130 : decode cX4_readCommand 130 = .ok (.iadd, 1) := dk_96 (dk_at dksX4_readCommand_5 15 rfl rfl)
theorem dX4_readCommand_131 : decode cX4_readCommand 131 = .ok (.putfield 204, 3) := dk_181 0 204 (dk_at dksX4_readCommand_5 16 rfl rfl)
theorem dX4_readCommand_134 : decode cX4_readCommand 134 = .ok (.aload_n 0, 1) := dk_42 (dk_at dksX4_readCommand_5 19 rfl rfl)
theorem dX4_readCommand_135 : decode cX4_readCommand 135 = .ok (.aload_n 0, 1) := dk_42 (dk_at dksX4_readCommand_5 20 rfl rfl)
theorem dX4_readCommand_136 : decode cX4_readCommand 136 = .ok (.invokevirtual 215, 3) := dk_182 0 215 (dk_at dksX4_readCommand_5 21 rfl rfl)
theorem dX4_readCommand_139 : decode cX4_readCommand 139 = .ok (.putfield 218, 3) := dk_181 0 218 (dk_at dksX4_readCommand_6 0 rfl rfl)
theorem dX4_readCommand_142 : decode cX4_readCommand 142 = .ok (.aload_n 0, 1) := dk_42 (dk_at dksX4_readCommand_6 3 rfl rfl)
theorem dX4_readCommand_143 : decode cX4_readCommand 143 = .ok (.iconst 0, 1) := dk_3 (dk_at dksX4_readCommand_6 4 rfl rfl)
theorem dX4_readCommand_144 : decode cX4_readCommand 144 = .ok (.putfield 221, 3) := dk_181 0 221 (dk_at dksX4_readCommand_6 5 rfl rfl)
theorem dX4_readCommand_147 : decode cX4_readCommand 147 = .ok (.aload_n 0, 1) := dk_42 (dk_at dksX4_readCommand_6 8 rfl rfl)
theorem dX4_readCommand_148 : decode cX4_readCommand 148 = .ok (.getfield 211, 3) := dk_180 0 211 (dk_at dksX4_readCommand_6 9 rfl rfl)
theorem dX4_readCommand_151 : decode cX4_readCommand 151 = .ok (.bipush 100, 2) := dk_16 100 (dk_at dksX4_readCommand_6 12 rfl rfl)
theorem dX4_readCommand_153 : decode cX4_readCommand 153 = .ok (.if_icmp .ne 44, 3) := dk_160 0 44 (dk_at dksX4_readCommand_6 14 rfl rfl)
theorem dX4_readCommand_156 : decode cX4_readCommand 156 = .ok (.aload_n 0, 1) := dk_42 (dk_at dksX4_readCommand_6 17 rfl rfl)
theorem dX4_readCommand_157 : decode cX4_readCommand 157 = .ok (.dup, 1) := dk_89 (dk_at dksX4_readCommand_6 18 rfl rfl)
theorem dX4_readCommand_158 : decode cX4_readCommand 158 = .ok (.getfield 201, 3) := dk_180 0 201 (dk_at dksX4_readCommand_6 19 rfl rfl)
theorem dX4_readCommand_161 : decode cX4_readCommand 161 = .ok (.aload_n 0, 1) := dk_42 (dk_at dksX4_readCommand_6 22 rfl rfl)
theorem dX4_readCommand_162 : decode cX4_readCommand 162 = .ok (.bipush 44, 2) := dk_16 44 (dk_at dksX4_readCommand_7 0 rfl rfl)
theorem dX4_readCommand_164 : decode cX4_readCommand 164 = .ok (.invokevirtual 224, 3) := dk_182 0 224 (dk_at dksX4_readCommand_7 2 rfl rfl)
theorem dX4_readCommand_167 : decode cX4_readCommand 167 = .ok (.ifCond .ne 7, 3) := dk_154 0 7 (dk_at dksX4_readCommand_7 5 rfl rfl)
theorem dX4_readCommand_170 : decode cX4_readCommand 170 = .ok (.iconst 1, 1) := dk_4 (dk_at dksX4_readCommand_7 8 rfl rfl)
theorem dX4_readCommand_171 : decode cX4_readCommand 171 = .ok (.goto 4, 3) := dk_167 0 4 (dk_at dksX4_readCommand_7 9 rfl rfl)
theorem dX4_readCommand_174 : decode cX4_readCommand 174 = .ok (.iconst 0, 1) := dk_3 (dk_at dksX4_readCommand_7 12 rfl rfl)
theorem dX4_readCommand_175 : decode cX4_readCommand 175 = .ok (.ior, 1) := dk_128 (dk_at dksX4_readCommand_7 13 rfl rfl)
theorem dX4_readCommand_176 : decode cX4_readCommand 176 = .ok (.putfield 201, 3) := dk_181 0 201 (dk_at dksX4_readCommand_7 14 rfl rfl)
theorem dX4_readCommand_179 : decode cX4_readCommand 179 = .ok (.aload_n 0, 1) := dk_42 (dk_at dksX4_readCommand_7 17 rfl rfl)
theorem dX4_readCommand_180 : decode cX4_readCommand 180 = .ok (.aload_n 0, 1) := dk_42 (dk_at dksX4_readCommand_7 18 rfl rfl)
theorem dX4_readCommand_181 : decode cX4_readCommand 181 = .ok (.invokevirtual 215, 3) := dk_182 0 215 (dk_at dksX4_readCommand_7 19 rfl rfl)
theorem dX4_readCommand_184 : decode cX4_readCommand 184 = .ok (.putfield 228, 3) := dk_181 0 228 (dk_at dksX4_readCommand_8 0 rfl rfl)
theorem dX4_readCommand_187 : decode cX4_readCommand 187 = .ok (.aload_n 0, 1) := dk_42 (dk_at dksX4_readCommand_8 3 rfl rfl)
theorem dX4_readCommand_188 : decode cX4_readCommand 188 = .ok (.aload_n 0, 1) := dk_42 (dk_at dksX4_readCommand_8 4 rfl rfl)
theorem dX4_readCommand_189 : decode cX4_readCommand 189 = .ok (.bipush 112, 2) := dk_16 112 (dk_at dksX4_readCommand_8 5 rfl rfl)
theorem dX4_readCommand_191 : decode cX4_readCommand 191 = .ok (.invokevirtual 224, 3) := dk_182 0 224 (dk_at dksX4_readCommand_8 7 rfl rfl)
theorem dX4_readCommand_194 : decode cX4_readCommand 194 = .ok (.putfield 221, 3) := dk_181 0 221 (dk_at dksX4_readCommand_8 10 rfl rfl)
theorem dX4_readCommand_197 : decode cX4_readCommand 197 = .ok (.return_, 1) := dk_177 (dk_at dksX4_readCommand_8 13 rfl rfl)
abbrev cX4_readNumber : ByteArray := prog_24_method_71_code
def yX4_readNumber : MethodName := ⟨RX4, "readNumber", "()I"⟩
def dkwX4_readNumber_3 : List UInt8 := [96, 181, 0, 204, 132, 2, 1, 167, 255, 209, 27, 172]
abbrev dktX4_readNumber_3 : List UInt8 := dkwX4_readNumber_3 ++ []
def dkwX4_readNumber_2 : List UInt8 := [16, 10, 27, 104, 42, 180, 0, 27, 42, 180, 0, 204, 52, 96, 16, 48, 100, 60, 42, 89, 180, 0, 204, 4]
abbrev dktX4_readNumber_2 : List UInt8 := dkwX4_readNumber_2 ++ dktX4_readNumber_3
def dkwX4_readNumber_1 : List UInt8 := [181, 0, 201, 3, 60, 3, 61, 28, 5, 162, 0, 48, 42, 16, 48, 16, 57, 182, 0, 207, 153, 0, 37]
abbrev dktX4_readNumber_1 : List UInt8 := dkwX4_readNumber_1 ++ dktX4_readNumber_2
def dkwX4_readNumber_0 : List UInt8 := [42, 89, 180, 0, 201, 42, 16, 48, 16, 57, 182, 0, 207, 154, 0, 7, 4, 167, 0, 4, 3, 128]
abbrev dktX4_readNumber_0 : List UInt8 := dkwX4_readNumber_0 ++ dktX4_readNumber_1
theorem dksX4_readNumber_0 : cX4_readNumber.data.toList.drop 0 = dktX4_readNumber_0 := by decide +kernel
theorem dksX4_readNumber_1 : cX4_readNumber.data.toList.drop 22 = dktX4_readNumber_1 := dk_seg dksX4_readNumber_0 22 rfl rfl
theorem dksX4_readNumber_2 : cX4_readNumber.data.toList.drop 45 = dktX4_readNumber_2 := dk_seg dksX4_readNumber_1 23 rfl rfl
theorem dksX4_readNumber_3 : cX4_readNumber.data.toList.drop 69 = dktX4_readNumber_3 := dk_seg dksX4_readNumber_2 24 rfl rfl
theorem dX4_readNumber_0 : decode cX4_readNumber 0 = .ok (.aload_n 0, 1) := dk_42 (dk_at dksX4_readNumber_0 0 rfl rfl)
theorem dX4_readNumber_1 : decode cX4_readNumber 1 = .ok (.dup, 1) := dk_89 (dk_at dksX4_readNumber_0 1 rfl rfl)
theorem dX4_readNumber_2 : decode cX4_readNumber 2 = .ok (.getfield 201, 3) := dk_180 0 201 (dk_at dksX4_readNumber_0 2 rfl rfl)
theorem dX4_readNumber_5 : decode cX4_readNumber 5 = .ok (.aload_n 0, 1) := dk_42 (dk_at dksX4_readNumber_0 5 rfl rfl)
theorem dX4_readNumber_6 : decode cX4_readNumber 6 = .ok (.bipush 48, 2) := dk_16 48 (dk_at dksX4_readNumber_0 6 rfl rfl)
theorem dX4_readNumber_8 : decode cX4_readNumber 8 = .ok (.bipush 57, 2) := dk_16 57 (dk_at dksX4_readNumber_0 8 rfl rfl)
theorem dX4_readNumber_10 : decode cX4_readNumber 10 = .ok (.invokevirtual 207, 3) := dk_182 0 207 (dk_at dksX4_readNumber_0 10 rfl rfl)
theorem dX4_readNumber_13 : decode cX4_readNumber 13 = .ok (.ifCond .ne 7, 3) := dk_154 0 7 (dk_at dksX4_readNumber_0 13 rfl rfl)
theorem dX4_readNumber_16 : decode cX4_readNumber 16 = .ok (.iconst 1, 1) := dk_4 (dk_at dksX4_readNumber_0 16 rfl rfl)
theorem dX4_readNumber_17 : decode cX4_readNumber 17 = .ok (.goto 4, 3) := dk_167 0 4 (dk_at dksX4_readNumber_0 17 rfl rfl)
theorem dX4_readNumber_20 : decode cX4_readNumber 20 = .ok (.iconst 0, 1) := dk_3 (dk_at dksX4_readNumber_0 20 rfl rfl)
theorem dX4_readNumber_21 : decode cX4_readNumber 21 = .ok (.ior, 1) := dk_128 (dk_at dksX4_readNumber_0 21 rfl rfl)
theorem dX4_readNumber_22 : decode cX4_readNumber 22 = .ok (.putfield 201, 3) := dk_181 0 201 (dk_at dksX4_readNumber_1 0 rfl rfl)
theorem dX4_readNumber_25 : decode cX4_readNumber 25 = .ok (.iconst 0, 1) := dk_3 (dk_at dksX4_readNumber_1 3 rfl rfl)
theorem dX4_readNumber_26 : decode cX4_readNumber 26 = .ok (.istore_n 1, 1) := dk_60 (dk_at dksX4_readNumber_1 4 rfl rfl)
theorem dX4_readNumber_27 : decode cX4_readNumber 27 = .ok (.iconst 0, 1) := dk_3 (dk_at dksX4_readNumber_1 5 rfl rfl)
theorem dX4_readNumber_28 : decode cX4_readNumber 28 = .ok (.istore_n 2, 1) := dk_61 (dk_at dksX4_readNumber_1 6 rfl rfl)
theorem dX4_readNumber_29 : decode cX4_readNumber 29 = .ok (.iload_n 2, 1) := dk_28 (dk_at dksX4_readNumber_1 7 rfl rfl)
theorem dX4_readNumber_30 : decode cX4_readNumber 30 = .ok (.iconst 2, 1) := dk_5 (dk_at dksX4_readNumber_1 8 rfl rfl)
theorem dX4_readNumber_31 : decode cX4_readNumber 31 = .ok (.if_icmp .ge 48, 3) := dk_162 0 48 (dk_at dksX4_readNumber_1 9 rfl rfl)
theorem dX4_readNumber_34 : decode cX4_readNumber 34 = .ok (.aload_n 0, 1) := dk_42 (dk_at dksX4_readNumber_1 12 rfl rfl)
theorem dX4_readNumber_35 : decode cX4_readNumber 35 = .ok (.bipush 48, 2) := dk_16 48 (dk_at dksX4_readNumber_1 13 rfl rfl)
theorem dX4_readNumber_37 : decode cX4_readNumber 37 = .ok (.bipush 57, 2) := dk_16 57 (dk_at dksX4_readNumber_1 15 rfl rfl)
theorem dX4_readNumber_39 : decode cX4_readNumber 39 = .ok (.invokevirtual 207, 3) := dk_182 0 207 (dk_at dksX4_readNumber_1 17 rfl rfl)
theorem dX4_readNumber_42 : decode cX4_readNumber 42 = .ok (.ifCond .eq 37, 3) := dk_153 0 37 (dk_at dksX4_readNumber_1 20 rfl rfl)
theorem dX4_readNumber_45 : decode cX4_readNumber 45 = .ok (.bipush 10, 2) := dk_16 10 (dk_at dksX4_readNumber_2 0 rfl rfl)
theorem dX4_readNumber_47 : decode cX4_readNumber 47 = .ok (.iload_n 1, 1) := dk_27 (dk_at dksX4_readNumber_2 2 rfl rfl)
theorem dX4_readNumber_48 : decode cX4_readNumber 48 = .ok (.imul, 1) := dk_104 (dk_at dksX4_readNumber_2 3 rfl rfl)
theorem dX4_readNumber_49 : decode cX4_readNumber 49 = .ok (.aload_n 0, 1) := dk_42 (dk_at dksX4_readNumber_2 4 rfl rfl)
theorem dX4_readNumber_50 : decode cX4_readNumber 50 = .ok (.getfield 27, 3) := dk_180 0 27 (dk_at dksX4_readNumber_2 5 rfl rfl)
theorem dX4_readNumber_53 : decode cX4_readNumber 53 = .ok (.aload_n 0, 1) := dk_42 (dk_at dksX4_readNumber_2 8 rfl rfl)
theorem dX4_readNumber_54 : decode cX4_readNumber 54 = .ok (.getfield 204, 3) := dk_180 0 204 (dk_at dksX4_readNumber_2 9 rfl rfl)
theorem dX4_readNumber_57 : decode cX4_readNumber 57 = .ok (.caload, 1) := dk_52 (dk_at dksX4_readNumber_2 12 rfl rfl)
theorem dX4_readNumber_58 : decode cX4_readNumber 58 = .ok (.iadd, 1) := dk_96 (dk_at dksX4_readNumber_2 13 rfl rfl)
theorem dX4_readNumber_59 : decode cX4_readNumber 59 = .ok (.bipush 48, 2) := dk_16 48 (dk_at dksX4_readNumber_2 14 rfl rfl)
theorem dX4_readNumber_61 : decode cX4_readNumber 61 = .ok (.isub, 1) := dk_100 (dk_at dksX4_readNumber_2 16 rfl rfl)
theorem dX4_readNumber_62 : decode cX4_readNumber 62 = .ok (.istore_n 1, 1) := dk_60 (dk_at dksX4_readNumber_2 17 rfl rfl)
theorem dX4_readNumber_63 : decode cX4_readNumber 63 = .ok (.aload_n 0, 1) := dk_42 (dk_at dksX4_readNumber_2 18 rfl rfl)
theorem dX4_readNumber_64 : decode cX4_readNumber 64 = .ok (.dup, 1) := dk_89 (dk_at dksX4_readNumber_2 19 rfl rfl)
theorem dX4_readNumber_65 : decode cX4_readNumber 65 = .ok (.getfield 204, 3) := dk_180 0 204 (dk_at dksX4_readNumber_2 20 rfl rfl)
theorem dX4_readNumber_68 : decode cX4_readNumber 68 = .ok (.iconst 1, 1) := dk_4 (dk_at dksX4_readNumber_2 23 rfl rfl)
theorem dX4_readNumber_69 : decode cX4_readNumber 69 = .ok (.iadd, 1) := dk_96 (dk_at dksX4_readNumber_3 0 rfl rfl)
theorem dX4_readNumber_70 : decode cX4_readNumber 70 = .ok (.putfield 204, 3) := dk_181 0 204 (dk_at dksX4_readNumber_3 1 rfl rfl)
theorem dX4_readNumber_73 : decode cX4_readNumber 73 = .ok (.iinc 2 1, 3) := dk_132 2 1 (dk_at dksX4_readNumber_3 4 rfl rfl)
theorem dX4_readNumber_76 : decode cX4_readNumber 76 = .ok (.goto (-47), 3) := dk_167 255 209 (dk_at dksX4_readNumber_3 7 rfl rfl)
theorem dX4_readNumber_79 : decode cX4_readNumber 79 = .ok (.iload_n 1, 1) := dk_27 (dk_at dksX4_readNumber_3 10 rfl rfl)
theorem dX4_readNumber_80 : decode cX4_readNumber 80 = .ok (.ireturn, 1) := dk_172 (dk_at dksX4_readNumber_3 11 rfl rfl)
abbrev cX4_sees : ByteArray := prog_24_method_69_code
def yX4_sees : MethodName := ⟨RX4, "sees", "(CC)Z"⟩
def dkwX4_sees_1 : List UInt8 := [180, 0, 204, 52, 27, 28, 184, 0, 62, 153, 0, 7, 4, 167, 0, 4, 3, 172]
abbrev dktX4_sees_1 : List UInt8 := dkwX4_sees_1 ++ []
def dkwX4_sees_0 : List UInt8 := [42, 180, 0, 201, 154, 0, 35, 42, 180, 0, 204, 42, 180, 0, 197, 162, 0, 24, 42, 180, 0, 27, 42]
abbrev dktX4_sees_0 : List UInt8 := dkwX4_sees_0 ++ dktX4_sees_1
theorem dksX4_sees_0 : cX4_sees.data.toList.drop 0 = dktX4_sees_0 := by decide +kernel
theorem dksX4_sees_1 : cX4_sees.data.toList.drop 23 = dktX4_sees_1 := dk_seg dksX4_sees_0 23 rfl rfl
theorem dX4_sees_0 : decode cX4_sees 0 = .ok (.aload_n 0, 1) := dk_42 (dk_at dksX4_sees_0 0 rfl rfl)
theorem dX4_sees_1 : decode cX4_sees 1 = .ok (.getfield 201, 3) := dk_180 0 201 (dk_at dksX4_sees_0 1 rfl rfl)
theorem dX4_sees_4 : decode cX4_sees 4 = .ok (.ifCond .ne 35, 3) := dk_154 0 35 (dk_at dksX4_sees_0 4 rfl rfl)
theorem dX4_sees_7 : decode cX4_sees 7 = .ok (.aload_n 0, 1) := dk_42 (dk_at dksX4_sees_0 7 rfl rfl)
theorem dX4_sees_8 : decode cX4_sees 8 = .ok (.getfield 204, 3) := dk_180 0 204 (dk_at dksX4_sees_0 8 rfl rfl)
theorem dX4_sees_11 : decode cX4_sees 11 = .ok (.aload_n 0, 1) := dk_42 (dk_at dksX4_sees_0 11 rfl rfl)
theorem dX4_sees_12 : decode cX4_sees 12 = .ok (.getfield 197, 3) := dk_180 0 197 (dk_at dksX4_sees_0 12 rfl rfl)
theorem dX4_sees_15 : decode cX4_sees 15 = .ok (.if_icmp .ge 24, 3) := dk_162 0 24 (dk_at dksX4_sees_0 15 rfl rfl)
theorem dX4_sees_18 : decode cX4_sees 18 = .ok (.aload_n 0, 1) := dk_42 (dk_at dksX4_sees_0 18 rfl rfl)
theorem dX4_sees_19 : decode cX4_sees 19 = .ok (.getfield 27, 3) := dk_180 0 27 (dk_at dksX4_sees_0 19 rfl rfl)
theorem dX4_sees_22 : decode cX4_sees 22 = .ok (.aload_n 0, 1) := dk_42 (dk_at dksX4_sees_0 22 rfl rfl)
theorem dX4_sees_23 : decode cX4_sees 23 = .ok (.getfield 204, 3) := dk_180 0 204 (dk_at dksX4_sees_1 0 rfl rfl)
theorem dX4_sees_26 : decode cX4_sees 26 = .ok (.caload, 1) := dk_52 (dk_at dksX4_sees_1 3 rfl rfl)
theorem dX4_sees_27 : decode cX4_sees 27 = .ok (.iload_n 1, 1) := dk_27 (dk_at dksX4_sees_1 4 rfl rfl)
theorem dX4_sees_28 : decode cX4_sees 28 = .ok (.iload_n 2, 1) := dk_28 (dk_at dksX4_sees_1 5 rfl rfl)
theorem dX4_sees_29 : decode cX4_sees 29 = .ok (.invokestatic 62, 3) := dk_184 0 62 (dk_at dksX4_sees_1 6 rfl rfl)
theorem dX4_sees_32 : decode cX4_sees 32 = .ok (.ifCond .eq 7, 3) := dk_153 0 7 (dk_at dksX4_sees_1 9 rfl rfl)
theorem dX4_sees_35 : decode cX4_sees 35 = .ok (.iconst 1, 1) := dk_4 (dk_at dksX4_sees_1 12 rfl rfl)
theorem dX4_sees_36 : decode cX4_sees 36 = .ok (.goto 4, 3) := dk_167 0 4 (dk_at dksX4_sees_1 13 rfl rfl)
theorem dX4_sees_39 : decode cX4_sees 39 = .ok (.iconst 0, 1) := dk_3 (dk_at dksX4_sees_1 16 rfl rfl)
theorem dX4_sees_40 : decode cX4_sees 40 = .ok (.ireturn, 1) := dk_172 (dk_at dksX4_sees_1 17 rfl rfl)
abbrev cX4_takes : ByteArray := prog_24_method_70_code
def yX4_takes : MethodName := ⟨RX4, "takes", "(C)Z"⟩
def dkwX4_takes_1 : List UInt8 := [181, 0, 204, 28, 172]
abbrev dktX4_takes_1 : List UInt8 := dkwX4_takes_1 ++ []
def dkwX4_takes_0 : List UInt8 := [42, 27, 27, 182, 0, 207, 61, 42, 89, 180, 0, 204, 28, 153, 0, 7, 4, 167, 0, 4, 3, 96]
abbrev dktX4_takes_0 : List UInt8 := dkwX4_takes_0 ++ dktX4_takes_1
theorem dksX4_takes_0 : cX4_takes.data.toList.drop 0 = dktX4_takes_0 := by decide +kernel
theorem dksX4_takes_1 : cX4_takes.data.toList.drop 22 = dktX4_takes_1 := dk_seg dksX4_takes_0 22 rfl rfl
theorem dX4_takes_0 : decode cX4_takes 0 = .ok (.aload_n 0, 1) := dk_42 (dk_at dksX4_takes_0 0 rfl rfl)
theorem dX4_takes_1 : decode cX4_takes 1 = .ok (.iload_n 1, 1) := dk_27 (dk_at dksX4_takes_0 1 rfl rfl)
theorem dX4_takes_2 : decode cX4_takes 2 = .ok (.iload_n 1, 1) := dk_27 (dk_at dksX4_takes_0 2 rfl rfl)
theorem dX4_takes_3 : decode cX4_takes 3 = .ok (.invokevirtual 207, 3) := dk_182 0 207 (dk_at dksX4_takes_0 3 rfl rfl)
theorem dX4_takes_6 : decode cX4_takes 6 = .ok (.istore_n 2, 1) := dk_61 (dk_at dksX4_takes_0 6 rfl rfl)
theorem dX4_takes_7 : decode cX4_takes 7 = .ok (.aload_n 0, 1) := dk_42 (dk_at dksX4_takes_0 7 rfl rfl)
theorem dX4_takes_8 : decode cX4_takes 8 = .ok (.dup, 1) := dk_89 (dk_at dksX4_takes_0 8 rfl rfl)
theorem dX4_takes_9 : decode cX4_takes 9 = .ok (.getfield 204, 3) := dk_180 0 204 (dk_at dksX4_takes_0 9 rfl rfl)
theorem dX4_takes_12 : decode cX4_takes 12 = .ok (.iload_n 2, 1) := dk_28 (dk_at dksX4_takes_0 12 rfl rfl)
theorem dX4_takes_13 : decode cX4_takes 13 = .ok (.ifCond .eq 7, 3) := dk_153 0 7 (dk_at dksX4_takes_0 13 rfl rfl)
theorem dX4_takes_16 : decode cX4_takes 16 = .ok (.iconst 1, 1) := dk_4 (dk_at dksX4_takes_0 16 rfl rfl)
theorem dX4_takes_17 : decode cX4_takes 17 = .ok (.goto 4, 3) := dk_167 0 4 (dk_at dksX4_takes_0 17 rfl rfl)
theorem dX4_takes_20 : decode cX4_takes 20 = .ok (.iconst 0, 1) := dk_3 (dk_at dksX4_takes_0 20 rfl rfl)
theorem dX4_takes_21 : decode cX4_takes 21 = .ok (.iadd, 1) := dk_96 (dk_at dksX4_takes_0 21 rfl rfl)
theorem dX4_takes_22 : decode cX4_takes 22 = .ok (.putfield 204, 3) := dk_181 0 204 (dk_at dksX4_takes_1 0 rfl rfl)
theorem dX4_takes_25 : decode cX4_takes 25 = .ok (.iload_n 2, 1) := dk_28 (dk_at dksX4_takes_1 3 rfl rfl)
theorem dX4_takes_26 : decode cX4_takes 26 = .ok (.ireturn, 1) := dk_172 (dk_at dksX4_takes_1 4 rfl rfl)
abbrev cX4_carryOut : ByteArray := prog_24_method_74_code
def yX4_carryOut : MethodName := ⟨RX4, "carryOut", "()V"⟩
def dkwX4_carryOut_5 : List UInt8 := [180, 0, 218, 182, 0, 250, 87, 167, 0, 12, 42, 42, 180, 0, 218, 182, 0, 253, 87, 177]
abbrev dktX4_carryOut_5 : List UInt8 := dkwX4_carryOut_5 ++ []
def dkwX4_carryOut_4 : List UInt8 := [180, 0, 218, 182, 0, 244, 87, 167, 0, 36, 42, 42, 180, 0, 218, 182, 0, 247, 87, 167, 0, 24, 42, 42]
abbrev dktX4_carryOut_4 : List UInt8 := dkwX4_carryOut_4 ++ dktX4_carryOut_5
def dkwX4_carryOut_3 : List UInt8 := [180, 0, 221, 182, 0, 237, 87, 167, 0, 60, 42, 42, 180, 0, 218, 182, 0, 241, 87, 167, 0, 48, 42, 42]
abbrev dktX4_carryOut_3 : List UInt8 := dkwX4_carryOut_3 ++ dktX4_carryOut_4
def dkwX4_carryOut_2 : List UInt8 := [42, 42, 180, 0, 218, 182, 0, 234, 87, 167, 0, 80, 42, 42, 180, 0, 218, 42, 180, 0, 228, 42]
abbrev dktX4_carryOut_2 : List UInt8 := dkwX4_carryOut_2 ++ dktX4_carryOut_3
def dkwX4_carryOut_1 : List UInt8 := [170, 0, 0, 0, 0, 0, 0, 172, 0, 0, 0, 99, 0, 0, 0, 117, 0, 0, 0, 148, 0, 0, 0, 104, 0, 0, 0, 172, 0, 0, 0, 172, 0, 0, 0, 172, 0, 0, 0, 172, 0, 0, 0, 172, 0, 0, 0, 172, 0, 0, 0, 172, 0, 0, 0, 172, 0, 0, 0, 172, 0, 0, 0, 172, 0, 0, 0, 172, 0, 0, 0, 124, 0, 0, 0, 172, 0, 0, 0, 172, 0, 0, 0, 92, 0, 0, 0, 160, 0, 0, 0, 136]
abbrev dktX4_carryOut_1 : List UInt8 := dkwX4_carryOut_1 ++ dktX4_carryOut_2
def dkwX4_carryOut_0 : List UInt8 := [42, 180, 0, 211]
abbrev dktX4_carryOut_0 : List UInt8 := dkwX4_carryOut_0 ++ dktX4_carryOut_1
theorem dksX4_carryOut_0 : cX4_carryOut.data.toList.drop 0 = dktX4_carryOut_0 := by decide +kernel
theorem dksX4_carryOut_1 : cX4_carryOut.data.toList.drop 4 = dktX4_carryOut_1 := dk_seg dksX4_carryOut_0 4 rfl rfl
theorem dksX4_carryOut_2 : cX4_carryOut.data.toList.drop 96 = dktX4_carryOut_2 := dk_seg dksX4_carryOut_1 92 rfl rfl
theorem dksX4_carryOut_3 : cX4_carryOut.data.toList.drop 118 = dktX4_carryOut_3 := dk_seg dksX4_carryOut_2 22 rfl rfl
theorem dksX4_carryOut_4 : cX4_carryOut.data.toList.drop 142 = dktX4_carryOut_4 := dk_seg dksX4_carryOut_3 24 rfl rfl
theorem dksX4_carryOut_5 : cX4_carryOut.data.toList.drop 166 = dktX4_carryOut_5 := dk_seg dksX4_carryOut_4 24 rfl rfl
theorem dX4_carryOut_0 : decode cX4_carryOut 0 = .ok (.aload_n 0, 1) := dk_42 (dk_at dksX4_carryOut_0 0 rfl rfl)
theorem dX4_carryOut_1 : decode cX4_carryOut 1 = .ok (.getfield 211, 3) := dk_180 0 211 (dk_at dksX4_carryOut_0 1 rfl rfl)
theorem dX4_carryOut_4 : decode cX4_carryOut 4 = .ok (.tableswitch 172 99 117 #[148, 104, 172, 172, 172, 172, 172, 172, 172, 172, 172, 172, 172, 124, 172, 172, 92, 160, 136], 92) := by decide +kernel
theorem dX4_carryOut_96 : decode cX4_carryOut 96 = .ok (.aload_n 0, 1) := dk_42 (dk_at dksX4_carryOut_2 0 rfl rfl)
theorem dX4_carryOut_97 : decode cX4_carryOut 97 = .ok (.aload_n 0, 1) := dk_42 (dk_at dksX4_carryOut_2 1 rfl rfl)
theorem dX4_carryOut_98 : decode cX4_carryOut 98 = .ok (.getfield 218, 3) := dk_180 0 218 (dk_at dksX4_carryOut_2 2 rfl rfl)
theorem dX4_carryOut_101 : decode cX4_carryOut 101 = .ok (.invokevirtual 234, 3) := dk_182 0 234 (dk_at dksX4_carryOut_2 5 rfl rfl)
theorem dX4_carryOut_104 : decode cX4_carryOut 104 = .ok (.pop, 1) := dk_87 (dk_at dksX4_carryOut_2 8 rfl rfl)
theorem dX4_carryOut_105 : decode cX4_carryOut 105 = .ok (.goto 80, 3) := dk_167 0 80 (dk_at dksX4_carryOut_2 9 rfl rfl)
theorem dX4_carryOut_108 : decode cX4_carryOut 108 = .ok (.aload_n 0, 1) := dk_42 (dk_at dksX4_carryOut_2 12 rfl rfl)
theorem dX4_carryOut_109 : decode cX4_carryOut 109 = .ok (.aload_n 0, 1) := dk_42 (dk_at dksX4_carryOut_2 13 rfl rfl)
theorem dX4_carryOut_110 : decode cX4_carryOut 110 = .ok (.getfield 218, 3) := dk_180 0 218 (dk_at dksX4_carryOut_2 14 rfl rfl)
theorem dX4_carryOut_113 : decode cX4_carryOut 113 = .ok (.aload_n 0, 1) := dk_42 (dk_at dksX4_carryOut_2 17 rfl rfl)
theorem dX4_carryOut_114 : decode cX4_carryOut 114 = .ok (.getfield 228, 3) := dk_180 0 228 (dk_at dksX4_carryOut_2 18 rfl rfl)
theorem dX4_carryOut_117 : decode cX4_carryOut 117 = .ok (.aload_n 0, 1) := dk_42 (dk_at dksX4_carryOut_2 21 rfl rfl)
theorem dX4_carryOut_118 : decode cX4_carryOut 118 = .ok (.getfield 221, 3) := dk_180 0 221 (dk_at dksX4_carryOut_3 0 rfl rfl)
theorem dX4_carryOut_121 : decode cX4_carryOut 121 = .ok (.invokevirtual 237, 3) := dk_182 0 237 (dk_at dksX4_carryOut_3 3 rfl rfl)
theorem dX4_carryOut_124 : decode cX4_carryOut 124 = .ok (.pop, 1) := dk_87 (dk_at dksX4_carryOut_3 6 rfl rfl)
theorem dX4_carryOut_125 : decode cX4_carryOut 125 = .ok (.goto 60, 3) := dk_167 0 60 (dk_at dksX4_carryOut_3 7 rfl rfl)
theorem dX4_carryOut_128 : decode cX4_carryOut 128 = .ok (.aload_n 0, 1) := dk_42 (dk_at dksX4_carryOut_3 10 rfl rfl)
theorem dX4_carryOut_129 : decode cX4_carryOut 129 = .ok (.aload_n 0, 1) := dk_42 (dk_at dksX4_carryOut_3 11 rfl rfl)
theorem dX4_carryOut_130 : decode cX4_carryOut 130 = .ok (.getfield 218, 3) := dk_180 0 218 (dk_at dksX4_carryOut_3 12 rfl rfl)
theorem dX4_carryOut_133 : decode cX4_carryOut 133 = .ok (.invokevirtual 241, 3) := dk_182 0 241 (dk_at dksX4_carryOut_3 15 rfl rfl)
theorem dX4_carryOut_136 : decode cX4_carryOut 136 = .ok (.pop, 1) := dk_87 (dk_at dksX4_carryOut_3 18 rfl rfl)
theorem dX4_carryOut_137 : decode cX4_carryOut 137 = .ok (.goto 48, 3) := dk_167 0 48 (dk_at dksX4_carryOut_3 19 rfl rfl)
theorem dX4_carryOut_140 : decode cX4_carryOut 140 = .ok (.aload_n 0, 1) := dk_42 (dk_at dksX4_carryOut_3 22 rfl rfl)
theorem dX4_carryOut_141 : decode cX4_carryOut 141 = .ok (.aload_n 0, 1) := dk_42 (dk_at dksX4_carryOut_3 23 rfl rfl)
theorem dX4_carryOut_142 : decode cX4_carryOut 142 = .ok (.getfield 218, 3) := dk_180 0 218 (dk_at dksX4_carryOut_4 0 rfl rfl)
theorem dX4_carryOut_145 : decode cX4_carryOut 145 = .ok (.invokevirtual 244, 3) := dk_182 0 244 (dk_at dksX4_carryOut_4 3 rfl rfl)
theorem dX4_carryOut_148 : decode cX4_carryOut 148 = .ok (.pop, 1) := dk_87 (dk_at dksX4_carryOut_4 6 rfl rfl)
theorem dX4_carryOut_149 : decode cX4_carryOut 149 = .ok (.goto 36, 3) := dk_167 0 36 (dk_at dksX4_carryOut_4 7 rfl rfl)
theorem dX4_carryOut_152 : decode cX4_carryOut 152 = .ok (.aload_n 0, 1) := dk_42 (dk_at dksX4_carryOut_4 10 rfl rfl)
theorem dX4_carryOut_153 : decode cX4_carryOut 153 = .ok (.aload_n 0, 1) := dk_42 (dk_at dksX4_carryOut_4 11 rfl rfl)
theorem dX4_carryOut_154 : decode cX4_carryOut 154 = .ok (.getfield 218, 3) := dk_180 0 218 (dk_at dksX4_carryOut_4 12 rfl rfl)
theorem dX4_carryOut_157 : decode cX4_carryOut 157 = .ok (.invokevirtual 247, 3) := dk_182 0 247 (dk_at dksX4_carryOut_4 15 rfl rfl)
theorem dX4_carryOut_160 : decode cX4_carryOut 160 = .ok (.pop, 1) := dk_87 (dk_at dksX4_carryOut_4 18 rfl rfl)
theorem dX4_carryOut_161 : decode cX4_carryOut 161 = .ok (.goto 24, 3) := dk_167 0 24 (dk_at dksX4_carryOut_4 19 rfl rfl)
theorem dX4_carryOut_164 : decode cX4_carryOut 164 = .ok (.aload_n 0, 1) := dk_42 (dk_at dksX4_carryOut_4 22 rfl rfl)
theorem dX4_carryOut_165 : decode cX4_carryOut 165 = .ok (.aload_n 0, 1) := dk_42 (dk_at dksX4_carryOut_4 23 rfl rfl)
theorem dX4_carryOut_166 : decode cX4_carryOut 166 = .ok (.getfield 218, 3) := dk_180 0 218 (dk_at dksX4_carryOut_5 0 rfl rfl)
theorem dX4_carryOut_169 : decode cX4_carryOut 169 = .ok (.invokevirtual 250, 3) := dk_182 0 250 (dk_at dksX4_carryOut_5 3 rfl rfl)
theorem dX4_carryOut_172 : decode cX4_carryOut 172 = .ok (.pop, 1) := dk_87 (dk_at dksX4_carryOut_5 6 rfl rfl)
theorem dX4_carryOut_173 : decode cX4_carryOut 173 = .ok (.goto 12, 3) := dk_167 0 12 (dk_at dksX4_carryOut_5 7 rfl rfl)
theorem dX4_carryOut_176 : decode cX4_carryOut 176 = .ok (.aload_n 0, 1) := dk_42 (dk_at dksX4_carryOut_5 10 rfl rfl)
theorem dX4_carryOut_177 : decode cX4_carryOut 177 = .ok (.aload_n 0, 1) := dk_42 (dk_at dksX4_carryOut_5 11 rfl rfl)
theorem dX4_carryOut_178 : decode cX4_carryOut 178 = .ok (.getfield 218, 3) := dk_180 0 218 (dk_at dksX4_carryOut_5 12 rfl rfl)
theorem dX4_carryOut_181 : decode cX4_carryOut 181 = .ok (.invokevirtual 253, 3) := dk_182 0 253 (dk_at dksX4_carryOut_5 15 rfl rfl)
theorem dX4_carryOut_184 : decode cX4_carryOut 184 = .ok (.pop, 1) := dk_87 (dk_at dksX4_carryOut_5 18 rfl rfl)
theorem dX4_carryOut_185 : decode cX4_carryOut 185 = .ok (.return_, 1) := dk_177 (dk_at dksX4_carryOut_5 19 rfl rfl)
abbrev cX4_faultPosition : ByteArray := prog_24_method_76_code
def yX4_faultPosition : MethodName := ⟨RX4, "faultPosition", "()I"⟩
def dkwX4_faultPosition_1 : List UInt8 := [42, 180, 0, 31, 172]
abbrev dktX4_faultPosition_1 : List UInt8 := dkwX4_faultPosition_1 ++ []
def dkwX4_faultPosition_0 : List UInt8 := [42, 4, 42, 180, 0, 31, 156, 0, 7, 4, 167, 0, 4, 3, 182, 0, 98, 153, 0, 7, 3, 167, 0, 7]
abbrev dktX4_faultPosition_0 : List UInt8 := dkwX4_faultPosition_0 ++ dktX4_faultPosition_1
theorem dksX4_faultPosition_0 : cX4_faultPosition.data.toList.drop 0 = dktX4_faultPosition_0 := by decide +kernel
theorem dksX4_faultPosition_1 : cX4_faultPosition.data.toList.drop 24 = dktX4_faultPosition_1 := dk_seg dksX4_faultPosition_0 24 rfl rfl
theorem dX4_faultPosition_0 : decode cX4_faultPosition 0 = .ok (.aload_n 0, 1) := dk_42 (dk_at dksX4_faultPosition_0 0 rfl rfl)
theorem dX4_faultPosition_1 : decode cX4_faultPosition 1 = .ok (.iconst 1, 1) := dk_4 (dk_at dksX4_faultPosition_0 1 rfl rfl)
theorem dX4_faultPosition_2 : decode cX4_faultPosition 2 = .ok (.aload_n 0, 1) := dk_42 (dk_at dksX4_faultPosition_0 2 rfl rfl)
theorem dX4_faultPosition_3 : decode cX4_faultPosition 3 = .ok (.getfield 31, 3) := dk_180 0 31 (dk_at dksX4_faultPosition_0 3 rfl rfl)
theorem dX4_faultPosition_6 : decode cX4_faultPosition 6 = .ok (.ifCond .ge 7, 3) := dk_156 0 7 (dk_at dksX4_faultPosition_0 6 rfl rfl)
theorem dX4_faultPosition_9 : decode cX4_faultPosition 9 = .ok (.iconst 1, 1) := dk_4 (dk_at dksX4_faultPosition_0 9 rfl rfl)
theorem dX4_faultPosition_10 : decode cX4_faultPosition 10 = .ok (.goto 4, 3) := dk_167 0 4 (dk_at dksX4_faultPosition_0 10 rfl rfl)
theorem dX4_faultPosition_13 : decode cX4_faultPosition 13 = .ok (.iconst 0, 1) := dk_3 (dk_at dksX4_faultPosition_0 13 rfl rfl)
theorem dX4_faultPosition_14 : decode cX4_faultPosition 14 = .ok (.invokevirtual 98, 3) := dk_182 0 98 (dk_at dksX4_faultPosition_0 14 rfl rfl)
theorem dX4_faultPosition_17 : decode cX4_faultPosition 17 = .ok (.ifCond .eq 7, 3) := dk_153 0 7 (dk_at dksX4_faultPosition_0 17 rfl rfl)
theorem dX4_faultPosition_20 : decode cX4_faultPosition 20 = .ok (.iconst 0, 1) := dk_3 (dk_at dksX4_faultPosition_0 20 rfl rfl)
theorem dX4_faultPosition_21 : decode cX4_faultPosition 21 = .ok (.goto 7, 3) := dk_167 0 7 (dk_at dksX4_faultPosition_0 21 rfl rfl)
theorem dX4_faultPosition_24 : decode cX4_faultPosition 24 = .ok (.aload_n 0, 1) := dk_42 (dk_at dksX4_faultPosition_1 0 rfl rfl)
theorem dX4_faultPosition_25 : decode cX4_faultPosition 25 = .ok (.getfield 31, 3) := dk_180 0 31 (dk_at dksX4_faultPosition_1 1 rfl rfl)
theorem dX4_faultPosition_28 : decode cX4_faultPosition 28 = .ok (.ireturn, 1) := dk_172 (dk_at dksX4_faultPosition_1 4 rfl rfl)
abbrev cX4_refusal : ByteArray := prog_24_method_77_code
def yX4_refusal : MethodName := ⟨RX4, "refusal", "(Z)I"⟩
def dkwX4_refusal_1 : List UInt8 := [27, 153, 0, 10, 42, 180, 0, 41, 167, 0, 7, 42, 180, 0, 44, 172]
abbrev dktX4_refusal_1 : List UInt8 := dkwX4_refusal_1 ++ []
def dkwX4_refusal_0 : List UInt8 := [42, 4, 42, 180, 0, 41, 154, 0, 7, 4, 167, 0, 4, 3, 182, 0, 98, 153, 0, 7, 3, 167, 0, 18]
abbrev dktX4_refusal_0 : List UInt8 := dkwX4_refusal_0 ++ dktX4_refusal_1
theorem dksX4_refusal_0 : cX4_refusal.data.toList.drop 0 = dktX4_refusal_0 := by decide +kernel
theorem dksX4_refusal_1 : cX4_refusal.data.toList.drop 24 = dktX4_refusal_1 := dk_seg dksX4_refusal_0 24 rfl rfl
theorem dX4_refusal_0 : decode cX4_refusal 0 = .ok (.aload_n 0, 1) := dk_42 (dk_at dksX4_refusal_0 0 rfl rfl)
theorem dX4_refusal_1 : decode cX4_refusal 1 = .ok (.iconst 1, 1) := dk_4 (dk_at dksX4_refusal_0 1 rfl rfl)
theorem dX4_refusal_2 : decode cX4_refusal 2 = .ok (.aload_n 0, 1) := dk_42 (dk_at dksX4_refusal_0 2 rfl rfl)
theorem dX4_refusal_3 : decode cX4_refusal 3 = .ok (.getfield 41, 3) := dk_180 0 41 (dk_at dksX4_refusal_0 3 rfl rfl)
theorem dX4_refusal_6 : decode cX4_refusal 6 = .ok (.ifCond .ne 7, 3) := dk_154 0 7 (dk_at dksX4_refusal_0 6 rfl rfl)
theorem dX4_refusal_9 : decode cX4_refusal 9 = .ok (.iconst 1, 1) := dk_4 (dk_at dksX4_refusal_0 9 rfl rfl)
theorem dX4_refusal_10 : decode cX4_refusal 10 = .ok (.goto 4, 3) := dk_167 0 4 (dk_at dksX4_refusal_0 10 rfl rfl)
theorem dX4_refusal_13 : decode cX4_refusal 13 = .ok (.iconst 0, 1) := dk_3 (dk_at dksX4_refusal_0 13 rfl rfl)
theorem dX4_refusal_14 : decode cX4_refusal 14 = .ok (.invokevirtual 98, 3) := dk_182 0 98 (dk_at dksX4_refusal_0 14 rfl rfl)
theorem dX4_refusal_17 : decode cX4_refusal 17 = .ok (.ifCond .eq 7, 3) := dk_153 0 7 (dk_at dksX4_refusal_0 17 rfl rfl)
theorem dX4_refusal_20 : decode cX4_refusal 20 = .ok (.iconst 0, 1) := dk_3 (dk_at dksX4_refusal_0 20 rfl rfl)
theorem dX4_refusal_21 : decode cX4_refusal 21 = .ok (.goto 18, 3) := dk_167 0 18 (dk_at dksX4_refusal_0 21 rfl rfl)
theorem dX4_refusal_24 : decode cX4_refusal 24 = .ok (.iload_n 1, 1) := dk_27 (dk_at dksX4_refusal_1 0 rfl rfl)
theorem dX4_refusal_25 : decode cX4_refusal 25 = .ok (.ifCond .eq 10, 3) := dk_153 0 10 (dk_at dksX4_refusal_1 1 rfl rfl)
theorem dX4_refusal_28 : decode cX4_refusal 28 = .ok (.aload_n 0, 1) := dk_42 (dk_at dksX4_refusal_1 4 rfl rfl)
theorem dX4_refusal_29 : decode cX4_refusal 29 = .ok (.getfield 41, 3) := dk_180 0 41 (dk_at dksX4_refusal_1 5 rfl rfl)
theorem dX4_refusal_32 : decode cX4_refusal 32 = .ok (.goto 7, 3) := dk_167 0 7 (dk_at dksX4_refusal_1 8 rfl rfl)
theorem dX4_refusal_35 : decode cX4_refusal 35 = .ok (.aload_n 0, 1) := dk_42 (dk_at dksX4_refusal_1 11 rfl rfl)
theorem dX4_refusal_36 : decode cX4_refusal 36 = .ok (.getfield 44, 3) := dk_180 0 44 (dk_at dksX4_refusal_1 12 rfl rfl)
theorem dX4_refusal_39 : decode cX4_refusal 39 = .ok (.ireturn, 1) := dk_172 (dk_at dksX4_refusal_1 15 rfl rfl)
abbrev cX4_undo : ByteArray := prog_24_method_78_code
def yX4_undo : MethodName := ⟨RX4, "undo", "()I"⟩
def dkwX4_undo_2 : List UInt8 := [42, 180, 0, 47, 172]
abbrev dktX4_undo_2 : List UInt8 := dkwX4_undo_2 ++ []
def dkwX4_undo_1 : List UInt8 := [180, 0, 47, 4, 100, 181, 0, 47, 42, 180, 0, 18, 42, 180, 0, 47, 50, 42, 180, 0, 9, 184, 0, 50]
abbrev dktX4_undo_1 : List UInt8 := dkwX4_undo_1 ++ dktX4_undo_2
def dkwX4_undo_0 : List UInt8 := [42, 4, 42, 180, 0, 47, 154, 0, 7, 4, 167, 0, 4, 3, 182, 0, 98, 153, 0, 5, 3, 172, 42, 89]
abbrev dktX4_undo_0 : List UInt8 := dkwX4_undo_0 ++ dktX4_undo_1
theorem dksX4_undo_0 : cX4_undo.data.toList.drop 0 = dktX4_undo_0 := by decide +kernel
theorem dksX4_undo_1 : cX4_undo.data.toList.drop 24 = dktX4_undo_1 := dk_seg dksX4_undo_0 24 rfl rfl
theorem dksX4_undo_2 : cX4_undo.data.toList.drop 48 = dktX4_undo_2 := dk_seg dksX4_undo_1 24 rfl rfl
theorem dX4_undo_0 : decode cX4_undo 0 = .ok (.aload_n 0, 1) := dk_42 (dk_at dksX4_undo_0 0 rfl rfl)
theorem dX4_undo_1 : decode cX4_undo 1 = .ok (.iconst 1, 1) := dk_4 (dk_at dksX4_undo_0 1 rfl rfl)
theorem dX4_undo_2 : decode cX4_undo 2 = .ok (.aload_n 0, 1) := dk_42 (dk_at dksX4_undo_0 2 rfl rfl)
theorem dX4_undo_3 : decode cX4_undo 3 = .ok (.getfield 47, 3) := dk_180 0 47 (dk_at dksX4_undo_0 3 rfl rfl)
theorem dX4_undo_6 : decode cX4_undo 6 = .ok (.ifCond .ne 7, 3) := dk_154 0 7 (dk_at dksX4_undo_0 6 rfl rfl)
theorem dX4_undo_9 : decode cX4_undo 9 = .ok (.iconst 1, 1) := dk_4 (dk_at dksX4_undo_0 9 rfl rfl)
theorem dX4_undo_10 : decode cX4_undo 10 = .ok (.goto 4, 3) := dk_167 0 4 (dk_at dksX4_undo_0 10 rfl rfl)
theorem dX4_undo_13 : decode cX4_undo 13 = .ok (.iconst 0, 1) := dk_3 (dk_at dksX4_undo_0 13 rfl rfl)
theorem dX4_undo_14 : decode cX4_undo 14 = .ok (.invokevirtual 98, 3) := dk_182 0 98 (dk_at dksX4_undo_0 14 rfl rfl)
theorem dX4_undo_17 : decode cX4_undo 17 = .ok (.ifCond .eq 5, 3) := dk_153 0 5 (dk_at dksX4_undo_0 17 rfl rfl)
theorem dX4_undo_20 : decode cX4_undo 20 = .ok (.iconst 0, 1) := dk_3 (dk_at dksX4_undo_0 20 rfl rfl)
theorem dX4_undo_21 : decode cX4_undo 21 = .ok (.ireturn, 1) := dk_172 (dk_at dksX4_undo_0 21 rfl rfl)
theorem dX4_undo_22 : decode cX4_undo 22 = .ok (.aload_n 0, 1) := dk_42 (dk_at dksX4_undo_0 22 rfl rfl)
theorem dX4_undo_23 : decode cX4_undo 23 = .ok (.dup, 1) := dk_89 (dk_at dksX4_undo_0 23 rfl rfl)
theorem dX4_undo_24 : decode cX4_undo 24 = .ok (.getfield 47, 3) := dk_180 0 47 (dk_at dksX4_undo_1 0 rfl rfl)
theorem dX4_undo_27 : decode cX4_undo 27 = .ok (.iconst 1, 1) := dk_4 (dk_at dksX4_undo_1 3 rfl rfl)
theorem dX4_undo_28 : decode cX4_undo 28 = .ok (.isub, 1) := dk_100 (dk_at dksX4_undo_1 4 rfl rfl)
theorem dX4_undo_29 : decode cX4_undo 29 = .ok (.putfield 47, 3) := dk_181 0 47 (dk_at dksX4_undo_1 5 rfl rfl)
theorem dX4_undo_32 : decode cX4_undo 32 = .ok (.aload_n 0, 1) := dk_42 (dk_at dksX4_undo_1 8 rfl rfl)
theorem dX4_undo_33 : decode cX4_undo 33 = .ok (.getfield 18, 3) := dk_180 0 18 (dk_at dksX4_undo_1 9 rfl rfl)
theorem dX4_undo_36 : decode cX4_undo 36 = .ok (.aload_n 0, 1) := dk_42 (dk_at dksX4_undo_1 12 rfl rfl)
theorem dX4_undo_37 : decode cX4_undo 37 = .ok (.getfield 47, 3) := dk_180 0 47 (dk_at dksX4_undo_1 13 rfl rfl)
theorem dX4_undo_40 : decode cX4_undo 40 = .ok (.aaload, 1) := dk_50 (dk_at dksX4_undo_1 16 rfl rfl)
theorem dX4_undo_41 : decode cX4_undo 41 = .ok (.aload_n 0, 1) := dk_42 (dk_at dksX4_undo_1 17 rfl rfl)
theorem dX4_undo_42 : decode cX4_undo 42 = .ok (.getfield 9, 3) := dk_180 0 9 (dk_at dksX4_undo_1 18 rfl rfl)
theorem dX4_undo_45 : decode cX4_undo 45 = .ok (.invokestatic 50, 3) := dk_184 0 50 (dk_at dksX4_undo_1 21 rfl rfl)
theorem dX4_undo_48 : decode cX4_undo 48 = .ok (.aload_n 0, 1) := dk_42 (dk_at dksX4_undo_2 0 rfl rfl)
theorem dX4_undo_49 : decode cX4_undo 49 = .ok (.getfield 47, 3) := dk_180 0 47 (dk_at dksX4_undo_2 1 rfl rfl)
theorem dX4_undo_52 : decode cX4_undo 52 = .ok (.ireturn, 1) := dk_172 (dk_at dksX4_undo_2 4 rfl rfl)
abbrev cX4_saveSnapshot : ByteArray := prog_24_method_79_code
def yX4_saveSnapshot : MethodName := ⟨RX4, "saveSnapshot", "()I"⟩
def dkwX4_saveSnapshot_1 : List UInt8 := [180, 0, 9, 17, 1, 94, 46, 172]
abbrev dktX4_saveSnapshot_1 : List UInt8 := dkwX4_saveSnapshot_1 ++ []
def dkwX4_saveSnapshot_0 : List UInt8 := [42, 3, 181, 0, 38, 42, 4, 181, 1, 6, 42, 180, 0, 9, 42, 180, 0, 13, 184, 0, 50, 42]
abbrev dktX4_saveSnapshot_0 : List UInt8 := dkwX4_saveSnapshot_0 ++ dktX4_saveSnapshot_1
theorem dksX4_saveSnapshot_0 : cX4_saveSnapshot.data.toList.drop 0 = dktX4_saveSnapshot_0 := by decide +kernel
theorem dksX4_saveSnapshot_1 : cX4_saveSnapshot.data.toList.drop 22 = dktX4_saveSnapshot_1 := dk_seg dksX4_saveSnapshot_0 22 rfl rfl
theorem dX4_saveSnapshot_0 : decode cX4_saveSnapshot 0 = .ok (.aload_n 0, 1) := dk_42 (dk_at dksX4_saveSnapshot_0 0 rfl rfl)
theorem dX4_saveSnapshot_1 : decode cX4_saveSnapshot 1 = .ok (.iconst 0, 1) := dk_3 (dk_at dksX4_saveSnapshot_0 1 rfl rfl)
theorem dX4_saveSnapshot_2 : decode cX4_saveSnapshot 2 = .ok (.putfield 38, 3) := dk_181 0 38 (dk_at dksX4_saveSnapshot_0 2 rfl rfl)
theorem dX4_saveSnapshot_5 : decode cX4_saveSnapshot 5 = .ok (.aload_n 0, 1) := dk_42 (dk_at dksX4_saveSnapshot_0 5 rfl rfl)
theorem dX4_saveSnapshot_6 : decode cX4_saveSnapshot 6 = .ok (.iconst 1, 1) := dk_4 (dk_at dksX4_saveSnapshot_0 6 rfl rfl)
theorem dX4_saveSnapshot_7 : decode cX4_saveSnapshot 7 = .ok (.putfield 262, 3) := dk_181 1 6 (dk_at dksX4_saveSnapshot_0 7 rfl rfl)
theorem dX4_saveSnapshot_10 : decode cX4_saveSnapshot 10 = .ok (.aload_n 0, 1) := dk_42 (dk_at dksX4_saveSnapshot_0 10 rfl rfl)
theorem dX4_saveSnapshot_11 : decode cX4_saveSnapshot 11 = .ok (.getfield 9, 3) := dk_180 0 9 (dk_at dksX4_saveSnapshot_0 11 rfl rfl)
theorem dX4_saveSnapshot_14 : decode cX4_saveSnapshot 14 = .ok (.aload_n 0, 1) := dk_42 (dk_at dksX4_saveSnapshot_0 14 rfl rfl)
theorem dX4_saveSnapshot_15 : decode cX4_saveSnapshot 15 = .ok (.getfield 13, 3) := dk_180 0 13 (dk_at dksX4_saveSnapshot_0 15 rfl rfl)
theorem dX4_saveSnapshot_18 : decode cX4_saveSnapshot 18 = .ok (.invokestatic 50, 3) := dk_184 0 50 (dk_at dksX4_saveSnapshot_0 18 rfl rfl)
theorem dX4_saveSnapshot_21 : decode cX4_saveSnapshot 21 = .ok (.aload_n 0, 1) := dk_42 (dk_at dksX4_saveSnapshot_0 21 rfl rfl)
theorem dX4_saveSnapshot_22 : decode cX4_saveSnapshot 22 = .ok (.getfield 9, 3) := dk_180 0 9 (dk_at dksX4_saveSnapshot_1 0 rfl rfl)
theorem dX4_saveSnapshot_25 : decode cX4_saveSnapshot 25 = .ok (.sipush 350, 3) := dk_17 1 94 (dk_at dksX4_saveSnapshot_1 3 rfl rfl)
theorem dX4_saveSnapshot_28 : decode cX4_saveSnapshot 28 = .ok (.iaload, 1) := dk_46 (dk_at dksX4_saveSnapshot_1 6 rfl rfl)
theorem dX4_saveSnapshot_29 : decode cX4_saveSnapshot 29 = .ok (.ireturn, 1) := dk_172 (dk_at dksX4_saveSnapshot_1 7 rfl rfl)
abbrev cX4_restoreSnapshot : ByteArray := prog_24_method_80_code
def yX4_restoreSnapshot : MethodName := ⟨RX4, "restoreSnapshot", "()I"⟩
def dkwX4_restoreSnapshot_1 : List UInt8 := [180, 0, 13, 42, 180, 0, 9, 184, 0, 50, 42, 3, 181, 0, 47, 42, 180, 0, 9, 17, 1, 94, 46, 172]
abbrev dktX4_restoreSnapshot_1 : List UInt8 := dkwX4_restoreSnapshot_1 ++ []
def dkwX4_restoreSnapshot_0 : List UInt8 := [42, 4, 42, 180, 1, 6, 154, 0, 7, 4, 167, 0, 4, 3, 182, 0, 98, 153, 0, 5, 3, 172, 42]
abbrev dktX4_restoreSnapshot_0 : List UInt8 := dkwX4_restoreSnapshot_0 ++ dktX4_restoreSnapshot_1
theorem dksX4_restoreSnapshot_0 : cX4_restoreSnapshot.data.toList.drop 0 = dktX4_restoreSnapshot_0 := by decide +kernel
theorem dksX4_restoreSnapshot_1 : cX4_restoreSnapshot.data.toList.drop 23 = dktX4_restoreSnapshot_1 := dk_seg dksX4_restoreSnapshot_0 23 rfl rfl
theorem dX4_restoreSnapshot_0 : decode cX4_restoreSnapshot 0 = .ok (.aload_n 0, 1) := dk_42 (dk_at dksX4_restoreSnapshot_0 0 rfl rfl)
theorem dX4_restoreSnapshot_1 : decode cX4_restoreSnapshot 1 = .ok (.iconst 1, 1) := dk_4 (dk_at dksX4_restoreSnapshot_0 1 rfl rfl)
theorem dX4_restoreSnapshot_2 : decode cX4_restoreSnapshot 2 = .ok (.aload_n 0, 1) := dk_42 (dk_at dksX4_restoreSnapshot_0 2 rfl rfl)
theorem dX4_restoreSnapshot_3 : decode cX4_restoreSnapshot 3 = .ok (.getfield 262, 3) := dk_180 1 6 (dk_at dksX4_restoreSnapshot_0 3 rfl rfl)
theorem dX4_restoreSnapshot_6 : decode cX4_restoreSnapshot 6 = .ok (.ifCond .ne 7, 3) := dk_154 0 7 (dk_at dksX4_restoreSnapshot_0 6 rfl rfl)
theorem dX4_restoreSnapshot_9 : decode cX4_restoreSnapshot 9 = .ok (.iconst 1, 1) := dk_4 (dk_at dksX4_restoreSnapshot_0 9 rfl rfl)
theorem dX4_restoreSnapshot_10 : decode cX4_restoreSnapshot 10 = .ok (.goto 4, 3) := dk_167 0 4 (dk_at dksX4_restoreSnapshot_0 10 rfl rfl)
theorem dX4_restoreSnapshot_13 : decode cX4_restoreSnapshot 13 = .ok (.iconst 0, 1) := dk_3 (dk_at dksX4_restoreSnapshot_0 13 rfl rfl)
theorem dX4_restoreSnapshot_14 : decode cX4_restoreSnapshot 14 = .ok (.invokevirtual 98, 3) := dk_182 0 98 (dk_at dksX4_restoreSnapshot_0 14 rfl rfl)
theorem dX4_restoreSnapshot_17 : decode cX4_restoreSnapshot 17 = .ok (.ifCond .eq 5, 3) := dk_153 0 5 (dk_at dksX4_restoreSnapshot_0 17 rfl rfl)
theorem dX4_restoreSnapshot_20 : decode cX4_restoreSnapshot 20 = .ok (.iconst 0, 1) := dk_3 (dk_at dksX4_restoreSnapshot_0 20 rfl rfl)
theorem dX4_restoreSnapshot_21 : decode cX4_restoreSnapshot 21 = .ok (.ireturn, 1) := dk_172 (dk_at dksX4_restoreSnapshot_0 21 rfl rfl)
theorem dX4_restoreSnapshot_22 : decode cX4_restoreSnapshot 22 = .ok (.aload_n 0, 1) := dk_42 (dk_at dksX4_restoreSnapshot_0 22 rfl rfl)
theorem dX4_restoreSnapshot_23 : decode cX4_restoreSnapshot 23 = .ok (.getfield 13, 3) := dk_180 0 13 (dk_at dksX4_restoreSnapshot_1 0 rfl rfl)
theorem dX4_restoreSnapshot_26 : decode cX4_restoreSnapshot 26 = .ok (.aload_n 0, 1) := dk_42 (dk_at dksX4_restoreSnapshot_1 3 rfl rfl)
theorem dX4_restoreSnapshot_27 : decode cX4_restoreSnapshot 27 = .ok (.getfield 9, 3) := dk_180 0 9 (dk_at dksX4_restoreSnapshot_1 4 rfl rfl)
theorem dX4_restoreSnapshot_30 : decode cX4_restoreSnapshot 30 = .ok (.invokestatic 50, 3) := dk_184 0 50 (dk_at dksX4_restoreSnapshot_1 7 rfl rfl)
theorem dX4_restoreSnapshot_33 : decode cX4_restoreSnapshot 33 = .ok (.aload_n 0, 1) := dk_42 (dk_at dksX4_restoreSnapshot_1 10 rfl rfl)
theorem dX4_restoreSnapshot_34 : decode cX4_restoreSnapshot 34 = .ok (.iconst 0, 1) := dk_3 (dk_at dksX4_restoreSnapshot_1 11 rfl rfl)
theorem dX4_restoreSnapshot_35 : decode cX4_restoreSnapshot 35 = .ok (.putfield 47, 3) := dk_181 0 47 (dk_at dksX4_restoreSnapshot_1 12 rfl rfl)
theorem dX4_restoreSnapshot_38 : decode cX4_restoreSnapshot 38 = .ok (.aload_n 0, 1) := dk_42 (dk_at dksX4_restoreSnapshot_1 15 rfl rfl)
theorem dX4_restoreSnapshot_39 : decode cX4_restoreSnapshot 39 = .ok (.getfield 9, 3) := dk_180 0 9 (dk_at dksX4_restoreSnapshot_1 16 rfl rfl)
theorem dX4_restoreSnapshot_42 : decode cX4_restoreSnapshot 42 = .ok (.sipush 350, 3) := dk_17 1 94 (dk_at dksX4_restoreSnapshot_1 19 rfl rfl)
theorem dX4_restoreSnapshot_45 : decode cX4_restoreSnapshot 45 = .ok (.iaload, 1) := dk_46 (dk_at dksX4_restoreSnapshot_1 22 rfl rfl)
theorem dX4_restoreSnapshot_46 : decode cX4_restoreSnapshot 46 = .ok (.ireturn, 1) := dk_172 (dk_at dksX4_restoreSnapshot_1 23 rfl rfl)
theorem q89 : (Jvm.Cond.initialized "FlintMineModel") ∈ lw_all := lw_g (lw_at lw_m1 12 rfl) rfl
theorem q547 : (Jvm.Cond.selects "FlintMineModel" ({ cls := "java/lang/Object", name := "getClass", desc := "()Ljava/lang/Class;" } : Jvm.MethodName) ({ cls := "java/lang/Object", name := "getClass", desc := "()Ljava/lang/Class;" } : Jvm.MethodName)) ∈ lw_all := lw_g (lw_at lw_m2 230 rfl) rfl
theorem q1879 : (Jvm.Cond.instantiable "FlintMineModel" (21 : Nat)) ∈ lw_all := lw_g (lw_at lw_m8 122 rfl) rfl
theorem q1881 : (Jvm.Cond.instanceMethod ({ cls := "FlintMineModel", name := "<init>", desc := "()V" } : Jvm.MethodName)) ∈ lw_all := lw_g (lw_at lw_m8 124 rfl) rfl
theorem q1882 : (Jvm.Cond.code ({ cls := "FlintMineModel", name := "<init>", desc := "()V" } : Jvm.MethodName) prog_24_method_1_code (2 : Nat) (Option.none : Option Jvm.ClassFile.FieldType)) ∈ lw_all := lw_g (lw_at lw_m8 125 rfl) rfl
theorem q1883 : (Jvm.Cond.methodLink "FlintMineModel" (3 : Nat) ({ cls := "java/lang/Object", name := "<init>", desc := "()V" } : Jvm.MethodName)) ∈ lw_all := lw_g (lw_at lw_m8 126 rfl) rfl
theorem q1884 : (Jvm.Cond.classLink "FlintMineModel" (16 : Nat) "[[I") ∈ lw_all := lw_g (lw_at lw_m8 127 rfl) rfl
theorem q1886 : (Jvm.Cond.fieldLink "FlintMineModel" (38 : Nat) "FlintMineModel" "thrown" "I") ∈ lw_all := lw_g (lw_at lw_m8 129 rfl) rfl
theorem q1887 : (Jvm.Cond.fieldLink "FlintMineModel" (9 : Nat) "FlintMineModel" "now" "[I") ∈ lw_all := lw_g (lw_at lw_m8 130 rfl) rfl
theorem q1888 : (Jvm.Cond.fieldLink "FlintMineModel" (13 : Nat) "FlintMineModel" "saved" "[I") ∈ lw_all := lw_g (lw_at lw_m8 131 rfl) rfl
theorem q1889 : (Jvm.Cond.fieldLink "FlintMineModel" (18 : Nat) "FlintMineModel" "history" "[[I") ∈ lw_all := lw_g (lw_at lw_m8 132 rfl) rfl
theorem q1890 : (Jvm.Cond.fieldLink "FlintMineModel" (47 : Nat) "FlintMineModel" "kept" "I") ∈ lw_all := lw_g (lw_at lw_m8 133 rfl) rfl
theorem q1891 : (Jvm.Cond.fieldLink "FlintMineModel" (41 : Nat) "FlintMineModel" "reason" "I") ∈ lw_all := lw_g (lw_at lw_m8 134 rfl) rfl
theorem q1892 : (Jvm.Cond.fieldLink "FlintMineModel" (44 : Nat) "FlintMineModel" "detail" "I") ∈ lw_all := lw_g (lw_at lw_m8 135 rfl) rfl
theorem q1893 : (Jvm.Cond.fieldLink "FlintMineModel" (262 : Nat) "FlintMineModel" "isSaved" "Z") ∈ lw_all := lw_g (lw_at lw_m8 136 rfl) rfl
theorem q1894 : (Jvm.Cond.fieldLink "FlintMineModel" (54 : Nat) "FlintMineModel" "isInText" "Z") ∈ lw_all := lw_g (lw_at lw_m8 137 rfl) rfl
theorem q1895 : (Jvm.Cond.fieldLink "FlintMineModel" (21 : Nat) "FlintMineModel" "far" "[I") ∈ lw_all := lw_g (lw_at lw_m8 138 rfl) rfl
theorem q1896 : (Jvm.Cond.fieldLink "FlintMineModel" (24 : Nat) "FlintMineModel" "queue" "[I") ∈ lw_all := lw_g (lw_at lw_m8 139 rfl) rfl
theorem q1897 : (Jvm.Cond.fieldLink "FlintMineModel" (27 : Nat) "FlintMineModel" "text" "[C") ∈ lw_all := lw_g (lw_at lw_m8 140 rfl) rfl
theorem q1898 : (Jvm.Cond.fieldLink "FlintMineModel" (197 : Nat) "FlintMineModel" "length" "I") ∈ lw_all := lw_g (lw_at lw_m8 141 rfl) rfl
theorem q1899 : (Jvm.Cond.fieldLink "FlintMineModel" (204 : Nat) "FlintMineModel" "at" "I") ∈ lw_all := lw_g (lw_at lw_m8 142 rfl) rfl
theorem q1900 : (Jvm.Cond.fieldLink "FlintMineModel" (31 : Nat) "FlintMineModel" "fault" "I") ∈ lw_all := lw_g (lw_at lw_m8 143 rfl) rfl
theorem q1901 : (Jvm.Cond.fieldLink "FlintMineModel" (201 : Nat) "FlintMineModel" "isWrong" "Z") ∈ lw_all := lw_g (lw_at lw_m8 144 rfl) rfl
theorem q1902 : (Jvm.Cond.fieldLink "FlintMineModel" (221 : Nat) "FlintMineModel" "isPropTold" "Z") ∈ lw_all := lw_g (lw_at lw_m8 145 rfl) rfl
theorem q1903 : (Jvm.Cond.fieldLink "FlintMineModel" (211 : Nat) "FlintMineModel" "told" "C") ∈ lw_all := lw_g (lw_at lw_m8 146 rfl) rfl
theorem q1904 : (Jvm.Cond.fieldLink "FlintMineModel" (218 : Nat) "FlintMineModel" "toldOne" "I") ∈ lw_all := lw_g (lw_at lw_m8 147 rfl) rfl
theorem q1905 : (Jvm.Cond.fieldLink "FlintMineModel" (228 : Nat) "FlintMineModel" "toldTwo" "I") ∈ lw_all := lw_g (lw_at lw_m8 148 rfl) rfl
theorem q1906 : (Jvm.Cond.fieldLink "FlintMineModel" (35 : Nat) "FlintMineModel" "ahead" "[I") ∈ lw_all := lw_g (lw_at lw_m8 149 rfl) rfl
theorem q1907 : (Jvm.Cond.lays "FlintMineModel" "FlintMineModel" "thrown" "I") ∈ lw_all := lw_g (lw_at lw_m8 150 rfl) rfl
theorem q1908 : (Jvm.Cond.soleField "FlintMineModel" "thrown") ∈ lw_all := lw_g (lw_at lw_m8 151 rfl) rfl
theorem q1909 : (Jvm.Cond.laysFinal "FlintMineModel" "FlintMineModel" "now" "[I") ∈ lw_all := lw_g (lw_at lw_m8 152 rfl) rfl
theorem q1910 : (Jvm.Cond.soleField "FlintMineModel" "now") ∈ lw_all := lw_g (lw_at lw_m8 153 rfl) rfl
theorem q1911 : (Jvm.Cond.laysFinal "FlintMineModel" "FlintMineModel" "saved" "[I") ∈ lw_all := lw_g (lw_at lw_m8 154 rfl) rfl
theorem q1912 : (Jvm.Cond.soleField "FlintMineModel" "saved") ∈ lw_all := lw_g (lw_at lw_m8 155 rfl) rfl
theorem q1913 : (Jvm.Cond.laysFinal "FlintMineModel" "FlintMineModel" "history" "[[I") ∈ lw_all := lw_g (lw_at lw_m8 156 rfl) rfl
theorem q1914 : (Jvm.Cond.soleField "FlintMineModel" "history") ∈ lw_all := lw_g (lw_at lw_m8 157 rfl) rfl
theorem q1915 : (Jvm.Cond.lays "FlintMineModel" "FlintMineModel" "kept" "I") ∈ lw_all := lw_g (lw_at lw_m8 158 rfl) rfl
theorem q1916 : (Jvm.Cond.soleField "FlintMineModel" "kept") ∈ lw_all := lw_g (lw_at lw_m8 159 rfl) rfl
theorem q1917 : (Jvm.Cond.lays "FlintMineModel" "FlintMineModel" "reason" "I") ∈ lw_all := lw_g (lw_at lw_m8 160 rfl) rfl
theorem q1918 : (Jvm.Cond.soleField "FlintMineModel" "reason") ∈ lw_all := lw_g (lw_at lw_m8 161 rfl) rfl
theorem q1919 : (Jvm.Cond.lays "FlintMineModel" "FlintMineModel" "detail" "I") ∈ lw_all := lw_g (lw_at lw_m8 162 rfl) rfl
theorem q1920 : (Jvm.Cond.soleField "FlintMineModel" "detail") ∈ lw_all := lw_g (lw_at lw_m8 163 rfl) rfl
theorem q1921 : (Jvm.Cond.lays "FlintMineModel" "FlintMineModel" "isSaved" "Z") ∈ lw_all := lw_g (lw_at lw_m8 164 rfl) rfl
theorem q1922 : (Jvm.Cond.soleField "FlintMineModel" "isSaved") ∈ lw_all := lw_g (lw_at lw_m8 165 rfl) rfl
theorem q1923 : (Jvm.Cond.lays "FlintMineModel" "FlintMineModel" "isInText" "Z") ∈ lw_all := lw_g (lw_at lw_m8 166 rfl) rfl
theorem q1924 : (Jvm.Cond.soleField "FlintMineModel" "isInText") ∈ lw_all := lw_g (lw_at lw_m8 167 rfl) rfl
theorem q1925 : (Jvm.Cond.laysFinal "FlintMineModel" "FlintMineModel" "far" "[I") ∈ lw_all := lw_g (lw_at lw_m8 168 rfl) rfl
theorem q1926 : (Jvm.Cond.soleField "FlintMineModel" "far") ∈ lw_all := lw_g (lw_at lw_m8 169 rfl) rfl
theorem q1927 : (Jvm.Cond.laysFinal "FlintMineModel" "FlintMineModel" "queue" "[I") ∈ lw_all := lw_g (lw_at lw_m8 170 rfl) rfl
theorem q1928 : (Jvm.Cond.soleField "FlintMineModel" "queue") ∈ lw_all := lw_g (lw_at lw_m8 171 rfl) rfl
theorem q1929 : (Jvm.Cond.laysFinal "FlintMineModel" "FlintMineModel" "text" "[C") ∈ lw_all := lw_g (lw_at lw_m8 172 rfl) rfl
theorem q1930 : (Jvm.Cond.soleField "FlintMineModel" "text") ∈ lw_all := lw_g (lw_at lw_m8 173 rfl) rfl
theorem q1931 : (Jvm.Cond.lays "FlintMineModel" "FlintMineModel" "length" "I") ∈ lw_all := lw_g (lw_at lw_m8 174 rfl) rfl
theorem q1932 : (Jvm.Cond.soleField "FlintMineModel" "length") ∈ lw_all := lw_g (lw_at lw_m8 175 rfl) rfl
theorem q1933 : (Jvm.Cond.lays "FlintMineModel" "FlintMineModel" "at" "I") ∈ lw_all := lw_g (lw_at lw_m8 176 rfl) rfl
theorem q1934 : (Jvm.Cond.soleField "FlintMineModel" "at") ∈ lw_all := lw_g (lw_at lw_m8 177 rfl) rfl
theorem q1935 : (Jvm.Cond.lays "FlintMineModel" "FlintMineModel" "fault" "I") ∈ lw_all := lw_g (lw_at lw_m8 178 rfl) rfl
theorem q1936 : (Jvm.Cond.soleField "FlintMineModel" "fault") ∈ lw_all := lw_g (lw_at lw_m8 179 rfl) rfl
theorem q1937 : (Jvm.Cond.lays "FlintMineModel" "FlintMineModel" "isWrong" "Z") ∈ lw_all := lw_g (lw_at lw_m8 180 rfl) rfl
theorem q1938 : (Jvm.Cond.soleField "FlintMineModel" "isWrong") ∈ lw_all := lw_g (lw_at lw_m8 181 rfl) rfl
theorem q1939 : (Jvm.Cond.lays "FlintMineModel" "FlintMineModel" "isPropTold" "Z") ∈ lw_all := lw_g (lw_at lw_m8 182 rfl) rfl
theorem q1940 : (Jvm.Cond.soleField "FlintMineModel" "isPropTold") ∈ lw_all := lw_g (lw_at lw_m8 183 rfl) rfl
theorem q1941 : (Jvm.Cond.lays "FlintMineModel" "FlintMineModel" "told" "C") ∈ lw_all := lw_g (lw_at lw_m8 184 rfl) rfl
theorem q1942 : (Jvm.Cond.soleField "FlintMineModel" "told") ∈ lw_all := lw_g (lw_at lw_m8 185 rfl) rfl
theorem q1943 : (Jvm.Cond.lays "FlintMineModel" "FlintMineModel" "toldOne" "I") ∈ lw_all := lw_g (lw_at lw_m8 186 rfl) rfl
theorem q1944 : (Jvm.Cond.soleField "FlintMineModel" "toldOne") ∈ lw_all := lw_g (lw_at lw_m8 187 rfl) rfl
theorem q1945 : (Jvm.Cond.lays "FlintMineModel" "FlintMineModel" "toldTwo" "I") ∈ lw_all := lw_g (lw_at lw_m8 188 rfl) rfl
theorem q1946 : (Jvm.Cond.soleField "FlintMineModel" "toldTwo") ∈ lw_all := lw_g (lw_at lw_m8 189 rfl) rfl
theorem q1947 : (Jvm.Cond.laysFinal "FlintMineModel" "FlintMineModel" "ahead" "[I") ∈ lw_all := lw_g (lw_at lw_m8 190 rfl) rfl
theorem q1948 : (Jvm.Cond.soleField "FlintMineModel" "ahead") ∈ lw_all := lw_g (lw_at lw_m8 191 rfl) rfl
theorem q1949 : (Jvm.Cond.superclass "FlintMineModel" "java/lang/Object") ∈ lw_all := lw_g (lw_at lw_m8 192 rfl) rfl
theorem q1952 : (Jvm.Cond.instanceMethod ({ cls := "FlintMineModel", name := "thrown", desc := "()I" } : Jvm.MethodName)) ∈ lw_all := lw_g (lw_at lw_m8 195 rfl) rfl
theorem q1953 : (Jvm.Cond.selects "FlintMineModel" ({ cls := "FlintMineModel", name := "thrown", desc := "()I" } : Jvm.MethodName) ({ cls := "FlintMineModel", name := "thrown", desc := "()I" } : Jvm.MethodName)) ∈ lw_all := lw_g (lw_at lw_m8 196 rfl) rfl
theorem q1954 : (Jvm.Cond.code ({ cls := "FlintMineModel", name := "thrown", desc := "()I" } : Jvm.MethodName) prog_24_method_2_code (1 : Nat) (Option.some Jvm.ClassFile.FieldType.int)) ∈ lw_all := lw_g (lw_at lw_m8 197 rfl) rfl
theorem q1956 : (Jvm.Cond.instanceMethod ({ cls := "FlintMineModel", name := "rock", desc := "(III)I" } : Jvm.MethodName)) ∈ lw_all := lw_g (lw_at lw_m8 199 rfl) rfl
theorem q1957 : (Jvm.Cond.selects "FlintMineModel" ({ cls := "FlintMineModel", name := "rock", desc := "(III)I" } : Jvm.MethodName) ({ cls := "FlintMineModel", name := "rock", desc := "(III)I" } : Jvm.MethodName)) ∈ lw_all := lw_g (lw_at lw_m8 200 rfl) rfl
theorem q1958 : (Jvm.Cond.code ({ cls := "FlintMineModel", name := "rock", desc := "(III)I" } : Jvm.MethodName) prog_24_method_23_code (4 : Nat) (Option.some Jvm.ClassFile.FieldType.int)) ∈ lw_all := lw_g (lw_at lw_m8 201 rfl) rfl
theorem q1959 : (Jvm.Cond.methodLink "FlintMineModel" (95 : Nat) ({ cls := "FlintMineModel", name := "isCell", desc := "(I)Z" } : Jvm.MethodName)) ∈ lw_all := lw_g (lw_at lw_m8 202 rfl) rfl
theorem q1960 : (Jvm.Cond.static ({ cls := "FlintMineModel", name := "isCell", desc := "(I)Z" } : Jvm.MethodName)) ∈ lw_all := lw_g (lw_at lw_m8 203 rfl) rfl
theorem q1961 : (Jvm.Cond.code ({ cls := "FlintMineModel", name := "isCell", desc := "(I)Z" } : Jvm.MethodName) prog_24_method_9_code (1 : Nat) (Option.some Jvm.ClassFile.FieldType.boolean)) ∈ lw_all := lw_g (lw_at lw_m8 204 rfl) rfl
theorem q1962 : (Jvm.Cond.methodLink "FlintMineModel" (62 : Nat) ({ cls := "FlintMineModel", name := "isBetween", desc := "(III)Z" } : Jvm.MethodName)) ∈ lw_all := lw_g (lw_at lw_m8 205 rfl) rfl
theorem q1963 : (Jvm.Cond.static ({ cls := "FlintMineModel", name := "isBetween", desc := "(III)Z" } : Jvm.MethodName)) ∈ lw_all := lw_g (lw_at lw_m8 206 rfl) rfl
theorem q1964 : (Jvm.Cond.code ({ cls := "FlintMineModel", name := "isBetween", desc := "(III)Z" } : Jvm.MethodName) prog_24_method_3_code (3 : Nat) (Option.some Jvm.ClassFile.FieldType.boolean)) ∈ lw_all := lw_g (lw_at lw_m8 207 rfl) rfl
theorem q1965 : (Jvm.Cond.methodLink "FlintMineModel" (98 : Nat) ({ cls := "FlintMineModel", name := "fails", desc := "(IZ)Z" } : Jvm.MethodName)) ∈ lw_all := lw_g (lw_at lw_m8 208 rfl) rfl
theorem q1966 : (Jvm.Cond.privateMethod ({ cls := "FlintMineModel", name := "fails", desc := "(IZ)Z" } : Jvm.MethodName)) ∈ lw_tbl := lw_at lw_m8 209 rfl
theorem q1967 : (Jvm.Cond.instanceMethod ({ cls := "FlintMineModel", name := "fails", desc := "(IZ)Z" } : Jvm.MethodName)) ∈ lw_all := lw_g (lw_at lw_m8 210 rfl) rfl
theorem q1968 : (Jvm.Cond.code ({ cls := "FlintMineModel", name := "fails", desc := "(IZ)Z" } : Jvm.MethodName) prog_24_method_5_code (3 : Nat) (Option.some Jvm.ClassFile.FieldType.boolean)) ∈ lw_all := lw_g (lw_at lw_m8 211 rfl) rfl
theorem q1969 : (Jvm.Cond.methodLink "FlintMineModel" (102 : Nat) ({ cls := "FlintMineModel", name := "isChalk", desc := "(I)Z" } : Jvm.MethodName)) ∈ lw_all := lw_g (lw_at lw_m8 212 rfl) rfl
theorem q1970 : (Jvm.Cond.privateMethod ({ cls := "FlintMineModel", name := "isChalk", desc := "(I)Z" } : Jvm.MethodName)) ∈ lw_tbl := lw_at lw_m8 213 rfl
theorem q1971 : (Jvm.Cond.instanceMethod ({ cls := "FlintMineModel", name := "isChalk", desc := "(I)Z" } : Jvm.MethodName)) ∈ lw_all := lw_g (lw_at lw_m8 214 rfl) rfl
theorem q1972 : (Jvm.Cond.code ({ cls := "FlintMineModel", name := "isChalk", desc := "(I)Z" } : Jvm.MethodName) prog_24_method_13_code (2 : Nat) (Option.some Jvm.ClassFile.FieldType.boolean)) ∈ lw_all := lw_g (lw_at lw_m8 215 rfl) rfl
theorem q1973 : (Jvm.Cond.methodLink "FlintMineModel" (105 : Nat) ({ cls := "FlintMineModel", name := "refuse", desc := "(ZII)Z" } : Jvm.MethodName)) ∈ lw_all := lw_g (lw_at lw_m8 216 rfl) rfl
theorem q1974 : (Jvm.Cond.privateMethod ({ cls := "FlintMineModel", name := "refuse", desc := "(ZII)Z" } : Jvm.MethodName)) ∈ lw_tbl := lw_at lw_m8 217 rfl
theorem q1975 : (Jvm.Cond.instanceMethod ({ cls := "FlintMineModel", name := "refuse", desc := "(ZII)Z" } : Jvm.MethodName)) ∈ lw_all := lw_g (lw_at lw_m8 218 rfl) rfl
theorem q1976 : (Jvm.Cond.code ({ cls := "FlintMineModel", name := "refuse", desc := "(ZII)Z" } : Jvm.MethodName) prog_24_method_6_code (4 : Nat) (Option.some Jvm.ClassFile.FieldType.boolean)) ∈ lw_all := lw_g (lw_at lw_m8 219 rfl) rfl
theorem q1977 : (Jvm.Cond.methodLink "FlintMineModel" (58 : Nat) ({ cls := "FlintMineModel", name := "remember", desc := "([I)V" } : Jvm.MethodName)) ∈ lw_all := lw_g (lw_at lw_m8 220 rfl) rfl
theorem q1978 : (Jvm.Cond.privateMethod ({ cls := "FlintMineModel", name := "remember", desc := "([I)V" } : Jvm.MethodName)) ∈ lw_tbl := lw_at lw_m8 221 rfl
theorem q1979 : (Jvm.Cond.instanceMethod ({ cls := "FlintMineModel", name := "remember", desc := "([I)V" } : Jvm.MethodName)) ∈ lw_all := lw_g (lw_at lw_m8 222 rfl) rfl
theorem q1980 : (Jvm.Cond.code ({ cls := "FlintMineModel", name := "remember", desc := "([I)V" } : Jvm.MethodName) prog_24_method_7_code (3 : Nat) (Option.none : Option Jvm.ClassFile.FieldType)) ∈ lw_all := lw_g (lw_at lw_m8 223 rfl) rfl
theorem q1981 : (Jvm.Cond.methodLink "FlintMineModel" (50 : Nat) ({ cls := "FlintMineModel", name := "copyRow", desc := "([I[I)V" } : Jvm.MethodName)) ∈ lw_all := lw_g (lw_at lw_m8 224 rfl) rfl
theorem q1982 : (Jvm.Cond.static ({ cls := "FlintMineModel", name := "copyRow", desc := "([I[I)V" } : Jvm.MethodName)) ∈ lw_all := lw_g (lw_at lw_m8 225 rfl) rfl
theorem q1983 : (Jvm.Cond.code ({ cls := "FlintMineModel", name := "copyRow", desc := "([I[I)V" } : Jvm.MethodName) prog_24_method_4_code (3 : Nat) (Option.none : Option Jvm.ClassFile.FieldType)) ∈ lw_all := lw_g (lw_at lw_m8 226 rfl) rfl
theorem q1984 : (Jvm.Cond.methodLink "FlintMineModel" (109 : Nat) ({ cls := "FlintMineModel", name := "strokesOf", desc := "(I)I" } : Jvm.MethodName)) ∈ lw_all := lw_g (lw_at lw_m8 227 rfl) rfl
theorem q1985 : (Jvm.Cond.privateMethod ({ cls := "FlintMineModel", name := "strokesOf", desc := "(I)I" } : Jvm.MethodName)) ∈ lw_tbl := lw_at lw_m8 228 rfl
theorem q1986 : (Jvm.Cond.instanceMethod ({ cls := "FlintMineModel", name := "strokesOf", desc := "(I)I" } : Jvm.MethodName)) ∈ lw_all := lw_g (lw_at lw_m8 229 rfl) rfl
theorem q1987 : (Jvm.Cond.code ({ cls := "FlintMineModel", name := "strokesOf", desc := "(I)I" } : Jvm.MethodName) prog_24_method_14_code (2 : Nat) (Option.some Jvm.ClassFile.FieldType.int)) ∈ lw_all := lw_g (lw_at lw_m8 230 rfl) rfl
theorem q1989 : (Jvm.Cond.instanceMethod ({ cls := "FlintMineModel", name := "roof", desc := "(I)I" } : Jvm.MethodName)) ∈ lw_all := lw_g (lw_at lw_m8 232 rfl) rfl
theorem q1990 : (Jvm.Cond.selects "FlintMineModel" ({ cls := "FlintMineModel", name := "roof", desc := "(I)I" } : Jvm.MethodName) ({ cls := "FlintMineModel", name := "roof", desc := "(I)I" } : Jvm.MethodName)) ∈ lw_all := lw_g (lw_at lw_m8 233 rfl) rfl
theorem q1991 : (Jvm.Cond.code ({ cls := "FlintMineModel", name := "roof", desc := "(I)I" } : Jvm.MethodName) prog_24_method_24_code (3 : Nat) (Option.some Jvm.ClassFile.FieldType.int)) ∈ lw_all := lw_g (lw_at lw_m8 234 rfl) rfl
theorem q1992 : (Jvm.Cond.methodLink "FlintMineModel" (112 : Nat) ({ cls := "FlintMineModel", name := "longestSpan", desc := "()I" } : Jvm.MethodName)) ∈ lw_all := lw_g (lw_at lw_m8 235 rfl) rfl
theorem q1993 : (Jvm.Cond.privateMethod ({ cls := "FlintMineModel", name := "longestSpan", desc := "()I" } : Jvm.MethodName)) ∈ lw_tbl := lw_at lw_m8 236 rfl
theorem q1994 : (Jvm.Cond.instanceMethod ({ cls := "FlintMineModel", name := "longestSpan", desc := "()I" } : Jvm.MethodName)) ∈ lw_all := lw_g (lw_at lw_m8 237 rfl) rfl
theorem q1995 : (Jvm.Cond.code ({ cls := "FlintMineModel", name := "longestSpan", desc := "()I" } : Jvm.MethodName) prog_24_method_22_code (4 : Nat) (Option.some Jvm.ClassFile.FieldType.int)) ∈ lw_all := lw_g (lw_at lw_m8 238 rfl) rfl
theorem q1996 : (Jvm.Cond.methodLink "FlintMineModel" (81 : Nat) ({ cls := "FlintMineModel", name := "isBare", desc := "(I)Z" } : Jvm.MethodName)) ∈ lw_all := lw_g (lw_at lw_m8 239 rfl) rfl
theorem q1997 : (Jvm.Cond.privateMethod ({ cls := "FlintMineModel", name := "isBare", desc := "(I)Z" } : Jvm.MethodName)) ∈ lw_tbl := lw_at lw_m9 0 rfl
theorem q1998 : (Jvm.Cond.instanceMethod ({ cls := "FlintMineModel", name := "isBare", desc := "(I)Z" } : Jvm.MethodName)) ∈ lw_all := lw_g (lw_at lw_m9 1 rfl) rfl
theorem q1999 : (Jvm.Cond.code ({ cls := "FlintMineModel", name := "isBare", desc := "(I)Z" } : Jvm.MethodName) prog_24_method_17_code (2 : Nat) (Option.some Jvm.ClassFile.FieldType.boolean)) ∈ lw_all := lw_g (lw_at lw_m9 2 rfl) rfl
theorem q2000 : (Jvm.Cond.methodLink "FlintMineModel" (66 : Nat) ({ cls := "FlintMineModel", name := "isOpen", desc := "(I)Z" } : Jvm.MethodName)) ∈ lw_all := lw_g (lw_at lw_m9 3 rfl) rfl
theorem q2001 : (Jvm.Cond.privateMethod ({ cls := "FlintMineModel", name := "isOpen", desc := "(I)Z" } : Jvm.MethodName)) ∈ lw_tbl := lw_at lw_m9 4 rfl
theorem q2002 : (Jvm.Cond.instanceMethod ({ cls := "FlintMineModel", name := "isOpen", desc := "(I)Z" } : Jvm.MethodName)) ∈ lw_all := lw_g (lw_at lw_m9 5 rfl) rfl
theorem q2003 : (Jvm.Cond.code ({ cls := "FlintMineModel", name := "isOpen", desc := "(I)Z" } : Jvm.MethodName) prog_24_method_11_code (2 : Nat) (Option.some Jvm.ClassFile.FieldType.boolean)) ∈ lw_all := lw_g (lw_at lw_m9 6 rfl) rfl
theorem q2004 : (Jvm.Cond.methodLink "FlintMineModel" (91 : Nat) ({ cls := "FlintMineModel", name := "longerSpanWith", desc := "(I)I" } : Jvm.MethodName)) ∈ lw_all := lw_g (lw_at lw_m9 7 rfl) rfl
theorem q2005 : (Jvm.Cond.privateMethod ({ cls := "FlintMineModel", name := "longerSpanWith", desc := "(I)I" } : Jvm.MethodName)) ∈ lw_tbl := lw_at lw_m9 8 rfl
theorem q2006 : (Jvm.Cond.instanceMethod ({ cls := "FlintMineModel", name := "longerSpanWith", desc := "(I)I" } : Jvm.MethodName)) ∈ lw_all := lw_g (lw_at lw_m9 9 rfl) rfl
theorem q2007 : (Jvm.Cond.code ({ cls := "FlintMineModel", name := "longerSpanWith", desc := "(I)I" } : Jvm.MethodName) prog_24_method_21_code (4 : Nat) (Option.some Jvm.ClassFile.FieldType.int)) ∈ lw_all := lw_g (lw_at lw_m9 10 rfl) rfl
theorem q2008 : (Jvm.Cond.methodLink "FlintMineModel" (87 : Nat) ({ cls := "FlintMineModel", name := "spanWith", desc := "(IZ)I" } : Jvm.MethodName)) ∈ lw_all := lw_g (lw_at lw_m9 11 rfl) rfl
theorem q2009 : (Jvm.Cond.privateMethod ({ cls := "FlintMineModel", name := "spanWith", desc := "(IZ)I" } : Jvm.MethodName)) ∈ lw_tbl := lw_at lw_m9 12 rfl
theorem q2010 : (Jvm.Cond.instanceMethod ({ cls := "FlintMineModel", name := "spanWith", desc := "(IZ)I" } : Jvm.MethodName)) ∈ lw_all := lw_g (lw_at lw_m9 13 rfl) rfl
theorem q2011 : (Jvm.Cond.code ({ cls := "FlintMineModel", name := "spanWith", desc := "(IZ)I" } : Jvm.MethodName) prog_24_method_19_code (3 : Nat) (Option.some Jvm.ClassFile.FieldType.int)) ∈ lw_all := lw_g (lw_at lw_m9 14 rfl) rfl
theorem q2012 : (Jvm.Cond.methodLink "FlintMineModel" (84 : Nat) ({ cls := "FlintMineModel", name := "bareFrom", desc := "(II)I" } : Jvm.MethodName)) ∈ lw_all := lw_g (lw_at lw_m9 15 rfl) rfl
theorem q2013 : (Jvm.Cond.privateMethod ({ cls := "FlintMineModel", name := "bareFrom", desc := "(II)I" } : Jvm.MethodName)) ∈ lw_tbl := lw_at lw_m9 16 rfl
theorem q2014 : (Jvm.Cond.instanceMethod ({ cls := "FlintMineModel", name := "bareFrom", desc := "(II)I" } : Jvm.MethodName)) ∈ lw_all := lw_g (lw_at lw_m9 17 rfl) rfl
theorem q2015 : (Jvm.Cond.code ({ cls := "FlintMineModel", name := "bareFrom", desc := "(II)I" } : Jvm.MethodName) prog_24_method_18_code (5 : Nat) (Option.some Jvm.ClassFile.FieldType.int)) ∈ lw_all := lw_g (lw_at lw_m9 18 rfl) rfl
theorem q2016 : (Jvm.Cond.methodLink "FlintMineModel" (70 : Nat) ({ cls := "FlintMineModel", name := "beside", desc := "(II)I" } : Jvm.MethodName)) ∈ lw_all := lw_g (lw_at lw_m9 19 rfl) rfl
theorem q2017 : (Jvm.Cond.static ({ cls := "FlintMineModel", name := "beside", desc := "(II)I" } : Jvm.MethodName)) ∈ lw_all := lw_g (lw_at lw_m9 20 rfl) rfl
theorem q2018 : (Jvm.Cond.code ({ cls := "FlintMineModel", name := "beside", desc := "(II)I" } : Jvm.MethodName) prog_24_method_10_code (4 : Nat) (Option.some Jvm.ClassFile.FieldType.int)) ∈ lw_all := lw_g (lw_at lw_m9 21 rfl) rfl
theorem q2020 : (Jvm.Cond.instanceMethod ({ cls := "FlintMineModel", name := "props", desc := "(I)I" } : Jvm.MethodName)) ∈ lw_all := lw_g (lw_at lw_m9 23 rfl) rfl
theorem q2021 : (Jvm.Cond.selects "FlintMineModel" ({ cls := "FlintMineModel", name := "props", desc := "(I)I" } : Jvm.MethodName) ({ cls := "FlintMineModel", name := "props", desc := "(I)I" } : Jvm.MethodName)) ∈ lw_all := lw_g (lw_at lw_m9 24 rfl) rfl
theorem q2022 : (Jvm.Cond.code ({ cls := "FlintMineModel", name := "props", desc := "(I)I" } : Jvm.MethodName) prog_24_method_26_code (2 : Nat) (Option.some Jvm.ClassFile.FieldType.int)) ∈ lw_all := lw_g (lw_at lw_m9 25 rfl) rfl
theorem q2023 : (Jvm.Cond.methodLink "FlintMineModel" (116 : Nat) ({ cls := "FlintMineModel", name := "change", desc := "()V" } : Jvm.MethodName)) ∈ lw_all := lw_g (lw_at lw_m9 26 rfl) rfl
theorem q2024 : (Jvm.Cond.privateMethod ({ cls := "FlintMineModel", name := "change", desc := "()V" } : Jvm.MethodName)) ∈ lw_tbl := lw_at lw_m9 27 rfl
theorem q2025 : (Jvm.Cond.instanceMethod ({ cls := "FlintMineModel", name := "change", desc := "()V" } : Jvm.MethodName)) ∈ lw_all := lw_g (lw_at lw_m9 28 rfl) rfl
theorem q2026 : (Jvm.Cond.code ({ cls := "FlintMineModel", name := "change", desc := "()V" } : Jvm.MethodName) prog_24_method_8_code (1 : Nat) (Option.none : Option Jvm.ClassFile.FieldType)) ∈ lw_all := lw_g (lw_at lw_m9 29 rfl) rfl
theorem q2027 : (Jvm.Cond.methodLink "FlintMineModel" (119 : Nat) ({ cls := "FlintMineModel", name := "addProps", desc := "(I)V" } : Jvm.MethodName)) ∈ lw_all := lw_g (lw_at lw_m9 30 rfl) rfl
theorem q2028 : (Jvm.Cond.privateMethod ({ cls := "FlintMineModel", name := "addProps", desc := "(I)V" } : Jvm.MethodName)) ∈ lw_tbl := lw_at lw_m9 31 rfl
theorem q2029 : (Jvm.Cond.instanceMethod ({ cls := "FlintMineModel", name := "addProps", desc := "(I)V" } : Jvm.MethodName)) ∈ lw_all := lw_g (lw_at lw_m9 32 rfl) rfl
theorem q2030 : (Jvm.Cond.code ({ cls := "FlintMineModel", name := "addProps", desc := "(I)V" } : Jvm.MethodName) prog_24_method_25_code (2 : Nat) (Option.none : Option Jvm.ClassFile.FieldType)) ∈ lw_all := lw_g (lw_at lw_m9 33 rfl) rfl
theorem q2032 : (Jvm.Cond.instanceMethod ({ cls := "FlintMineModel", name := "pick", desc := "(I)I" } : Jvm.MethodName)) ∈ lw_all := lw_g (lw_at lw_m9 35 rfl) rfl
theorem q2033 : (Jvm.Cond.selects "FlintMineModel" ({ cls := "FlintMineModel", name := "pick", desc := "(I)I" } : Jvm.MethodName) ({ cls := "FlintMineModel", name := "pick", desc := "(I)I" } : Jvm.MethodName)) ∈ lw_all := lw_g (lw_at lw_m9 36 rfl) rfl
theorem q2034 : (Jvm.Cond.code ({ cls := "FlintMineModel", name := "pick", desc := "(I)I" } : Jvm.MethodName) prog_24_method_27_code (2 : Nat) (Option.some Jvm.ClassFile.FieldType.int)) ∈ lw_all := lw_g (lw_at lw_m9 37 rfl) rfl
theorem q2036 : (Jvm.Cond.instanceMethod ({ cls := "FlintMineModel", name := "edge", desc := "(I)I" } : Jvm.MethodName)) ∈ lw_all := lw_g (lw_at lw_m9 39 rfl) rfl
theorem q2037 : (Jvm.Cond.selects "FlintMineModel" ({ cls := "FlintMineModel", name := "edge", desc := "(I)I" } : Jvm.MethodName) ({ cls := "FlintMineModel", name := "edge", desc := "(I)I" } : Jvm.MethodName)) ∈ lw_all := lw_g (lw_at lw_m9 40 rfl) rfl
theorem q2038 : (Jvm.Cond.code ({ cls := "FlintMineModel", name := "edge", desc := "(I)I" } : Jvm.MethodName) prog_24_method_28_code (2 : Nat) (Option.some Jvm.ClassFile.FieldType.int)) ∈ lw_all := lw_g (lw_at lw_m9 41 rfl) rfl
theorem q2040 : (Jvm.Cond.instanceMethod ({ cls := "FlintMineModel", name := "cell", desc := "(II)I" } : Jvm.MethodName)) ∈ lw_all := lw_g (lw_at lw_m9 43 rfl) rfl
theorem q2041 : (Jvm.Cond.selects "FlintMineModel" ({ cls := "FlintMineModel", name := "cell", desc := "(II)I" } : Jvm.MethodName) ({ cls := "FlintMineModel", name := "cell", desc := "(II)I" } : Jvm.MethodName)) ∈ lw_all := lw_g (lw_at lw_m9 44 rfl) rfl
theorem q2042 : (Jvm.Cond.code ({ cls := "FlintMineModel", name := "cell", desc := "(II)I" } : Jvm.MethodName) prog_24_method_31_code (3 : Nat) (Option.some Jvm.ClassFile.FieldType.int)) ∈ lw_all := lw_g (lw_at lw_m9 45 rfl) rfl
theorem q2044 : (Jvm.Cond.instanceMethod ({ cls := "FlintMineModel", name := "span", desc := "(IZ)I" } : Jvm.MethodName)) ∈ lw_all := lw_g (lw_at lw_m9 47 rfl) rfl
theorem q2045 : (Jvm.Cond.selects "FlintMineModel" ({ cls := "FlintMineModel", name := "span", desc := "(IZ)I" } : Jvm.MethodName) ({ cls := "FlintMineModel", name := "span", desc := "(IZ)I" } : Jvm.MethodName)) ∈ lw_all := lw_g (lw_at lw_m9 48 rfl) rfl
theorem q2046 : (Jvm.Cond.code ({ cls := "FlintMineModel", name := "span", desc := "(IZ)I" } : Jvm.MethodName) prog_24_method_32_code (3 : Nat) (Option.some Jvm.ClassFile.FieldType.int)) ∈ lw_all := lw_g (lw_at lw_m9 49 rfl) rfl
theorem q2047 : (Jvm.Cond.methodLink "FlintMineModel" (123 : Nat) ({ cls := "FlintMineModel", name := "spanOf", desc := "(IZ)I" } : Jvm.MethodName)) ∈ lw_all := lw_g (lw_at lw_m9 50 rfl) rfl
theorem q2048 : (Jvm.Cond.privateMethod ({ cls := "FlintMineModel", name := "spanOf", desc := "(IZ)I" } : Jvm.MethodName)) ∈ lw_tbl := lw_at lw_m9 51 rfl
theorem q2049 : (Jvm.Cond.instanceMethod ({ cls := "FlintMineModel", name := "spanOf", desc := "(IZ)I" } : Jvm.MethodName)) ∈ lw_all := lw_g (lw_at lw_m9 52 rfl) rfl
theorem q2050 : (Jvm.Cond.code ({ cls := "FlintMineModel", name := "spanOf", desc := "(IZ)I" } : Jvm.MethodName) prog_24_method_20_code (3 : Nat) (Option.some Jvm.ClassFile.FieldType.int)) ∈ lw_all := lw_g (lw_at lw_m9 53 rfl) rfl
theorem q2052 : (Jvm.Cond.instanceMethod ({ cls := "FlintMineModel", name := "longest", desc := "()I" } : Jvm.MethodName)) ∈ lw_all := lw_g (lw_at lw_m9 55 rfl) rfl
theorem q2053 : (Jvm.Cond.selects "FlintMineModel" ({ cls := "FlintMineModel", name := "longest", desc := "()I" } : Jvm.MethodName) ({ cls := "FlintMineModel", name := "longest", desc := "()I" } : Jvm.MethodName)) ∈ lw_all := lw_g (lw_at lw_m9 56 rfl) rfl
theorem q2054 : (Jvm.Cond.code ({ cls := "FlintMineModel", name := "longest", desc := "()I" } : Jvm.MethodName) prog_24_method_33_code (1 : Nat) (Option.some Jvm.ClassFile.FieldType.int)) ∈ lw_all := lw_g (lw_at lw_m9 57 rfl) rfl
theorem q2056 : (Jvm.Cond.instanceMethod ({ cls := "FlintMineModel", name := "knock", desc := "(I)I" } : Jvm.MethodName)) ∈ lw_all := lw_g (lw_at lw_m9 59 rfl) rfl
theorem q2057 : (Jvm.Cond.selects "FlintMineModel" ({ cls := "FlintMineModel", name := "knock", desc := "(I)I" } : Jvm.MethodName) ({ cls := "FlintMineModel", name := "knock", desc := "(I)I" } : Jvm.MethodName)) ∈ lw_all := lw_g (lw_at lw_m9 60 rfl) rfl
theorem q2058 : (Jvm.Cond.code ({ cls := "FlintMineModel", name := "knock", desc := "(I)I" } : Jvm.MethodName) prog_24_method_34_code (5 : Nat) (Option.some Jvm.ClassFile.FieldType.int)) ∈ lw_all := lw_g (lw_at lw_m9 61 rfl) rfl
theorem q2059 : (Jvm.Cond.methodLink "FlintMineModel" (126 : Nat) ({ cls := "FlintMineModel", name := "otherShaftBeside", desc := "(II)I" } : Jvm.MethodName)) ∈ lw_all := lw_g (lw_at lw_m9 62 rfl) rfl
theorem q2060 : (Jvm.Cond.privateMethod ({ cls := "FlintMineModel", name := "otherShaftBeside", desc := "(II)I" } : Jvm.MethodName)) ∈ lw_tbl := lw_at lw_m9 63 rfl
theorem q2061 : (Jvm.Cond.instanceMethod ({ cls := "FlintMineModel", name := "otherShaftBeside", desc := "(II)I" } : Jvm.MethodName)) ∈ lw_all := lw_g (lw_at lw_m9 64 rfl) rfl
theorem q2062 : (Jvm.Cond.code ({ cls := "FlintMineModel", name := "otherShaftBeside", desc := "(II)I" } : Jvm.MethodName) prog_24_method_16_code (4 : Nat) (Option.some Jvm.ClassFile.FieldType.int)) ∈ lw_all := lw_g (lw_at lw_m9 65 rfl) rfl
theorem q2063 : (Jvm.Cond.methodLink "FlintMineModel" (78 : Nat) ({ cls := "FlintMineModel", name := "isNextTo", desc := "(II)Z" } : Jvm.MethodName)) ∈ lw_all := lw_g (lw_at lw_m9 66 rfl) rfl
theorem q2064 : (Jvm.Cond.privateMethod ({ cls := "FlintMineModel", name := "isNextTo", desc := "(II)Z" } : Jvm.MethodName)) ∈ lw_tbl := lw_at lw_m9 67 rfl
theorem q2065 : (Jvm.Cond.instanceMethod ({ cls := "FlintMineModel", name := "isNextTo", desc := "(II)Z" } : Jvm.MethodName)) ∈ lw_all := lw_g (lw_at lw_m9 68 rfl) rfl
theorem q2066 : (Jvm.Cond.code ({ cls := "FlintMineModel", name := "isNextTo", desc := "(II)Z" } : Jvm.MethodName) prog_24_method_15_code (5 : Nat) (Option.some Jvm.ClassFile.FieldType.boolean)) ∈ lw_all := lw_g (lw_at lw_m9 69 rfl) rfl
theorem q2067 : (Jvm.Cond.methodLink "FlintMineModel" (74 : Nat) ({ cls := "FlintMineModel", name := "isOpenOf", desc := "(II)Z" } : Jvm.MethodName)) ∈ lw_all := lw_g (lw_at lw_m9 70 rfl) rfl
theorem q2068 : (Jvm.Cond.privateMethod ({ cls := "FlintMineModel", name := "isOpenOf", desc := "(II)Z" } : Jvm.MethodName)) ∈ lw_tbl := lw_at lw_m9 71 rfl
theorem q2069 : (Jvm.Cond.instanceMethod ({ cls := "FlintMineModel", name := "isOpenOf", desc := "(II)Z" } : Jvm.MethodName)) ∈ lw_all := lw_g (lw_at lw_m9 72 rfl) rfl
theorem q2070 : (Jvm.Cond.code ({ cls := "FlintMineModel", name := "isOpenOf", desc := "(II)Z" } : Jvm.MethodName) prog_24_method_12_code (3 : Nat) (Option.some Jvm.ClassFile.FieldType.boolean)) ∈ lw_all := lw_g (lw_at lw_m9 73 rfl) rfl
theorem q2072 : (Jvm.Cond.instanceMethod ({ cls := "FlintMineModel", name := "sink", desc := "(I)I" } : Jvm.MethodName)) ∈ lw_all := lw_g (lw_at lw_m9 75 rfl) rfl
theorem q2073 : (Jvm.Cond.selects "FlintMineModel" ({ cls := "FlintMineModel", name := "sink", desc := "(I)I" } : Jvm.MethodName) ({ cls := "FlintMineModel", name := "sink", desc := "(I)I" } : Jvm.MethodName)) ∈ lw_all := lw_g (lw_at lw_m9 76 rfl) rfl
theorem q2074 : (Jvm.Cond.code ({ cls := "FlintMineModel", name := "sink", desc := "(I)I" } : Jvm.MethodName) prog_24_method_39_code (3 : Nat) (Option.some Jvm.ClassFile.FieldType.int)) ∈ lw_all := lw_g (lw_at lw_m9 77 rfl) rfl
theorem q2075 : (Jvm.Cond.methodLink "FlintMineModel" (136 : Nat) ({ cls := "FlintMineModel", name := "isBesideOther", desc := "(II)Z" } : Jvm.MethodName)) ∈ lw_all := lw_g (lw_at lw_m9 78 rfl) rfl
theorem q2076 : (Jvm.Cond.privateMethod ({ cls := "FlintMineModel", name := "isBesideOther", desc := "(II)Z" } : Jvm.MethodName)) ∈ lw_tbl := lw_at lw_m9 79 rfl
theorem q2077 : (Jvm.Cond.instanceMethod ({ cls := "FlintMineModel", name := "isBesideOther", desc := "(II)Z" } : Jvm.MethodName)) ∈ lw_all := lw_g (lw_at lw_m9 80 rfl) rfl
theorem q2078 : (Jvm.Cond.code ({ cls := "FlintMineModel", name := "isBesideOther", desc := "(II)Z" } : Jvm.MethodName) prog_24_method_38_code (4 : Nat) (Option.some Jvm.ClassFile.FieldType.boolean)) ∈ lw_all := lw_g (lw_at lw_m9 81 rfl) rfl
theorem q2079 : (Jvm.Cond.methodLink "FlintMineModel" (139 : Nat) ({ cls := "FlintMineModel", name := "isTooHard", desc := "(I)Z" } : Jvm.MethodName)) ∈ lw_all := lw_g (lw_at lw_m9 82 rfl) rfl
theorem q2080 : (Jvm.Cond.privateMethod ({ cls := "FlintMineModel", name := "isTooHard", desc := "(I)Z" } : Jvm.MethodName)) ∈ lw_tbl := lw_at lw_m9 83 rfl
theorem q2081 : (Jvm.Cond.instanceMethod ({ cls := "FlintMineModel", name := "isTooHard", desc := "(I)Z" } : Jvm.MethodName)) ∈ lw_all := lw_g (lw_at lw_m9 84 rfl) rfl
theorem q2082 : (Jvm.Cond.code ({ cls := "FlintMineModel", name := "isTooHard", desc := "(I)Z" } : Jvm.MethodName) prog_24_method_37_code (2 : Nat) (Option.some Jvm.ClassFile.FieldType.boolean)) ∈ lw_all := lw_g (lw_at lw_m9 85 rfl) rfl
theorem q2083 : (Jvm.Cond.methodLink "FlintMineModel" (129 : Nat) ({ cls := "FlintMineModel", name := "pickFor", desc := "(I)I" } : Jvm.MethodName)) ∈ lw_all := lw_g (lw_at lw_m9 86 rfl) rfl
theorem q2084 : (Jvm.Cond.privateMethod ({ cls := "FlintMineModel", name := "pickFor", desc := "(I)I" } : Jvm.MethodName)) ∈ lw_tbl := lw_at lw_m9 87 rfl
theorem q2085 : (Jvm.Cond.instanceMethod ({ cls := "FlintMineModel", name := "pickFor", desc := "(I)I" } : Jvm.MethodName)) ∈ lw_all := lw_g (lw_at lw_m9 88 rfl) rfl
theorem q2086 : (Jvm.Cond.code ({ cls := "FlintMineModel", name := "pickFor", desc := "(I)I" } : Jvm.MethodName) prog_24_method_29_code (5 : Nat) (Option.some Jvm.ClassFile.FieldType.int)) ∈ lw_all := lw_g (lw_at lw_m9 89 rfl) rfl
theorem q2087 : (Jvm.Cond.methodLink "FlintMineModel" (142 : Nat) ({ cls := "FlintMineModel", name := "open", desc := "(II)V" } : Jvm.MethodName)) ∈ lw_all := lw_g (lw_at lw_m9 90 rfl) rfl
theorem q2088 : (Jvm.Cond.privateMethod ({ cls := "FlintMineModel", name := "open", desc := "(II)V" } : Jvm.MethodName)) ∈ lw_tbl := lw_at lw_m9 91 rfl
theorem q2089 : (Jvm.Cond.instanceMethod ({ cls := "FlintMineModel", name := "open", desc := "(II)V" } : Jvm.MethodName)) ∈ lw_all := lw_g (lw_at lw_m9 92 rfl) rfl
theorem q2090 : (Jvm.Cond.code ({ cls := "FlintMineModel", name := "open", desc := "(II)V" } : Jvm.MethodName) prog_24_method_36_code (4 : Nat) (Option.none : Option Jvm.ClassFile.FieldType)) ∈ lw_all := lw_g (lw_at lw_m9 93 rfl) rfl
theorem q2091 : (Jvm.Cond.methodLink "FlintMineModel" (132 : Nat) ({ cls := "FlintMineModel", name := "strike", desc := "(II)V" } : Jvm.MethodName)) ∈ lw_all := lw_g (lw_at lw_m9 94 rfl) rfl
theorem q2092 : (Jvm.Cond.privateMethod ({ cls := "FlintMineModel", name := "strike", desc := "(II)V" } : Jvm.MethodName)) ∈ lw_tbl := lw_at lw_m9 95 rfl
theorem q2093 : (Jvm.Cond.instanceMethod ({ cls := "FlintMineModel", name := "strike", desc := "(II)V" } : Jvm.MethodName)) ∈ lw_all := lw_g (lw_at lw_m9 96 rfl) rfl
theorem q2094 : (Jvm.Cond.code ({ cls := "FlintMineModel", name := "strike", desc := "(II)V" } : Jvm.MethodName) prog_24_method_30_code (4 : Nat) (Option.none : Option Jvm.ClassFile.FieldType)) ∈ lw_all := lw_g (lw_at lw_m9 97 rfl) rfl
theorem q2096 : (Jvm.Cond.instanceMethod ({ cls := "FlintMineModel", name := "dig", desc := "(IIZ)I" } : Jvm.MethodName)) ∈ lw_all := lw_g (lw_at lw_m9 99 rfl) rfl
theorem q2097 : (Jvm.Cond.selects "FlintMineModel" ({ cls := "FlintMineModel", name := "dig", desc := "(IIZ)I" } : Jvm.MethodName) ({ cls := "FlintMineModel", name := "dig", desc := "(IIZ)I" } : Jvm.MethodName)) ∈ lw_all := lw_g (lw_at lw_m9 100 rfl) rfl
theorem q2098 : (Jvm.Cond.code ({ cls := "FlintMineModel", name := "dig", desc := "(IIZ)I" } : Jvm.MethodName) prog_24_method_42_code (4 : Nat) (Option.some Jvm.ClassFile.FieldType.int)) ∈ lw_all := lw_g (lw_at lw_m9 101 rfl) rfl
theorem q2099 : (Jvm.Cond.methodLink "FlintMineModel" (148 : Nat) ({ cls := "FlintMineModel", name := "isShaft", desc := "(I)Z" } : Jvm.MethodName)) ∈ lw_all := lw_g (lw_at lw_m9 102 rfl) rfl
theorem q2100 : (Jvm.Cond.privateMethod ({ cls := "FlintMineModel", name := "isShaft", desc := "(I)Z" } : Jvm.MethodName)) ∈ lw_tbl := lw_at lw_m9 103 rfl
theorem q2101 : (Jvm.Cond.instanceMethod ({ cls := "FlintMineModel", name := "isShaft", desc := "(I)Z" } : Jvm.MethodName)) ∈ lw_all := lw_g (lw_at lw_m9 104 rfl) rfl
theorem q2102 : (Jvm.Cond.code ({ cls := "FlintMineModel", name := "isShaft", desc := "(I)Z" } : Jvm.MethodName) prog_24_method_35_code (2 : Nat) (Option.some Jvm.ClassFile.FieldType.boolean)) ∈ lw_all := lw_g (lw_at lw_m9 105 rfl) rfl
theorem q2103 : (Jvm.Cond.methodLink "FlintMineModel" (151 : Nat) ({ cls := "FlintMineModel", name := "isDigRefused", desc := "(IIZ)Z" } : Jvm.MethodName)) ∈ lw_all := lw_g (lw_at lw_m9 106 rfl) rfl
theorem q2104 : (Jvm.Cond.privateMethod ({ cls := "FlintMineModel", name := "isDigRefused", desc := "(IIZ)Z" } : Jvm.MethodName)) ∈ lw_tbl := lw_at lw_m9 107 rfl
theorem q2105 : (Jvm.Cond.instanceMethod ({ cls := "FlintMineModel", name := "isDigRefused", desc := "(IIZ)Z" } : Jvm.MethodName)) ∈ lw_all := lw_g (lw_at lw_m9 108 rfl) rfl
theorem q2106 : (Jvm.Cond.code ({ cls := "FlintMineModel", name := "isDigRefused", desc := "(IIZ)Z" } : Jvm.MethodName) prog_24_method_41_code (4 : Nat) (Option.some Jvm.ClassFile.FieldType.boolean)) ∈ lw_all := lw_g (lw_at lw_m9 109 rfl) rfl
theorem q2107 : (Jvm.Cond.methodLink "FlintMineModel" (145 : Nat) ({ cls := "FlintMineModel", name := "isSpanTooLong", desc := "(I)Z" } : Jvm.MethodName)) ∈ lw_all := lw_g (lw_at lw_m9 110 rfl) rfl
theorem q2108 : (Jvm.Cond.privateMethod ({ cls := "FlintMineModel", name := "isSpanTooLong", desc := "(I)Z" } : Jvm.MethodName)) ∈ lw_tbl := lw_at lw_m9 111 rfl
theorem q2109 : (Jvm.Cond.instanceMethod ({ cls := "FlintMineModel", name := "isSpanTooLong", desc := "(I)Z" } : Jvm.MethodName)) ∈ lw_all := lw_g (lw_at lw_m9 112 rfl) rfl
theorem q2110 : (Jvm.Cond.code ({ cls := "FlintMineModel", name := "isSpanTooLong", desc := "(I)Z" } : Jvm.MethodName) prog_24_method_40_code (3 : Nat) (Option.some Jvm.ClassFile.FieldType.boolean)) ∈ lw_all := lw_g (lw_at lw_m9 113 rfl) rfl
theorem q2112 : (Jvm.Cond.instanceMethod ({ cls := "FlintMineModel", name := "prop", desc := "(I)I" } : Jvm.MethodName)) ∈ lw_all := lw_g (lw_at lw_m9 115 rfl) rfl
theorem q2113 : (Jvm.Cond.selects "FlintMineModel" ({ cls := "FlintMineModel", name := "prop", desc := "(I)I" } : Jvm.MethodName) ({ cls := "FlintMineModel", name := "prop", desc := "(I)I" } : Jvm.MethodName)) ∈ lw_all := lw_g (lw_at lw_m9 116 rfl) rfl
theorem q2114 : (Jvm.Cond.code ({ cls := "FlintMineModel", name := "prop", desc := "(I)I" } : Jvm.MethodName) prog_24_method_43_code (2 : Nat) (Option.some Jvm.ClassFile.FieldType.int)) ∈ lw_all := lw_g (lw_at lw_m9 117 rfl) rfl
theorem q2116 : (Jvm.Cond.instanceMethod ({ cls := "FlintMineModel", name := "unprop", desc := "(I)I" } : Jvm.MethodName)) ∈ lw_all := lw_g (lw_at lw_m9 119 rfl) rfl
theorem q2117 : (Jvm.Cond.selects "FlintMineModel" ({ cls := "FlintMineModel", name := "unprop", desc := "(I)I" } : Jvm.MethodName) ({ cls := "FlintMineModel", name := "unprop", desc := "(I)I" } : Jvm.MethodName)) ∈ lw_all := lw_g (lw_at lw_m9 120 rfl) rfl
theorem q2118 : (Jvm.Cond.code ({ cls := "FlintMineModel", name := "unprop", desc := "(I)I" } : Jvm.MethodName) prog_24_method_44_code (2 : Nat) (Option.some Jvm.ClassFile.FieldType.int)) ∈ lw_all := lw_g (lw_at lw_m9 121 rfl) rfl
theorem q2120 : (Jvm.Cond.instanceMethod ({ cls := "FlintMineModel", name := "close", desc := "(I)I" } : Jvm.MethodName)) ∈ lw_all := lw_g (lw_at lw_m9 123 rfl) rfl
theorem q2121 : (Jvm.Cond.selects "FlintMineModel" ({ cls := "FlintMineModel", name := "close", desc := "(I)I" } : Jvm.MethodName) ({ cls := "FlintMineModel", name := "close", desc := "(I)I" } : Jvm.MethodName)) ∈ lw_all := lw_g (lw_at lw_m9 124 rfl) rfl
theorem q2122 : (Jvm.Cond.code ({ cls := "FlintMineModel", name := "close", desc := "(I)I" } : Jvm.MethodName) prog_24_method_46_code (4 : Nat) (Option.some Jvm.ClassFile.FieldType.int)) ∈ lw_all := lw_g (lw_at lw_m9 125 rfl) rfl
theorem q2123 : (Jvm.Cond.methodLink "FlintMineModel" (155 : Nat) ({ cls := "FlintMineModel", name := "openCells", desc := "(I)I" } : Jvm.MethodName)) ∈ lw_all := lw_g (lw_at lw_m9 126 rfl) rfl
theorem q2124 : (Jvm.Cond.privateMethod ({ cls := "FlintMineModel", name := "openCells", desc := "(I)I" } : Jvm.MethodName)) ∈ lw_tbl := lw_at lw_m9 127 rfl
theorem q2125 : (Jvm.Cond.instanceMethod ({ cls := "FlintMineModel", name := "openCells", desc := "(I)I" } : Jvm.MethodName)) ∈ lw_all := lw_g (lw_at lw_m9 128 rfl) rfl
theorem q2126 : (Jvm.Cond.code ({ cls := "FlintMineModel", name := "openCells", desc := "(I)I" } : Jvm.MethodName) prog_24_method_45_code (4 : Nat) (Option.some Jvm.ClassFile.FieldType.int)) ∈ lw_all := lw_g (lw_at lw_m9 129 rfl) rfl
theorem q2128 : (Jvm.Cond.instanceMethod ({ cls := "FlintMineModel", name := "shaft", desc := "(II)I" } : Jvm.MethodName)) ∈ lw_all := lw_g (lw_at lw_m9 131 rfl) rfl
theorem q2129 : (Jvm.Cond.selects "FlintMineModel" ({ cls := "FlintMineModel", name := "shaft", desc := "(II)I" } : Jvm.MethodName) ({ cls := "FlintMineModel", name := "shaft", desc := "(II)I" } : Jvm.MethodName)) ∈ lw_all := lw_g (lw_at lw_m9 132 rfl) rfl
theorem q2130 : (Jvm.Cond.code ({ cls := "FlintMineModel", name := "shaft", desc := "(II)I" } : Jvm.MethodName) prog_24_method_48_code (3 : Nat) (Option.some Jvm.ClassFile.FieldType.int)) ∈ lw_all := lw_g (lw_at lw_m9 133 rfl) rfl
theorem q2131 : (Jvm.Cond.methodLink "FlintMineModel" (158 : Nat) ({ cls := "FlintMineModel", name := "propsOf", desc := "(I)I" } : Jvm.MethodName)) ∈ lw_all := lw_g (lw_at lw_m9 134 rfl) rfl
theorem q2132 : (Jvm.Cond.privateMethod ({ cls := "FlintMineModel", name := "propsOf", desc := "(I)I" } : Jvm.MethodName)) ∈ lw_tbl := lw_at lw_m9 135 rfl
theorem q2133 : (Jvm.Cond.instanceMethod ({ cls := "FlintMineModel", name := "propsOf", desc := "(I)I" } : Jvm.MethodName)) ∈ lw_all := lw_g (lw_at lw_m9 136 rfl) rfl
theorem q2134 : (Jvm.Cond.code ({ cls := "FlintMineModel", name := "propsOf", desc := "(I)I" } : Jvm.MethodName) prog_24_method_47_code (4 : Nat) (Option.some Jvm.ClassFile.FieldType.int)) ∈ lw_all := lw_g (lw_at lw_m9 137 rfl) rfl
theorem q2135 : (Jvm.Cond.methodLink "FlintMineModel" (161 : Nat) ({ cls := "FlintMineModel", name := "countReached", desc := "(I)I" } : Jvm.MethodName)) ∈ lw_all := lw_g (lw_at lw_m9 138 rfl) rfl
theorem q2136 : (Jvm.Cond.privateMethod ({ cls := "FlintMineModel", name := "countReached", desc := "(I)I" } : Jvm.MethodName)) ∈ lw_tbl := lw_at lw_m9 139 rfl
theorem q2137 : (Jvm.Cond.instanceMethod ({ cls := "FlintMineModel", name := "countReached", desc := "(I)I" } : Jvm.MethodName)) ∈ lw_all := lw_g (lw_at lw_m9 140 rfl) rfl
theorem q2138 : (Jvm.Cond.code ({ cls := "FlintMineModel", name := "countReached", desc := "(I)I" } : Jvm.MethodName) prog_24_method_56_code (6 : Nat) (Option.some Jvm.ClassFile.FieldType.int)) ∈ lw_all := lw_g (lw_at lw_m9 141 rfl) rfl
theorem q2139 : (Jvm.Cond.methodLink "FlintMineModel" (170 : Nat) ({ cls := "FlintMineModel", name := "isFree", desc := "(II)Z" } : Jvm.MethodName)) ∈ lw_all := lw_g (lw_at lw_m9 142 rfl) rfl
theorem q2140 : (Jvm.Cond.privateMethod ({ cls := "FlintMineModel", name := "isFree", desc := "(II)Z" } : Jvm.MethodName)) ∈ lw_tbl := lw_at lw_m9 143 rfl
theorem q2141 : (Jvm.Cond.instanceMethod ({ cls := "FlintMineModel", name := "isFree", desc := "(II)Z" } : Jvm.MethodName)) ∈ lw_all := lw_g (lw_at lw_m9 144 rfl) rfl
theorem q2142 : (Jvm.Cond.code ({ cls := "FlintMineModel", name := "isFree", desc := "(II)Z" } : Jvm.MethodName) prog_24_method_52_code (3 : Nat) (Option.some Jvm.ClassFile.FieldType.boolean)) ∈ lw_all := lw_g (lw_at lw_m9 145 rfl) rfl
theorem q2144 : (Jvm.Cond.instanceMethod ({ cls := "FlintMineModel", name := "best", desc := "(I)I" } : Jvm.MethodName)) ∈ lw_all := lw_g (lw_at lw_m9 147 rfl) rfl
theorem q2145 : (Jvm.Cond.selects "FlintMineModel" ({ cls := "FlintMineModel", name := "best", desc := "(I)I" } : Jvm.MethodName) ({ cls := "FlintMineModel", name := "best", desc := "(I)I" } : Jvm.MethodName)) ∈ lw_all := lw_g (lw_at lw_m9 148 rfl) rfl
theorem q2146 : (Jvm.Cond.code ({ cls := "FlintMineModel", name := "best", desc := "(I)I" } : Jvm.MethodName) prog_24_method_51_code (4 : Nat) (Option.some Jvm.ClassFile.FieldType.int)) ∈ lw_all := lw_g (lw_at lw_m9 149 rfl) rfl
theorem q2147 : (Jvm.Cond.methodLink "FlintMineModel" (164 : Nat) ({ cls := "FlintMineModel", name := "isDiggable", desc := "(II)Z" } : Jvm.MethodName)) ∈ lw_all := lw_g (lw_at lw_m9 150 rfl) rfl
theorem q2148 : (Jvm.Cond.privateMethod ({ cls := "FlintMineModel", name := "isDiggable", desc := "(II)Z" } : Jvm.MethodName)) ∈ lw_tbl := lw_at lw_m9 151 rfl
theorem q2149 : (Jvm.Cond.instanceMethod ({ cls := "FlintMineModel", name := "isDiggable", desc := "(II)Z" } : Jvm.MethodName)) ∈ lw_all := lw_g (lw_at lw_m9 152 rfl) rfl
theorem q2150 : (Jvm.Cond.code ({ cls := "FlintMineModel", name := "isDiggable", desc := "(II)Z" } : Jvm.MethodName) prog_24_method_49_code (4 : Nat) (Option.some Jvm.ClassFile.FieldType.boolean)) ∈ lw_all := lw_g (lw_at lw_m9 153 rfl) rfl
theorem q2151 : (Jvm.Cond.methodLink "FlintMineModel" (167 : Nat) ({ cls := "FlintMineModel", name := "isBetter", desc := "(II)Z" } : Jvm.MethodName)) ∈ lw_all := lw_g (lw_at lw_m9 154 rfl) rfl
theorem q2152 : (Jvm.Cond.privateMethod ({ cls := "FlintMineModel", name := "isBetter", desc := "(II)Z" } : Jvm.MethodName)) ∈ lw_tbl := lw_at lw_m9 155 rfl
theorem q2153 : (Jvm.Cond.instanceMethod ({ cls := "FlintMineModel", name := "isBetter", desc := "(II)Z" } : Jvm.MethodName)) ∈ lw_all := lw_g (lw_at lw_m9 156 rfl) rfl
theorem q2154 : (Jvm.Cond.code ({ cls := "FlintMineModel", name := "isBetter", desc := "(II)Z" } : Jvm.MethodName) prog_24_method_50_code (4 : Nat) (Option.some Jvm.ClassFile.FieldType.boolean)) ∈ lw_all := lw_g (lw_at lw_m9 157 rfl) rfl
theorem q2156 : (Jvm.Cond.instanceMethod ({ cls := "FlintMineModel", name := "way", desc := "(II)I" } : Jvm.MethodName)) ∈ lw_all := lw_g (lw_at lw_m9 159 rfl) rfl
theorem q2157 : (Jvm.Cond.selects "FlintMineModel" ({ cls := "FlintMineModel", name := "way", desc := "(II)I" } : Jvm.MethodName) ({ cls := "FlintMineModel", name := "way", desc := "(II)I" } : Jvm.MethodName)) ∈ lw_all := lw_g (lw_at lw_m9 160 rfl) rfl
theorem q2158 : (Jvm.Cond.code ({ cls := "FlintMineModel", name := "way", desc := "(II)I" } : Jvm.MethodName) prog_24_method_58_code (4 : Nat) (Option.some Jvm.ClassFile.FieldType.int)) ∈ lw_all := lw_g (lw_at lw_m9 161 rfl) rfl
theorem q2159 : (Jvm.Cond.methodLink "FlintMineModel" (179 : Nat) ({ cls := "FlintMineModel", name := "wayFor", desc := "(II)I" } : Jvm.MethodName)) ∈ lw_all := lw_g (lw_at lw_m9 162 rfl) rfl
theorem q2160 : (Jvm.Cond.privateMethod ({ cls := "FlintMineModel", name := "wayFor", desc := "(II)I" } : Jvm.MethodName)) ∈ lw_tbl := lw_at lw_m9 163 rfl
theorem q2161 : (Jvm.Cond.instanceMethod ({ cls := "FlintMineModel", name := "wayFor", desc := "(II)I" } : Jvm.MethodName)) ∈ lw_all := lw_g (lw_at lw_m9 164 rfl) rfl
theorem q2162 : (Jvm.Cond.code ({ cls := "FlintMineModel", name := "wayFor", desc := "(II)I" } : Jvm.MethodName) prog_24_method_57_code (4 : Nat) (Option.some Jvm.ClassFile.FieldType.int)) ∈ lw_all := lw_g (lw_at lw_m9 165 rfl) rfl
theorem q2163 : (Jvm.Cond.methodLink "FlintMineModel" (173 : Nat) ({ cls := "FlintMineModel", name := "findFar", desc := "(II)V" } : Jvm.MethodName)) ∈ lw_all := lw_g (lw_at lw_m9 166 rfl) rfl
theorem q2164 : (Jvm.Cond.privateMethod ({ cls := "FlintMineModel", name := "findFar", desc := "(II)V" } : Jvm.MethodName)) ∈ lw_tbl := lw_at lw_m9 167 rfl
theorem q2165 : (Jvm.Cond.instanceMethod ({ cls := "FlintMineModel", name := "findFar", desc := "(II)V" } : Jvm.MethodName)) ∈ lw_all := lw_g (lw_at lw_m9 168 rfl) rfl
theorem q2166 : (Jvm.Cond.code ({ cls := "FlintMineModel", name := "findFar", desc := "(II)V" } : Jvm.MethodName) prog_24_method_53_code (7 : Nat) (Option.none : Option Jvm.ClassFile.FieldType)) ∈ lw_all := lw_g (lw_at lw_m9 169 rfl) rfl
theorem q2167 : (Jvm.Cond.methodLink "FlintMineModel" (176 : Nat) ({ cls := "FlintMineModel", name := "firstOfWay", desc := "(I)I" } : Jvm.MethodName)) ∈ lw_all := lw_g (lw_at lw_m9 170 rfl) rfl
theorem q2168 : (Jvm.Cond.privateMethod ({ cls := "FlintMineModel", name := "firstOfWay", desc := "(I)I" } : Jvm.MethodName)) ∈ lw_tbl := lw_at lw_m9 171 rfl
theorem q2169 : (Jvm.Cond.instanceMethod ({ cls := "FlintMineModel", name := "firstOfWay", desc := "(I)I" } : Jvm.MethodName)) ∈ lw_all := lw_g (lw_at lw_m9 172 rfl) rfl
theorem q2170 : (Jvm.Cond.code ({ cls := "FlintMineModel", name := "firstOfWay", desc := "(I)I" } : Jvm.MethodName) prog_24_method_54_code (5 : Nat) (Option.some Jvm.ClassFile.FieldType.int)) ∈ lw_all := lw_g (lw_at lw_m9 173 rfl) rfl
theorem q2172 : (Jvm.Cond.instanceMethod ({ cls := "FlintMineModel", name := "wayAgain", desc := "(II)I" } : Jvm.MethodName)) ∈ lw_all := lw_g (lw_at lw_m9 175 rfl) rfl
theorem q2173 : (Jvm.Cond.selects "FlintMineModel" ({ cls := "FlintMineModel", name := "wayAgain", desc := "(II)I" } : Jvm.MethodName) ({ cls := "FlintMineModel", name := "wayAgain", desc := "(II)I" } : Jvm.MethodName)) ∈ lw_all := lw_g (lw_at lw_m9 176 rfl) rfl
theorem q2174 : (Jvm.Cond.code ({ cls := "FlintMineModel", name := "wayAgain", desc := "(II)I" } : Jvm.MethodName) prog_24_method_59_code (3 : Nat) (Option.some Jvm.ClassFile.FieldType.int)) ∈ lw_all := lw_g (lw_at lw_m9 177 rfl) rfl
theorem q2175 : (Jvm.Cond.methodLink "FlintMineModel" (182 : Nat) ({ cls := "FlintMineModel", name := "way", desc := "(II)I" } : Jvm.MethodName)) ∈ lw_all := lw_g (lw_at lw_m9 178 rfl) rfl
theorem q2177 : (Jvm.Cond.instanceMethod ({ cls := "FlintMineModel", name := "step", desc := "(III)I" } : Jvm.MethodName)) ∈ lw_all := lw_g (lw_at lw_m9 180 rfl) rfl
theorem q2178 : (Jvm.Cond.selects "FlintMineModel" ({ cls := "FlintMineModel", name := "step", desc := "(III)I" } : Jvm.MethodName) ({ cls := "FlintMineModel", name := "step", desc := "(III)I" } : Jvm.MethodName)) ∈ lw_all := lw_g (lw_at lw_m9 181 rfl) rfl
theorem q2179 : (Jvm.Cond.code ({ cls := "FlintMineModel", name := "step", desc := "(III)I" } : Jvm.MethodName) prog_24_method_60_code (7 : Nat) (Option.some Jvm.ClassFile.FieldType.int)) ∈ lw_all := lw_g (lw_at lw_m9 182 rfl) rfl
theorem q2180 : (Jvm.Cond.methodLink "FlintMineModel" (185 : Nat) ({ cls := "FlintMineModel", name := "nextOfWay", desc := "(I)I" } : Jvm.MethodName)) ∈ lw_all := lw_g (lw_at lw_m9 183 rfl) rfl
theorem q2181 : (Jvm.Cond.privateMethod ({ cls := "FlintMineModel", name := "nextOfWay", desc := "(I)I" } : Jvm.MethodName)) ∈ lw_tbl := lw_at lw_m9 184 rfl
theorem q2182 : (Jvm.Cond.instanceMethod ({ cls := "FlintMineModel", name := "nextOfWay", desc := "(I)I" } : Jvm.MethodName)) ∈ lw_all := lw_g (lw_at lw_m9 185 rfl) rfl
theorem q2183 : (Jvm.Cond.code ({ cls := "FlintMineModel", name := "nextOfWay", desc := "(I)I" } : Jvm.MethodName) prog_24_method_55_code (5 : Nat) (Option.some Jvm.ClassFile.FieldType.int)) ∈ lw_all := lw_g (lw_at lw_m9 186 rfl) rfl
theorem q2185 : (Jvm.Cond.instanceMethod ({ cls := "FlintMineModel", name := "strokes", desc := "(II)I" } : Jvm.MethodName)) ∈ lw_all := lw_g (lw_at lw_m9 188 rfl) rfl
theorem q2186 : (Jvm.Cond.selects "FlintMineModel" ({ cls := "FlintMineModel", name := "strokes", desc := "(II)I" } : Jvm.MethodName) ({ cls := "FlintMineModel", name := "strokes", desc := "(II)I" } : Jvm.MethodName)) ∈ lw_all := lw_g (lw_at lw_m9 189 rfl) rfl
theorem q2187 : (Jvm.Cond.code ({ cls := "FlintMineModel", name := "strokes", desc := "(II)I" } : Jvm.MethodName) prog_24_method_61_code (5 : Nat) (Option.some Jvm.ClassFile.FieldType.int)) ∈ lw_all := lw_g (lw_at lw_m9 190 rfl) rfl
theorem q2189 : (Jvm.Cond.instanceMethod ({ cls := "FlintMineModel", name := "number", desc := "(I)I" } : Jvm.MethodName)) ∈ lw_all := lw_g (lw_at lw_m9 192 rfl) rfl
theorem q2190 : (Jvm.Cond.selects "FlintMineModel" ({ cls := "FlintMineModel", name := "number", desc := "(I)I" } : Jvm.MethodName) ({ cls := "FlintMineModel", name := "number", desc := "(I)I" } : Jvm.MethodName)) ∈ lw_all := lw_g (lw_at lw_m9 193 rfl) rfl
theorem q2191 : (Jvm.Cond.code ({ cls := "FlintMineModel", name := "number", desc := "(I)I" } : Jvm.MethodName) prog_24_method_65_code (2 : Nat) (Option.some Jvm.ClassFile.FieldType.int)) ∈ lw_all := lw_g (lw_at lw_m9 194 rfl) rfl
theorem q2192 : (Jvm.Cond.methodLink "FlintMineModel" (188 : Nat) ({ cls := "FlintMineModel", name := "sumOf", desc := "(II)I" } : Jvm.MethodName)) ∈ lw_all := lw_g (lw_at lw_m9 195 rfl) rfl
theorem q2193 : (Jvm.Cond.privateMethod ({ cls := "FlintMineModel", name := "sumOf", desc := "(II)I" } : Jvm.MethodName)) ∈ lw_tbl := lw_at lw_m9 196 rfl
theorem q2194 : (Jvm.Cond.instanceMethod ({ cls := "FlintMineModel", name := "sumOf", desc := "(II)I" } : Jvm.MethodName)) ∈ lw_all := lw_g (lw_at lw_m9 197 rfl) rfl
theorem q2195 : (Jvm.Cond.code ({ cls := "FlintMineModel", name := "sumOf", desc := "(II)I" } : Jvm.MethodName) prog_24_method_63_code (5 : Nat) (Option.some Jvm.ClassFile.FieldType.int)) ∈ lw_all := lw_g (lw_at lw_m9 198 rfl) rfl
theorem q2196 : (Jvm.Cond.methodLink "FlintMineModel" (191 : Nat) ({ cls := "FlintMineModel", name := "countStates", desc := "(I)I" } : Jvm.MethodName)) ∈ lw_all := lw_g (lw_at lw_m9 199 rfl) rfl
theorem q2197 : (Jvm.Cond.privateMethod ({ cls := "FlintMineModel", name := "countStates", desc := "(I)I" } : Jvm.MethodName)) ∈ lw_tbl := lw_at lw_m9 200 rfl
theorem q2198 : (Jvm.Cond.instanceMethod ({ cls := "FlintMineModel", name := "countStates", desc := "(I)I" } : Jvm.MethodName)) ∈ lw_all := lw_g (lw_at lw_m9 201 rfl) rfl
theorem q2199 : (Jvm.Cond.code ({ cls := "FlintMineModel", name := "countStates", desc := "(I)I" } : Jvm.MethodName) prog_24_method_62_code (4 : Nat) (Option.some Jvm.ClassFile.FieldType.int)) ∈ lw_all := lw_g (lw_at lw_m9 202 rfl) rfl
theorem q2200 : (Jvm.Cond.methodLink "FlintMineModel" (194 : Nat) ({ cls := "FlintMineModel", name := "nodulesInChalk", desc := "()I" } : Jvm.MethodName)) ∈ lw_all := lw_g (lw_at lw_m9 203 rfl) rfl
theorem q2201 : (Jvm.Cond.privateMethod ({ cls := "FlintMineModel", name := "nodulesInChalk", desc := "()I" } : Jvm.MethodName)) ∈ lw_tbl := lw_at lw_m9 204 rfl
theorem q2202 : (Jvm.Cond.instanceMethod ({ cls := "FlintMineModel", name := "nodulesInChalk", desc := "()I" } : Jvm.MethodName)) ∈ lw_all := lw_g (lw_at lw_m9 205 rfl) rfl
theorem q2203 : (Jvm.Cond.code ({ cls := "FlintMineModel", name := "nodulesInChalk", desc := "()I" } : Jvm.MethodName) prog_24_method_64_code (3 : Nat) (Option.some Jvm.ClassFile.FieldType.int)) ∈ lw_all := lw_g (lw_at lw_m9 206 rfl) rfl
theorem q2205 : (Jvm.Cond.instanceMethod ({ cls := "FlintMineModel", name := "perStroke", desc := "()D" } : Jvm.MethodName)) ∈ lw_all := lw_g (lw_at lw_m9 208 rfl) rfl
theorem q2206 : (Jvm.Cond.selects "FlintMineModel" ({ cls := "FlintMineModel", name := "perStroke", desc := "()D" } : Jvm.MethodName) ({ cls := "FlintMineModel", name := "perStroke", desc := "()D" } : Jvm.MethodName)) ∈ lw_all := lw_g (lw_at lw_m9 209 rfl) rfl
theorem q2207 : (Jvm.Cond.code ({ cls := "FlintMineModel", name := "perStroke", desc := "()D" } : Jvm.MethodName) prog_24_method_66_code (1 : Nat) (Option.some Jvm.ClassFile.FieldType.double)) ∈ lw_all := lw_g (lw_at lw_m9 210 rfl) rfl
theorem q2209 : (Jvm.Cond.instanceMethod ({ cls := "FlintMineModel", name := "chalk", desc := "()F" } : Jvm.MethodName)) ∈ lw_all := lw_g (lw_at lw_m9 212 rfl) rfl
theorem q2210 : (Jvm.Cond.selects "FlintMineModel" ({ cls := "FlintMineModel", name := "chalk", desc := "()F" } : Jvm.MethodName) ({ cls := "FlintMineModel", name := "chalk", desc := "()F" } : Jvm.MethodName)) ∈ lw_all := lw_g (lw_at lw_m9 213 rfl) rfl
theorem q2211 : (Jvm.Cond.code ({ cls := "FlintMineModel", name := "chalk", desc := "()F" } : Jvm.MethodName) prog_24_method_67_code (1 : Nat) (Option.some Jvm.ClassFile.FieldType.float)) ∈ lw_all := lw_g (lw_at lw_m9 214 rfl) rfl
theorem q2212 : (Jvm.Cond.constantFloat "FlintMineModel" (200 : Nat) (1115684864 : UInt32)) ∈ lw_all := lw_g (lw_at lw_m9 215 rfl) rfl
theorem q2214 : (Jvm.Cond.instanceMethod ({ cls := "FlintMineModel", name := "feed", desc := "(C)I" } : Jvm.MethodName)) ∈ lw_all := lw_g (lw_at lw_m9 217 rfl) rfl
theorem q2215 : (Jvm.Cond.selects "FlintMineModel" ({ cls := "FlintMineModel", name := "feed", desc := "(C)I" } : Jvm.MethodName) ({ cls := "FlintMineModel", name := "feed", desc := "(C)I" } : Jvm.MethodName)) ∈ lw_all := lw_g (lw_at lw_m9 218 rfl) rfl
theorem q2216 : (Jvm.Cond.code ({ cls := "FlintMineModel", name := "feed", desc := "(C)I" } : Jvm.MethodName) prog_24_method_68_code (2 : Nat) (Option.some Jvm.ClassFile.FieldType.int)) ∈ lw_all := lw_g (lw_at lw_m9 219 rfl) rfl
theorem q2218 : (Jvm.Cond.instanceMethod ({ cls := "FlintMineModel", name := "read", desc := "()I" } : Jvm.MethodName)) ∈ lw_all := lw_g (lw_at lw_m9 221 rfl) rfl
theorem q2219 : (Jvm.Cond.selects "FlintMineModel" ({ cls := "FlintMineModel", name := "read", desc := "()I" } : Jvm.MethodName) ({ cls := "FlintMineModel", name := "read", desc := "()I" } : Jvm.MethodName)) ∈ lw_all := lw_g (lw_at lw_m9 222 rfl) rfl
theorem q2220 : (Jvm.Cond.code ({ cls := "FlintMineModel", name := "read", desc := "()I" } : Jvm.MethodName) prog_24_method_75_code (4 : Nat) (Option.some Jvm.ClassFile.FieldType.int)) ∈ lw_all := lw_g (lw_at lw_m9 223 rfl) rfl
theorem q2221 : (Jvm.Cond.methodLink "FlintMineModel" (256 : Nat) ({ cls := "FlintMineModel", name := "countCommands", desc := "()I" } : Jvm.MethodName)) ∈ lw_all := lw_g (lw_at lw_m9 224 rfl) rfl
theorem q2222 : (Jvm.Cond.privateMethod ({ cls := "FlintMineModel", name := "countCommands", desc := "()I" } : Jvm.MethodName)) ∈ lw_tbl := lw_at lw_m9 225 rfl
theorem q2223 : (Jvm.Cond.instanceMethod ({ cls := "FlintMineModel", name := "countCommands", desc := "()I" } : Jvm.MethodName)) ∈ lw_all := lw_g (lw_at lw_m9 226 rfl) rfl
theorem q2224 : (Jvm.Cond.code ({ cls := "FlintMineModel", name := "countCommands", desc := "()I" } : Jvm.MethodName) prog_24_method_73_code (2 : Nat) (Option.some Jvm.ClassFile.FieldType.int)) ∈ lw_all := lw_g (lw_at lw_m9 227 rfl) rfl
theorem q2225 : (Jvm.Cond.methodLink "FlintMineModel" (231 : Nat) ({ cls := "FlintMineModel", name := "readCommand", desc := "()V" } : Jvm.MethodName)) ∈ lw_all := lw_g (lw_at lw_m9 228 rfl) rfl
theorem q2226 : (Jvm.Cond.privateMethod ({ cls := "FlintMineModel", name := "readCommand", desc := "()V" } : Jvm.MethodName)) ∈ lw_tbl := lw_at lw_m9 229 rfl
theorem q2227 : (Jvm.Cond.instanceMethod ({ cls := "FlintMineModel", name := "readCommand", desc := "()V" } : Jvm.MethodName)) ∈ lw_all := lw_g (lw_at lw_m9 230 rfl) rfl
theorem q2228 : (Jvm.Cond.code ({ cls := "FlintMineModel", name := "readCommand", desc := "()V" } : Jvm.MethodName) prog_24_method_72_code (1 : Nat) (Option.none : Option Jvm.ClassFile.FieldType)) ∈ lw_all := lw_g (lw_at lw_m9 231 rfl) rfl
theorem q2229 : (Jvm.Cond.methodLink "FlintMineModel" (215 : Nat) ({ cls := "FlintMineModel", name := "readNumber", desc := "()I" } : Jvm.MethodName)) ∈ lw_all := lw_g (lw_at lw_m9 232 rfl) rfl
theorem q2230 : (Jvm.Cond.privateMethod ({ cls := "FlintMineModel", name := "readNumber", desc := "()I" } : Jvm.MethodName)) ∈ lw_tbl := lw_at lw_m9 233 rfl
theorem q2231 : (Jvm.Cond.instanceMethod ({ cls := "FlintMineModel", name := "readNumber", desc := "()I" } : Jvm.MethodName)) ∈ lw_all := lw_g (lw_at lw_m9 234 rfl) rfl
theorem q2232 : (Jvm.Cond.code ({ cls := "FlintMineModel", name := "readNumber", desc := "()I" } : Jvm.MethodName) prog_24_method_71_code (3 : Nat) (Option.some Jvm.ClassFile.FieldType.int)) ∈ lw_all := lw_g (lw_at lw_m9 235 rfl) rfl
theorem q2233 : (Jvm.Cond.methodLink "FlintMineModel" (207 : Nat) ({ cls := "FlintMineModel", name := "sees", desc := "(CC)Z" } : Jvm.MethodName)) ∈ lw_all := lw_g (lw_at lw_m9 236 rfl) rfl
theorem q2234 : (Jvm.Cond.privateMethod ({ cls := "FlintMineModel", name := "sees", desc := "(CC)Z" } : Jvm.MethodName)) ∈ lw_tbl := lw_at lw_m9 237 rfl
theorem q2235 : (Jvm.Cond.instanceMethod ({ cls := "FlintMineModel", name := "sees", desc := "(CC)Z" } : Jvm.MethodName)) ∈ lw_all := lw_g (lw_at lw_m9 238 rfl) rfl
theorem q2236 : (Jvm.Cond.code ({ cls := "FlintMineModel", name := "sees", desc := "(CC)Z" } : Jvm.MethodName) prog_24_method_69_code (3 : Nat) (Option.some Jvm.ClassFile.FieldType.boolean)) ∈ lw_all := lw_g (lw_at lw_m9 239 rfl) rfl
theorem q2237 : (Jvm.Cond.methodLink "FlintMineModel" (224 : Nat) ({ cls := "FlintMineModel", name := "takes", desc := "(C)Z" } : Jvm.MethodName)) ∈ lw_all := lw_g (lw_at lw_m10 0 rfl) rfl
theorem q2238 : (Jvm.Cond.privateMethod ({ cls := "FlintMineModel", name := "takes", desc := "(C)Z" } : Jvm.MethodName)) ∈ lw_tbl := lw_at lw_m10 1 rfl
theorem q2239 : (Jvm.Cond.instanceMethod ({ cls := "FlintMineModel", name := "takes", desc := "(C)Z" } : Jvm.MethodName)) ∈ lw_all := lw_g (lw_at lw_m10 2 rfl) rfl
theorem q2240 : (Jvm.Cond.code ({ cls := "FlintMineModel", name := "takes", desc := "(C)Z" } : Jvm.MethodName) prog_24_method_70_code (3 : Nat) (Option.some Jvm.ClassFile.FieldType.boolean)) ∈ lw_all := lw_g (lw_at lw_m10 3 rfl) rfl
theorem q2241 : (Jvm.Cond.methodLink "FlintMineModel" (259 : Nat) ({ cls := "FlintMineModel", name := "carryOut", desc := "()V" } : Jvm.MethodName)) ∈ lw_all := lw_g (lw_at lw_m10 4 rfl) rfl
theorem q2242 : (Jvm.Cond.privateMethod ({ cls := "FlintMineModel", name := "carryOut", desc := "()V" } : Jvm.MethodName)) ∈ lw_tbl := lw_at lw_m10 5 rfl
theorem q2243 : (Jvm.Cond.instanceMethod ({ cls := "FlintMineModel", name := "carryOut", desc := "()V" } : Jvm.MethodName)) ∈ lw_all := lw_g (lw_at lw_m10 6 rfl) rfl
theorem q2244 : (Jvm.Cond.code ({ cls := "FlintMineModel", name := "carryOut", desc := "()V" } : Jvm.MethodName) prog_24_method_74_code (1 : Nat) (Option.none : Option Jvm.ClassFile.FieldType)) ∈ lw_all := lw_g (lw_at lw_m10 7 rfl) rfl
theorem q2245 : (Jvm.Cond.methodLink "FlintMineModel" (234 : Nat) ({ cls := "FlintMineModel", name := "sink", desc := "(I)I" } : Jvm.MethodName)) ∈ lw_all := lw_g (lw_at lw_m10 8 rfl) rfl
theorem q2246 : (Jvm.Cond.methodLink "FlintMineModel" (237 : Nat) ({ cls := "FlintMineModel", name := "dig", desc := "(IIZ)I" } : Jvm.MethodName)) ∈ lw_all := lw_g (lw_at lw_m10 9 rfl) rfl
theorem q2247 : (Jvm.Cond.methodLink "FlintMineModel" (241 : Nat) ({ cls := "FlintMineModel", name := "prop", desc := "(I)I" } : Jvm.MethodName)) ∈ lw_all := lw_g (lw_at lw_m10 10 rfl) rfl
theorem q2248 : (Jvm.Cond.methodLink "FlintMineModel" (244 : Nat) ({ cls := "FlintMineModel", name := "unprop", desc := "(I)I" } : Jvm.MethodName)) ∈ lw_all := lw_g (lw_at lw_m10 11 rfl) rfl
theorem q2249 : (Jvm.Cond.methodLink "FlintMineModel" (247 : Nat) ({ cls := "FlintMineModel", name := "close", desc := "(I)I" } : Jvm.MethodName)) ∈ lw_all := lw_g (lw_at lw_m10 12 rfl) rfl
theorem q2250 : (Jvm.Cond.methodLink "FlintMineModel" (250 : Nat) ({ cls := "FlintMineModel", name := "pick", desc := "(I)I" } : Jvm.MethodName)) ∈ lw_all := lw_g (lw_at lw_m10 13 rfl) rfl
theorem q2251 : (Jvm.Cond.methodLink "FlintMineModel" (253 : Nat) ({ cls := "FlintMineModel", name := "props", desc := "(I)I" } : Jvm.MethodName)) ∈ lw_all := lw_g (lw_at lw_m10 14 rfl) rfl
theorem q2253 : (Jvm.Cond.instanceMethod ({ cls := "FlintMineModel", name := "faultPosition", desc := "()I" } : Jvm.MethodName)) ∈ lw_all := lw_g (lw_at lw_m10 16 rfl) rfl
theorem q2254 : (Jvm.Cond.selects "FlintMineModel" ({ cls := "FlintMineModel", name := "faultPosition", desc := "()I" } : Jvm.MethodName) ({ cls := "FlintMineModel", name := "faultPosition", desc := "()I" } : Jvm.MethodName)) ∈ lw_all := lw_g (lw_at lw_m10 17 rfl) rfl
theorem q2255 : (Jvm.Cond.code ({ cls := "FlintMineModel", name := "faultPosition", desc := "()I" } : Jvm.MethodName) prog_24_method_76_code (1 : Nat) (Option.some Jvm.ClassFile.FieldType.int)) ∈ lw_all := lw_g (lw_at lw_m10 18 rfl) rfl
theorem q2257 : (Jvm.Cond.instanceMethod ({ cls := "FlintMineModel", name := "refusal", desc := "(Z)I" } : Jvm.MethodName)) ∈ lw_all := lw_g (lw_at lw_m10 20 rfl) rfl
theorem q2258 : (Jvm.Cond.selects "FlintMineModel" ({ cls := "FlintMineModel", name := "refusal", desc := "(Z)I" } : Jvm.MethodName) ({ cls := "FlintMineModel", name := "refusal", desc := "(Z)I" } : Jvm.MethodName)) ∈ lw_all := lw_g (lw_at lw_m10 21 rfl) rfl
theorem q2259 : (Jvm.Cond.code ({ cls := "FlintMineModel", name := "refusal", desc := "(Z)I" } : Jvm.MethodName) prog_24_method_77_code (2 : Nat) (Option.some Jvm.ClassFile.FieldType.int)) ∈ lw_all := lw_g (lw_at lw_m10 22 rfl) rfl
theorem q2261 : (Jvm.Cond.instanceMethod ({ cls := "FlintMineModel", name := "undo", desc := "()I" } : Jvm.MethodName)) ∈ lw_all := lw_g (lw_at lw_m10 24 rfl) rfl
theorem q2262 : (Jvm.Cond.selects "FlintMineModel" ({ cls := "FlintMineModel", name := "undo", desc := "()I" } : Jvm.MethodName) ({ cls := "FlintMineModel", name := "undo", desc := "()I" } : Jvm.MethodName)) ∈ lw_all := lw_g (lw_at lw_m10 25 rfl) rfl
theorem q2263 : (Jvm.Cond.code ({ cls := "FlintMineModel", name := "undo", desc := "()I" } : Jvm.MethodName) prog_24_method_78_code (1 : Nat) (Option.some Jvm.ClassFile.FieldType.int)) ∈ lw_all := lw_g (lw_at lw_m10 26 rfl) rfl
theorem q2265 : (Jvm.Cond.instanceMethod ({ cls := "FlintMineModel", name := "saveSnapshot", desc := "()I" } : Jvm.MethodName)) ∈ lw_all := lw_g (lw_at lw_m10 28 rfl) rfl
theorem q2266 : (Jvm.Cond.selects "FlintMineModel" ({ cls := "FlintMineModel", name := "saveSnapshot", desc := "()I" } : Jvm.MethodName) ({ cls := "FlintMineModel", name := "saveSnapshot", desc := "()I" } : Jvm.MethodName)) ∈ lw_all := lw_g (lw_at lw_m10 29 rfl) rfl
theorem q2267 : (Jvm.Cond.code ({ cls := "FlintMineModel", name := "saveSnapshot", desc := "()I" } : Jvm.MethodName) prog_24_method_79_code (1 : Nat) (Option.some Jvm.ClassFile.FieldType.int)) ∈ lw_all := lw_g (lw_at lw_m10 30 rfl) rfl
theorem q2269 : (Jvm.Cond.instanceMethod ({ cls := "FlintMineModel", name := "restoreSnapshot", desc := "()I" } : Jvm.MethodName)) ∈ lw_all := lw_g (lw_at lw_m10 32 rfl) rfl
theorem q2270 : (Jvm.Cond.selects "FlintMineModel" ({ cls := "FlintMineModel", name := "restoreSnapshot", desc := "()I" } : Jvm.MethodName) ({ cls := "FlintMineModel", name := "restoreSnapshot", desc := "()I" } : Jvm.MethodName)) ∈ lw_all := lw_g (lw_at lw_m10 33 rfl) rfl
theorem q2271 : (Jvm.Cond.code ({ cls := "FlintMineModel", name := "restoreSnapshot", desc := "()I" } : Jvm.MethodName) prog_24_method_80_code (1 : Nat) (Option.some Jvm.ClassFile.FieldType.int)) ∈ lw_all := lw_g (lw_at lw_m10 34 rfl) rfl
theorem q2299 : (Jvm.Cond.castable "FlintMineModel" "java/lang/Object") ∈ lw_tbl := lw_at lw_m10 62 rfl
theorem in_X4 : ∀ w ∈ wsX40, w ∈ lw_all := lw_in wsX40 [1907, 1909, 1911, 1913, 1915, 1917, 1919, 1921, 1923, 1925, 1927, 1929, 1931, 1933, 1935, 1937, 1939, 1941, 1943, 1945, 1947] (by decide +kernel) (by decide +kernel)
