/-! FlintMine -/
set_option maxRecDepth 100000
def RX1 : String := "FlintMine"
def TX1 : u_T := fun k => match k with
  | 0 => ("FlintMine", "far", "[I", true)
  | 1 => ("FlintMine", "queue", "[I", true)
  | 2 => ("FlintMine", "mine", "LFlintMine$Mine;", false)
  | 3 => ("FlintMine", "past", "Ljava/util/ArrayDeque;", true)
  | 4 => ("FlintMine", "input", "Ljava/lang/StringBuilder;", true)
  | 5 => ("FlintMine", "fault", "I", false)
  | 6 => ("FlintMine", "reason", "I", false)
  | 7 => ("FlintMine", "detail", "I", false)
  | _ => ("FlintMine", "saved", "LFlintMine$Mine;", false)
def tyX1 : Nat → FieldType := fun k => match k with
  | 0 => .array .int
  | 1 => .array .int
  | 2 => .object "FlintMine$Mine"
  | 3 => .object "java/util/ArrayDeque"
  | 4 => .object "java/lang/StringBuilder"
  | 5 => .int
  | 6 => .int
  | 7 => .int
  | _ => .object "FlintMine$Mine"
abbrev wsX10 : List Cond := u_ws RX1 TX1 9
theorem nmX1 : ∀ a, a < 9 → ∀ b, b < 9 → a ≠ b → (TX1 a).2.1 ≠ (TX1 b).2.1 := by decide +kernel
theorem tyX1_ok : ∀ k, k < 9 → parseFieldDescriptor (TX1 k).2.2.1 = some (tyX1 k) := by decide +kernel
abbrev cX1_init : ByteArray := prog_1_method_14_code
def yX1_init : MethodName := ⟨RX1, "<init>", "()V"⟩
def dkwX1_init_0 : List UInt8 := [42, 187, 0, 43, 89, 183, 0, 110, 183, 0, 111, 177]
abbrev dktX1_init_0 : List UInt8 := dkwX1_init_0 ++ []
theorem dksX1_init_0 : cX1_init.data.toList.drop 0 = dktX1_init_0 := by decide +kernel
theorem dX1_init_0 : decode cX1_init 0 = .ok (.aload_n 0, 1) := dk_42 (dk_at dksX1_init_0 0 rfl rfl)
theorem dX1_init_1 : decode cX1_init 1 = .ok (.new 43, 3) := dk_187 0 43 (dk_at dksX1_init_0 1 rfl rfl)
theorem dX1_init_4 : decode cX1_init 4 = .ok (.dup, 1) := dk_89 (dk_at dksX1_init_0 4 rfl rfl)
theorem dX1_init_5 : decode cX1_init 5 = .ok (.invokespecial 110, 3) := dk_183 0 110 (dk_at dksX1_init_0 5 rfl rfl)
theorem dX1_init_8 : decode cX1_init 8 = .ok (.invokespecial 111, 3) := dk_183 0 111 (dk_at dksX1_init_0 8 rfl rfl)
theorem dX1_init_11 : decode cX1_init 11 = .ok (.return_, 1) := dk_177 (dk_at dksX1_init_0 11 rfl rfl)
abbrev cX1_init_2 : ByteArray := prog_1_method_13_code
def yX1_init_2 : MethodName := ⟨RX1, "<init>", "(LFlintMine$Mine;)V"⟩
def dkwX1_init_2_2 : List UInt8 := [43, 181, 0, 38, 177]
abbrev dktX1_init_2_2 : List UInt8 := dkwX1_init_2_2 ++ []
def dkwX1_init_2_1 : List UInt8 := [89, 183, 0, 95, 181, 0, 96, 42, 187, 0, 100, 89, 183, 0, 102, 181, 0, 103, 42, 2, 181, 0, 107, 42]
abbrev dktX1_init_2_1 : List UInt8 := dkwX1_init_2_1 ++ dktX1_init_2_2
def dkwX1_init_2_0 : List UInt8 := [42, 183, 0, 90, 42, 16, 64, 188, 10, 181, 0, 35, 42, 16, 64, 188, 10, 181, 0, 48, 42, 187, 0, 93]
abbrev dktX1_init_2_0 : List UInt8 := dkwX1_init_2_0 ++ dktX1_init_2_1
theorem dksX1_init_2_0 : cX1_init_2.data.toList.drop 0 = dktX1_init_2_0 := by decide +kernel
theorem dksX1_init_2_1 : cX1_init_2.data.toList.drop 24 = dktX1_init_2_1 := dk_seg dksX1_init_2_0 24 rfl rfl
theorem dksX1_init_2_2 : cX1_init_2.data.toList.drop 48 = dktX1_init_2_2 := dk_seg dksX1_init_2_1 24 rfl rfl
theorem dX1_init_2_0 : decode cX1_init_2 0 = .ok (.aload_n 0, 1) := dk_42 (dk_at dksX1_init_2_0 0 rfl rfl)
theorem dX1_init_2_1 : decode cX1_init_2 1 = .ok (.invokespecial 90, 3) := dk_183 0 90 (dk_at dksX1_init_2_0 1 rfl rfl)
theorem dX1_init_2_4 : decode cX1_init_2 4 = .ok (.aload_n 0, 1) := dk_42 (dk_at dksX1_init_2_0 4 rfl rfl)
theorem dX1_init_2_5 : decode cX1_init_2 5 = .ok (.bipush 64, 2) := dk_16 64 (dk_at dksX1_init_2_0 5 rfl rfl)
theorem dX1_init_2_7 : decode cX1_init_2 7 = .ok (.newarray .int, 2) := dk_188_10 (dk_at dksX1_init_2_0 7 rfl rfl)
theorem dX1_init_2_9 : decode cX1_init_2 9 = .ok (.putfield 35, 3) := dk_181 0 35 (dk_at dksX1_init_2_0 9 rfl rfl)
theorem dX1_init_2_12 : decode cX1_init_2 12 = .ok (.aload_n 0, 1) := dk_42 (dk_at dksX1_init_2_0 12 rfl rfl)
theorem dX1_init_2_13 : decode cX1_init_2 13 = .ok (.bipush 64, 2) := dk_16 64 (dk_at dksX1_init_2_0 13 rfl rfl)
theorem dX1_init_2_15 : decode cX1_init_2 15 = .ok (.newarray .int, 2) := dk_188_10 (dk_at dksX1_init_2_0 15 rfl rfl)
theorem dX1_init_2_17 : decode cX1_init_2 17 = .ok (.putfield 48, 3) := dk_181 0 48 (dk_at dksX1_init_2_0 17 rfl rfl)
theorem dX1_init_2_20 : decode cX1_init_2 20 = .ok (.aload_n 0, 1) := dk_42 (dk_at dksX1_init_2_0 20 rfl rfl)
theorem dX1_init_2_21 : decode cX1_init_2 21 = .ok (.new 93, 3) := dk_187 0 93 (dk_at dksX1_init_2_0 21 rfl rfl)
theorem dX1_init_2_24 : decode cX1_init_2 24 = .ok (.dup, 1) := dk_89 (dk_at dksX1_init_2_1 0 rfl rfl)
theorem dX1_init_2_25 : decode cX1_init_2 25 = .ok (.invokespecial 95, 3) := dk_183 0 95 (dk_at dksX1_init_2_1 1 rfl rfl)
theorem dX1_init_2_28 : decode cX1_init_2 28 = .ok (.putfield 96, 3) := dk_181 0 96 (dk_at dksX1_init_2_1 4 rfl rfl)
theorem dX1_init_2_31 : decode cX1_init_2 31 = .ok (.aload_n 0, 1) := dk_42 (dk_at dksX1_init_2_1 7 rfl rfl)
theorem dX1_init_2_32 : decode cX1_init_2 32 = .ok (.new 100, 3) := dk_187 0 100 (dk_at dksX1_init_2_1 8 rfl rfl)
theorem dX1_init_2_35 : decode cX1_init_2 35 = .ok (.dup, 1) := dk_89 (dk_at dksX1_init_2_1 11 rfl rfl)
theorem dX1_init_2_36 : decode cX1_init_2 36 = .ok (.invokespecial 102, 3) := dk_183 0 102 (dk_at dksX1_init_2_1 12 rfl rfl)
theorem dX1_init_2_39 : decode cX1_init_2 39 = .ok (.putfield 103, 3) := dk_181 0 103 (dk_at dksX1_init_2_1 15 rfl rfl)
theorem dX1_init_2_42 : decode cX1_init_2 42 = .ok (.aload_n 0, 1) := dk_42 (dk_at dksX1_init_2_1 18 rfl rfl)
theorem dX1_init_2_43 : decode cX1_init_2 43 = .ok (.iconst (-1), 1) := dk_2 (dk_at dksX1_init_2_1 19 rfl rfl)
theorem dX1_init_2_44 : decode cX1_init_2 44 = .ok (.putfield 107, 3) := dk_181 0 107 (dk_at dksX1_init_2_1 20 rfl rfl)
theorem dX1_init_2_47 : decode cX1_init_2 47 = .ok (.aload_n 0, 1) := dk_42 (dk_at dksX1_init_2_1 23 rfl rfl)
theorem dX1_init_2_48 : decode cX1_init_2 48 = .ok (.aload_n 1, 1) := dk_43 (dk_at dksX1_init_2_2 0 rfl rfl)
theorem dX1_init_2_49 : decode cX1_init_2 49 = .ok (.putfield 38, 3) := dk_181 0 38 (dk_at dksX1_init_2_2 1 rfl rfl)
theorem dX1_init_2_52 : decode cX1_init_2 52 = .ok (.return_, 1) := dk_177 (dk_at dksX1_init_2_2 4 rfl rfl)
abbrev cX1_longest : ByteArray := prog_1_method_26_code
def yX1_longest : MethodName := ⟨RX1, "longest", "()I"⟩
def dkwX1_longest_0 : List UInt8 := [42, 180, 0, 38, 182, 0, 226, 172]
abbrev dktX1_longest_0 : List UInt8 := dkwX1_longest_0 ++ []
theorem dksX1_longest_0 : cX1_longest.data.toList.drop 0 = dktX1_longest_0 := by decide +kernel
theorem dX1_longest_0 : decode cX1_longest 0 = .ok (.aload_n 0, 1) := dk_42 (dk_at dksX1_longest_0 0 rfl rfl)
theorem dX1_longest_1 : decode cX1_longest 1 = .ok (.getfield 38, 3) := dk_180 0 38 (dk_at dksX1_longest_0 1 rfl rfl)
theorem dX1_longest_4 : decode cX1_longest 4 = .ok (.invokevirtual 226, 3) := dk_182 0 226 (dk_at dksX1_longest_0 4 rfl rfl)
theorem dX1_longest_7 : decode cX1_longest 7 = .ok (.ireturn, 1) := dk_172 (dk_at dksX1_longest_0 7 rfl rfl)
abbrev cX1_beside : ByteArray := prog_1_method_8_code
def yX1_beside : MethodName := ⟨RX1, "beside", "(II)I"⟩
def dkwX1_beside_0 : List UInt8 := [178, 0, 31, 7, 26, 104, 27, 96, 46, 172]
abbrev dktX1_beside_0 : List UInt8 := dkwX1_beside_0 ++ []
theorem dksX1_beside_0 : cX1_beside.data.toList.drop 0 = dktX1_beside_0 := by decide +kernel
theorem dX1_beside_0 : decode cX1_beside 0 = .ok (.getstatic 31, 3) := dk_178 0 31 (dk_at dksX1_beside_0 0 rfl rfl)
theorem dX1_beside_3 : decode cX1_beside 3 = .ok (.iconst 4, 1) := dk_7 (dk_at dksX1_beside_0 3 rfl rfl)
theorem dX1_beside_4 : decode cX1_beside 4 = .ok (.iload_n 0, 1) := dk_26 (dk_at dksX1_beside_0 4 rfl rfl)
theorem dX1_beside_5 : decode cX1_beside 5 = .ok (.imul, 1) := dk_104 (dk_at dksX1_beside_0 5 rfl rfl)
theorem dX1_beside_6 : decode cX1_beside 6 = .ok (.iload_n 1, 1) := dk_27 (dk_at dksX1_beside_0 6 rfl rfl)
theorem dX1_beside_7 : decode cX1_beside 7 = .ok (.iadd, 1) := dk_96 (dk_at dksX1_beside_0 7 rfl rfl)
theorem dX1_beside_8 : decode cX1_beside 8 = .ok (.iaload, 1) := dk_46 (dk_at dksX1_beside_0 8 rfl rfl)
theorem dX1_beside_9 : decode cX1_beside 9 = .ok (.ireturn, 1) := dk_172 (dk_at dksX1_beside_0 9 rfl rfl)
abbrev cX1_chalk : ByteArray := prog_1_method_47_code
def yX1_chalk : MethodName := ⟨RX1, "chalk", "()F"⟩
def dkwX1_chalk_0 : List UInt8 := [42, 3, 182, 1, 38, 134, 19, 1, 68, 110, 174]
abbrev dktX1_chalk_0 : List UInt8 := dkwX1_chalk_0 ++ []
theorem dksX1_chalk_0 : cX1_chalk.data.toList.drop 0 = dktX1_chalk_0 := by decide +kernel
theorem dX1_chalk_0 : decode cX1_chalk 0 = .ok (.aload_n 0, 1) := dk_42 (dk_at dksX1_chalk_0 0 rfl rfl)
theorem dX1_chalk_1 : decode cX1_chalk 1 = .ok (.iconst 0, 1) := dk_3 (dk_at dksX1_chalk_0 1 rfl rfl)
theorem dX1_chalk_2 : decode cX1_chalk 2 = .ok (.invokevirtual 294, 3) := dk_182 1 38 (dk_at dksX1_chalk_0 2 rfl rfl)
theorem dX1_chalk_5 : decode cX1_chalk 5 = .ok (.i2f, 1) := dk_134 (dk_at dksX1_chalk_0 5 rfl rfl)
theorem dX1_chalk_6 : decode cX1_chalk 6 = .ok (.ldc_w 324, 3) := dk_19 1 68 (dk_at dksX1_chalk_0 6 rfl rfl)
theorem dX1_chalk_9 : decode cX1_chalk 9 = .ok (.fdiv, 1) := dk_110 (dk_at dksX1_chalk_0 9 rfl rfl)
theorem dX1_chalk_10 : decode cX1_chalk 10 = .ok (.freturn, 1) := dk_174 (dk_at dksX1_chalk_0 10 rfl rfl)
abbrev cX1_cells : ByteArray := prog_1_method_42_code
def yX1_cells : MethodName := ⟨RX1, "cells", "(I)I"⟩
def dkwX1_cells_1 : List UInt8 := [160, 0, 7, 4, 167, 0, 4, 3, 96, 61, 132, 3, 1, 167, 255, 223, 28, 172]
abbrev dktX1_cells_1 : List UInt8 := dkwX1_cells_1 ++ []
def dkwX1_cells_0 : List UInt8 := [3, 61, 3, 62, 29, 16, 64, 162, 0, 33, 28, 42, 180, 0, 38, 180, 0, 196, 29, 50, 184, 0, 200, 27]
abbrev dktX1_cells_0 : List UInt8 := dkwX1_cells_0 ++ dktX1_cells_1
theorem dksX1_cells_0 : cX1_cells.data.toList.drop 0 = dktX1_cells_0 := by decide +kernel
theorem dksX1_cells_1 : cX1_cells.data.toList.drop 24 = dktX1_cells_1 := dk_seg dksX1_cells_0 24 rfl rfl
theorem dX1_cells_0 : decode cX1_cells 0 = .ok (.iconst 0, 1) := dk_3 (dk_at dksX1_cells_0 0 rfl rfl)
theorem dX1_cells_1 : decode cX1_cells 1 = .ok (.istore_n 2, 1) := dk_61 (dk_at dksX1_cells_0 1 rfl rfl)
theorem dX1_cells_2 : decode cX1_cells 2 = .ok (.iconst 0, 1) := dk_3 (dk_at dksX1_cells_0 2 rfl rfl)
theorem dX1_cells_3 : decode cX1_cells 3 = .ok (.istore_n 3, 1) := dk_62 (dk_at dksX1_cells_0 3 rfl rfl)
theorem dX1_cells_4 : decode cX1_cells 4 = .ok (.iload_n 3, 1) := dk_29 (dk_at dksX1_cells_0 4 rfl rfl)
theorem dX1_cells_5 : decode cX1_cells 5 = .ok (.bipush 64, 2) := dk_16 64 (dk_at dksX1_cells_0 5 rfl rfl)
theorem dX1_cells_7 : decode cX1_cells 7 = .ok (.if_icmp .ge 33, 3) := dk_162 0 33 (dk_at dksX1_cells_0 7 rfl rfl)
theorem dX1_cells_10 : decode cX1_cells 10 = .ok (.iload_n 2, 1) := dk_28 (dk_at dksX1_cells_0 10 rfl rfl)
theorem dX1_cells_11 : decode cX1_cells 11 = .ok (.aload_n 0, 1) := dk_42 (dk_at dksX1_cells_0 11 rfl rfl)
theorem dX1_cells_12 : decode cX1_cells 12 = .ok (.getfield 38, 3) := dk_180 0 38 (dk_at dksX1_cells_0 12 rfl rfl)
theorem dX1_cells_15 : decode cX1_cells 15 = .ok (.getfield 196, 3) := dk_180 0 196 (dk_at dksX1_cells_0 15 rfl rfl)
theorem dX1_cells_18 : decode cX1_cells 18 = .ok (.iload_n 3, 1) := dk_29 (dk_at dksX1_cells_0 18 rfl rfl)
theorem dX1_cells_19 : decode cX1_cells 19 = .ok (.aaload, 1) := dk_50 (dk_at dksX1_cells_0 19 rfl rfl)
theorem dX1_cells_20 : decode cX1_cells 20 = .ok (.invokestatic 200, 3) := dk_184 0 200 (dk_at dksX1_cells_0 20 rfl rfl)
theorem dX1_cells_23 : decode cX1_cells 23 = .ok (.iload_n 1, 1) := dk_27 (dk_at dksX1_cells_0 23 rfl rfl)
theorem dX1_cells_24 : decode cX1_cells 24 = .ok (.if_icmp .ne 7, 3) := dk_160 0 7 (dk_at dksX1_cells_1 0 rfl rfl)
theorem dX1_cells_27 : decode cX1_cells 27 = .ok (.iconst 1, 1) := dk_4 (dk_at dksX1_cells_1 3 rfl rfl)
theorem dX1_cells_28 : decode cX1_cells 28 = .ok (.goto 4, 3) := dk_167 0 4 (dk_at dksX1_cells_1 4 rfl rfl)
theorem dX1_cells_31 : decode cX1_cells 31 = .ok (.iconst 0, 1) := dk_3 (dk_at dksX1_cells_1 7 rfl rfl)
theorem dX1_cells_32 : decode cX1_cells 32 = .ok (.iadd, 1) := dk_96 (dk_at dksX1_cells_1 8 rfl rfl)
theorem dX1_cells_33 : decode cX1_cells 33 = .ok (.istore_n 2, 1) := dk_61 (dk_at dksX1_cells_1 9 rfl rfl)
theorem dX1_cells_34 : decode cX1_cells 34 = .ok (.iinc 3 1, 3) := dk_132 3 1 (dk_at dksX1_cells_1 10 rfl rfl)
theorem dX1_cells_37 : decode cX1_cells 37 = .ok (.goto (-33), 3) := dk_167 255 223 (dk_at dksX1_cells_1 13 rfl rfl)
theorem dX1_cells_40 : decode cX1_cells 40 = .ok (.iload_n 2, 1) := dk_28 (dk_at dksX1_cells_1 16 rfl rfl)
theorem dX1_cells_41 : decode cX1_cells 41 = .ok (.ireturn, 1) := dk_172 (dk_at dksX1_cells_1 17 rfl rfl)
abbrev cX1_kind : ByteArray := prog_1_method_23_code
def yX1_kind : MethodName := ⟨RX1, "kind", "(LFlintMine$Ground;)I"⟩
def dkwX1_kind_0 : List UInt8 := [42, 193, 0, 188, 153, 0, 5, 3, 172, 42, 193, 0, 190, 153, 0, 7, 4, 167, 0, 4, 5, 172]
abbrev dktX1_kind_0 : List UInt8 := dkwX1_kind_0 ++ []
theorem dksX1_kind_0 : cX1_kind.data.toList.drop 0 = dktX1_kind_0 := by decide +kernel
theorem dX1_kind_0 : decode cX1_kind 0 = .ok (.aload_n 0, 1) := dk_42 (dk_at dksX1_kind_0 0 rfl rfl)
theorem dX1_kind_1 : decode cX1_kind 1 = .ok (.instanceof 188, 3) := dk_193 0 188 (dk_at dksX1_kind_0 1 rfl rfl)
theorem dX1_kind_4 : decode cX1_kind 4 = .ok (.ifCond .eq 5, 3) := dk_153 0 5 (dk_at dksX1_kind_0 4 rfl rfl)
theorem dX1_kind_7 : decode cX1_kind 7 = .ok (.iconst 0, 1) := dk_3 (dk_at dksX1_kind_0 7 rfl rfl)
theorem dX1_kind_8 : decode cX1_kind 8 = .ok (.ireturn, 1) := dk_172 (dk_at dksX1_kind_0 8 rfl rfl)
theorem dX1_kind_9 : decode cX1_kind 9 = .ok (.aload_n 0, 1) := dk_42 (dk_at dksX1_kind_0 9 rfl rfl)
theorem dX1_kind_10 : decode cX1_kind 10 = .ok (.instanceof 190, 3) := dk_193 0 190 (dk_at dksX1_kind_0 10 rfl rfl)
theorem dX1_kind_13 : decode cX1_kind 13 = .ok (.ifCond .eq 7, 3) := dk_153 0 7 (dk_at dksX1_kind_0 13 rfl rfl)
theorem dX1_kind_16 : decode cX1_kind 16 = .ok (.iconst 1, 1) := dk_4 (dk_at dksX1_kind_0 16 rfl rfl)
theorem dX1_kind_17 : decode cX1_kind 17 = .ok (.goto 4, 3) := dk_167 0 4 (dk_at dksX1_kind_0 17 rfl rfl)
theorem dX1_kind_20 : decode cX1_kind 20 = .ok (.iconst 2, 1) := dk_5 (dk_at dksX1_kind_0 20 rfl rfl)
theorem dX1_kind_21 : decode cX1_kind 21 = .ok (.ireturn, 1) := dk_172 (dk_at dksX1_kind_0 21 rfl rfl)
abbrev cX1_saveSnapshot : ByteArray := prog_1_method_55_code
def yX1_saveSnapshot : MethodName := ⟨RX1, "saveSnapshot", "()I"⟩
def dkwX1_saveSnapshot_1 : List UInt8 := [185, 0, 176, 1, 0, 172]
abbrev dktX1_saveSnapshot_1 : List UInt8 := dkwX1_saveSnapshot_1 ++ []
def dkwX1_saveSnapshot_0 : List UInt8 := [42, 187, 0, 43, 89, 42, 180, 0, 38, 183, 0, 135, 181, 1, 120, 42, 180, 1, 120, 180, 1, 32]
abbrev dktX1_saveSnapshot_0 : List UInt8 := dkwX1_saveSnapshot_0 ++ dktX1_saveSnapshot_1
theorem dksX1_saveSnapshot_0 : cX1_saveSnapshot.data.toList.drop 0 = dktX1_saveSnapshot_0 := by decide +kernel
theorem dksX1_saveSnapshot_1 : cX1_saveSnapshot.data.toList.drop 22 = dktX1_saveSnapshot_1 := dk_seg dksX1_saveSnapshot_0 22 rfl rfl
theorem dX1_saveSnapshot_0 : decode cX1_saveSnapshot 0 = .ok (.aload_n 0, 1) := dk_42 (dk_at dksX1_saveSnapshot_0 0 rfl rfl)
theorem dX1_saveSnapshot_1 : decode cX1_saveSnapshot 1 = .ok (.new 43, 3) := dk_187 0 43 (dk_at dksX1_saveSnapshot_0 1 rfl rfl)
theorem dX1_saveSnapshot_4 : decode cX1_saveSnapshot 4 = .ok (.dup, 1) := dk_89 (dk_at dksX1_saveSnapshot_0 4 rfl rfl)
theorem dX1_saveSnapshot_5 : decode cX1_saveSnapshot 5 = .ok (.aload_n 0, 1) := dk_42 (dk_at dksX1_saveSnapshot_0 5 rfl rfl)
theorem dX1_saveSnapshot_6 : decode cX1_saveSnapshot 6 = .ok (.getfield 38, 3) := dk_180 0 38 (dk_at dksX1_saveSnapshot_0 6 rfl rfl)
theorem dX1_saveSnapshot_9 : decode cX1_saveSnapshot 9 = .ok (.invokespecial 135, 3) := dk_183 0 135 (dk_at dksX1_saveSnapshot_0 9 rfl rfl)
theorem dX1_saveSnapshot_12 : decode cX1_saveSnapshot 12 = .ok (.putfield 376, 3) := dk_181 1 120 (dk_at dksX1_saveSnapshot_0 12 rfl rfl)
theorem dX1_saveSnapshot_15 : decode cX1_saveSnapshot 15 = .ok (.aload_n 0, 1) := dk_42 (dk_at dksX1_saveSnapshot_0 15 rfl rfl)
theorem dX1_saveSnapshot_16 : decode cX1_saveSnapshot 16 = .ok (.getfield 376, 3) := dk_180 1 120 (dk_at dksX1_saveSnapshot_0 16 rfl rfl)
theorem dX1_saveSnapshot_19 : decode cX1_saveSnapshot 19 = .ok (.getfield 288, 3) := dk_180 1 32 (dk_at dksX1_saveSnapshot_0 19 rfl rfl)
theorem dX1_saveSnapshot_22 : decode cX1_saveSnapshot 22 = .ok (.invokeinterface 176 1, 5) := by decide +kernel
theorem dX1_saveSnapshot_27 : decode cX1_saveSnapshot 27 = .ok (.ireturn, 1) := dk_172 (dk_at dksX1_saveSnapshot_1 5 rfl rfl)
abbrev cX1_rock : ByteArray := prog_1_method_18_code
def yX1_rock : MethodName := ⟨RX1, "rock", "(III)I"⟩
def dkwX1_rock_1 : List UInt8 := [89, 4, 28, 79, 89, 5, 29, 79, 182, 0, 159, 172]
abbrev dktX1_rock_1 : List UInt8 := dkwX1_rock_1 ++ []
def dkwX1_rock_0 : List UInt8 := [4, 188, 10, 89, 3, 27, 79, 184, 0, 151, 54, 4, 42, 178, 0, 155, 6, 188, 10, 89, 3, 21, 4, 79]
abbrev dktX1_rock_0 : List UInt8 := dkwX1_rock_0 ++ dktX1_rock_1
theorem dksX1_rock_0 : cX1_rock.data.toList.drop 0 = dktX1_rock_0 := by decide +kernel
theorem dksX1_rock_1 : cX1_rock.data.toList.drop 24 = dktX1_rock_1 := dk_seg dksX1_rock_0 24 rfl rfl
theorem dX1_rock_0 : decode cX1_rock 0 = .ok (.iconst 1, 1) := dk_4 (dk_at dksX1_rock_0 0 rfl rfl)
theorem dX1_rock_1 : decode cX1_rock 1 = .ok (.newarray .int, 2) := dk_188_10 (dk_at dksX1_rock_0 1 rfl rfl)
theorem dX1_rock_3 : decode cX1_rock 3 = .ok (.dup, 1) := dk_89 (dk_at dksX1_rock_0 3 rfl rfl)
theorem dX1_rock_4 : decode cX1_rock 4 = .ok (.iconst 0, 1) := dk_3 (dk_at dksX1_rock_0 4 rfl rfl)
theorem dX1_rock_5 : decode cX1_rock 5 = .ok (.iload_n 1, 1) := dk_27 (dk_at dksX1_rock_0 5 rfl rfl)
theorem dX1_rock_6 : decode cX1_rock 6 = .ok (.iastore, 1) := dk_79 (dk_at dksX1_rock_0 6 rfl rfl)
theorem dX1_rock_7 : decode cX1_rock 7 = .ok (.invokestatic 151, 3) := dk_184 0 151 (dk_at dksX1_rock_0 7 rfl rfl)
theorem dX1_rock_10 : decode cX1_rock 10 = .ok (.istore 4, 2) := dk_54 4 (dk_at dksX1_rock_0 10 rfl rfl)
theorem dX1_rock_12 : decode cX1_rock 12 = .ok (.aload_n 0, 1) := dk_42 (dk_at dksX1_rock_0 12 rfl rfl)
theorem dX1_rock_13 : decode cX1_rock 13 = .ok (.getstatic 155, 3) := dk_178 0 155 (dk_at dksX1_rock_0 13 rfl rfl)
theorem dX1_rock_16 : decode cX1_rock 16 = .ok (.iconst 3, 1) := dk_6 (dk_at dksX1_rock_0 16 rfl rfl)
theorem dX1_rock_17 : decode cX1_rock 17 = .ok (.newarray .int, 2) := dk_188_10 (dk_at dksX1_rock_0 17 rfl rfl)
theorem dX1_rock_19 : decode cX1_rock 19 = .ok (.dup, 1) := dk_89 (dk_at dksX1_rock_0 19 rfl rfl)
theorem dX1_rock_20 : decode cX1_rock 20 = .ok (.iconst 0, 1) := dk_3 (dk_at dksX1_rock_0 20 rfl rfl)
theorem dX1_rock_21 : decode cX1_rock 21 = .ok (.iload 4, 2) := dk_21 4 (dk_at dksX1_rock_0 21 rfl rfl)
theorem dX1_rock_23 : decode cX1_rock 23 = .ok (.iastore, 1) := dk_79 (dk_at dksX1_rock_0 23 rfl rfl)
theorem dX1_rock_24 : decode cX1_rock 24 = .ok (.dup, 1) := dk_89 (dk_at dksX1_rock_1 0 rfl rfl)
theorem dX1_rock_25 : decode cX1_rock 25 = .ok (.iconst 1, 1) := dk_4 (dk_at dksX1_rock_1 1 rfl rfl)
theorem dX1_rock_26 : decode cX1_rock 26 = .ok (.iload_n 2, 1) := dk_28 (dk_at dksX1_rock_1 2 rfl rfl)
theorem dX1_rock_27 : decode cX1_rock 27 = .ok (.iastore, 1) := dk_79 (dk_at dksX1_rock_1 3 rfl rfl)
theorem dX1_rock_28 : decode cX1_rock 28 = .ok (.dup, 1) := dk_89 (dk_at dksX1_rock_1 4 rfl rfl)
theorem dX1_rock_29 : decode cX1_rock 29 = .ok (.iconst 2, 1) := dk_5 (dk_at dksX1_rock_1 5 rfl rfl)
theorem dX1_rock_30 : decode cX1_rock 30 = .ok (.iload_n 3, 1) := dk_29 (dk_at dksX1_rock_1 6 rfl rfl)
theorem dX1_rock_31 : decode cX1_rock 31 = .ok (.iastore, 1) := dk_79 (dk_at dksX1_rock_1 7 rfl rfl)
theorem dX1_rock_32 : decode cX1_rock 32 = .ok (.invokevirtual 159, 3) := dk_182 0 159 (dk_at dksX1_rock_1 8 rfl rfl)
theorem dX1_rock_35 : decode cX1_rock 35 = .ok (.ireturn, 1) := dk_172 (dk_at dksX1_rock_1 11 rfl rfl)
abbrev cX1_cellOf : ByteArray := prog_1_method_6_code
def yX1_cellOf : MethodName := ⟨RX1, "cellOf", "([I)I"⟩
def dkwX1_cellOf_1 : List UInt8 := [184, 0, 18, 184, 0, 22, 132, 3, 1, 167, 255, 232, 42, 3, 46, 172]
abbrev dktX1_cellOf_1 : List UInt8 := dkwX1_cellOf_1 ++ []
def dkwX1_cellOf_0 : List UInt8 := [42, 76, 43, 190, 61, 3, 62, 29, 28, 162, 0, 25, 43, 29, 46, 54, 4, 21, 4, 3, 16, 63]
abbrev dktX1_cellOf_0 : List UInt8 := dkwX1_cellOf_0 ++ dktX1_cellOf_1
theorem dksX1_cellOf_0 : cX1_cellOf.data.toList.drop 0 = dktX1_cellOf_0 := by decide +kernel
theorem dksX1_cellOf_1 : cX1_cellOf.data.toList.drop 22 = dktX1_cellOf_1 := dk_seg dksX1_cellOf_0 22 rfl rfl
theorem dX1_cellOf_0 : decode cX1_cellOf 0 = .ok (.aload_n 0, 1) := dk_42 (dk_at dksX1_cellOf_0 0 rfl rfl)
theorem dX1_cellOf_1 : decode cX1_cellOf 1 = .ok (.astore_n 1, 1) := dk_76 (dk_at dksX1_cellOf_0 1 rfl rfl)
theorem dX1_cellOf_2 : decode cX1_cellOf 2 = .ok (.aload_n 1, 1) := dk_43 (dk_at dksX1_cellOf_0 2 rfl rfl)
theorem dX1_cellOf_3 : decode cX1_cellOf 3 = .ok (.arraylength, 1) := dk_190 (dk_at dksX1_cellOf_0 3 rfl rfl)
theorem dX1_cellOf_4 : decode cX1_cellOf 4 = .ok (.istore_n 2, 1) := dk_61 (dk_at dksX1_cellOf_0 4 rfl rfl)
theorem dX1_cellOf_5 : decode cX1_cellOf 5 = .ok (.iconst 0, 1) := dk_3 (dk_at dksX1_cellOf_0 5 rfl rfl)
theorem dX1_cellOf_6 : decode cX1_cellOf 6 = .ok (.istore_n 3, 1) := dk_62 (dk_at dksX1_cellOf_0 6 rfl rfl)
theorem dX1_cellOf_7 : decode cX1_cellOf 7 = .ok (.iload_n 3, 1) := dk_29 (dk_at dksX1_cellOf_0 7 rfl rfl)
theorem dX1_cellOf_8 : decode cX1_cellOf 8 = .ok (.iload_n 2, 1) := dk_28 (dk_at dksX1_cellOf_0 8 rfl rfl)
theorem dX1_cellOf_9 : decode cX1_cellOf 9 = .ok (.if_icmp .ge 25, 3) := dk_162 0 25 (dk_at dksX1_cellOf_0 9 rfl rfl)
theorem dX1_cellOf_12 : decode cX1_cellOf 12 = .ok (.aload_n 1, 1) := dk_43 (dk_at dksX1_cellOf_0 12 rfl rfl)
theorem dX1_cellOf_13 : decode cX1_cellOf 13 = .ok (.iload_n 3, 1) := dk_29 (dk_at dksX1_cellOf_0 13 rfl rfl)
theorem dX1_cellOf_14 : decode cX1_cellOf 14 = .ok (.iaload, 1) := dk_46 (dk_at dksX1_cellOf_0 14 rfl rfl)
theorem dX1_cellOf_15 : decode cX1_cellOf 15 = .ok (.istore 4, 2) := dk_54 4 (dk_at dksX1_cellOf_0 15 rfl rfl)
theorem dX1_cellOf_17 : decode cX1_cellOf 17 = .ok (.iload 4, 2) := dk_21 4 (dk_at dksX1_cellOf_0 17 rfl rfl)
theorem dX1_cellOf_19 : decode cX1_cellOf 19 = .ok (.iconst 0, 1) := dk_3 (dk_at dksX1_cellOf_0 19 rfl rfl)
theorem dX1_cellOf_20 : decode cX1_cellOf 20 = .ok (.bipush 63, 2) := dk_16 63 (dk_at dksX1_cellOf_0 20 rfl rfl)
theorem dX1_cellOf_22 : decode cX1_cellOf 22 = .ok (.invokestatic 18, 3) := dk_184 0 18 (dk_at dksX1_cellOf_1 0 rfl rfl)
theorem dX1_cellOf_25 : decode cX1_cellOf 25 = .ok (.invokestatic 22, 3) := dk_184 0 22 (dk_at dksX1_cellOf_1 3 rfl rfl)
theorem dX1_cellOf_28 : decode cX1_cellOf 28 = .ok (.iinc 3 1, 3) := dk_132 3 1 (dk_at dksX1_cellOf_1 6 rfl rfl)
theorem dX1_cellOf_31 : decode cX1_cellOf 31 = .ok (.goto (-24), 3) := dk_167 255 232 (dk_at dksX1_cellOf_1 9 rfl rfl)
theorem dX1_cellOf_34 : decode cX1_cellOf 34 = .ok (.aload_n 0, 1) := dk_42 (dk_at dksX1_cellOf_1 12 rfl rfl)
theorem dX1_cellOf_35 : decode cX1_cellOf 35 = .ok (.iconst 0, 1) := dk_3 (dk_at dksX1_cellOf_1 13 rfl rfl)
theorem dX1_cellOf_36 : decode cX1_cellOf 36 = .ok (.iaload, 1) := dk_46 (dk_at dksX1_cellOf_1 14 rfl rfl)
theorem dX1_cellOf_37 : decode cX1_cellOf 37 = .ok (.ireturn, 1) := dk_172 (dk_at dksX1_cellOf_1 15 rfl rfl)
abbrev cX1_inRange : ByteArray := prog_1_method_1_code
def yX1_inRange : MethodName := ⟨RX1, "inRange", "(III)Z"⟩
def dkwX1_inRange_0 : List UInt8 := [26, 27, 161, 0, 12, 26, 28, 163, 0, 7, 4, 167, 0, 4, 3, 172]
abbrev dktX1_inRange_0 : List UInt8 := dkwX1_inRange_0 ++ []
theorem dksX1_inRange_0 : cX1_inRange.data.toList.drop 0 = dktX1_inRange_0 := by decide +kernel
theorem dX1_inRange_0 : decode cX1_inRange 0 = .ok (.iload_n 0, 1) := dk_26 (dk_at dksX1_inRange_0 0 rfl rfl)
theorem dX1_inRange_1 : decode cX1_inRange 1 = .ok (.iload_n 1, 1) := dk_27 (dk_at dksX1_inRange_0 1 rfl rfl)
theorem dX1_inRange_2 : decode cX1_inRange 2 = .ok (.if_icmp .lt 12, 3) := dk_161 0 12 (dk_at dksX1_inRange_0 2 rfl rfl)
theorem dX1_inRange_5 : decode cX1_inRange 5 = .ok (.iload_n 0, 1) := dk_26 (dk_at dksX1_inRange_0 5 rfl rfl)
theorem dX1_inRange_6 : decode cX1_inRange 6 = .ok (.iload_n 2, 1) := dk_28 (dk_at dksX1_inRange_0 6 rfl rfl)
theorem dX1_inRange_7 : decode cX1_inRange 7 = .ok (.if_icmp .gt 7, 3) := dk_163 0 7 (dk_at dksX1_inRange_0 7 rfl rfl)
theorem dX1_inRange_10 : decode cX1_inRange 10 = .ok (.iconst 1, 1) := dk_4 (dk_at dksX1_inRange_0 10 rfl rfl)
theorem dX1_inRange_11 : decode cX1_inRange 11 = .ok (.goto 4, 3) := dk_167 0 4 (dk_at dksX1_inRange_0 11 rfl rfl)
theorem dX1_inRange_14 : decode cX1_inRange 14 = .ok (.iconst 0, 1) := dk_3 (dk_at dksX1_inRange_0 14 rfl rfl)
theorem dX1_inRange_15 : decode cX1_inRange 15 = .ok (.ireturn, 1) := dk_172 (dk_at dksX1_inRange_0 15 rfl rfl)
abbrev cX1_requireIndex : ByteArray := prog_1_method_3_code
def yX1_requireIndex : MethodName := ⟨RX1, "requireIndex", "(Z)V"⟩
def dkwX1_requireIndex_0 : List UInt8 := [26, 154, 0, 11, 187, 0, 7, 89, 183, 0, 9, 191, 177]
abbrev dktX1_requireIndex_0 : List UInt8 := dkwX1_requireIndex_0 ++ []
theorem dksX1_requireIndex_0 : cX1_requireIndex.data.toList.drop 0 = dktX1_requireIndex_0 := by decide +kernel
theorem dX1_requireIndex_0 : decode cX1_requireIndex 0 = .ok (.iload_n 0, 1) := dk_26 (dk_at dksX1_requireIndex_0 0 rfl rfl)
theorem dX1_requireIndex_1 : decode cX1_requireIndex 1 = .ok (.ifCond .ne 11, 3) := dk_154 0 11 (dk_at dksX1_requireIndex_0 1 rfl rfl)
theorem dX1_requireIndex_4 : decode cX1_requireIndex 4 = .ok (.new 7, 3) := dk_187 0 7 (dk_at dksX1_requireIndex_0 4 rfl rfl)
theorem dX1_requireIndex_7 : decode cX1_requireIndex 7 = .ok (.dup, 1) := dk_89 (dk_at dksX1_requireIndex_0 7 rfl rfl)
theorem dX1_requireIndex_8 : decode cX1_requireIndex 8 = .ok (.invokespecial 9, 3) := dk_183 0 9 (dk_at dksX1_requireIndex_0 8 rfl rfl)
theorem dX1_requireIndex_11 : decode cX1_requireIndex 11 = .ok (.athrow, 1) := dk_191 (dk_at dksX1_requireIndex_0 11 rfl rfl)
theorem dX1_requireIndex_12 : decode cX1_requireIndex 12 = .ok (.return_, 1) := dk_177 (dk_at dksX1_requireIndex_0 12 rfl rfl)
abbrev cX1_change : ByteArray := prog_1_method_17_code
def yX1_change : MethodName := ⟨RX1, "change", "(LFlintMine$Act;[I)I"⟩
def dkwX1_change_1 : List UInt8 := [182, 0, 142, 21, 4, 172, 58, 4, 42, 25, 4, 180, 0, 145, 25, 4, 180, 0, 146, 182, 0, 147, 191]
abbrev dktX1_change_1 : List UInt8 := dkwX1_change_1 ++ []
def dkwX1_change_0 : List UInt8 := [187, 0, 43, 89, 42, 180, 0, 38, 183, 0, 135, 78, 43, 45, 44, 182, 0, 136, 54, 4, 42, 45]
abbrev dktX1_change_0 : List UInt8 := dkwX1_change_0 ++ dktX1_change_1
theorem dksX1_change_0 : cX1_change.data.toList.drop 0 = dktX1_change_0 := by decide +kernel
theorem dksX1_change_1 : cX1_change.data.toList.drop 22 = dktX1_change_1 := dk_seg dksX1_change_0 22 rfl rfl
theorem dX1_change_0 : decode cX1_change 0 = .ok (.new 43, 3) := dk_187 0 43 (dk_at dksX1_change_0 0 rfl rfl)
theorem dX1_change_3 : decode cX1_change 3 = .ok (.dup, 1) := dk_89 (dk_at dksX1_change_0 3 rfl rfl)
theorem dX1_change_4 : decode cX1_change 4 = .ok (.aload_n 0, 1) := dk_42 (dk_at dksX1_change_0 4 rfl rfl)
theorem dX1_change_5 : decode cX1_change 5 = .ok (.getfield 38, 3) := dk_180 0 38 (dk_at dksX1_change_0 5 rfl rfl)
theorem dX1_change_8 : decode cX1_change 8 = .ok (.invokespecial 135, 3) := dk_183 0 135 (dk_at dksX1_change_0 8 rfl rfl)
theorem dX1_change_11 : decode cX1_change 11 = .ok (.astore_n 3, 1) := dk_78 (dk_at dksX1_change_0 11 rfl rfl)
theorem dX1_change_12 : decode cX1_change 12 = .ok (.aload_n 1, 1) := dk_43 (dk_at dksX1_change_0 12 rfl rfl)
theorem dX1_change_13 : decode cX1_change 13 = .ok (.aload_n 3, 1) := dk_45 (dk_at dksX1_change_0 13 rfl rfl)
theorem dX1_change_14 : decode cX1_change 14 = .ok (.aload_n 2, 1) := dk_44 (dk_at dksX1_change_0 14 rfl rfl)
theorem dX1_change_15 : decode cX1_change 15 = .ok (.invokevirtual 136, 3) := dk_182 0 136 (dk_at dksX1_change_0 15 rfl rfl)
theorem dX1_change_18 : decode cX1_change 18 = .ok (.istore 4, 2) := dk_54 4 (dk_at dksX1_change_0 18 rfl rfl)
theorem dX1_change_20 : decode cX1_change 20 = .ok (.aload_n 0, 1) := dk_42 (dk_at dksX1_change_0 20 rfl rfl)
theorem dX1_change_21 : decode cX1_change 21 = .ok (.aload_n 3, 1) := dk_45 (dk_at dksX1_change_0 21 rfl rfl)
theorem dX1_change_22 : decode cX1_change 22 = .ok (.invokevirtual 142, 3) := dk_182 0 142 (dk_at dksX1_change_1 0 rfl rfl)
theorem dX1_change_25 : decode cX1_change 25 = .ok (.iload 4, 2) := dk_21 4 (dk_at dksX1_change_1 3 rfl rfl)
theorem dX1_change_27 : decode cX1_change 27 = .ok (.ireturn, 1) := dk_172 (dk_at dksX1_change_1 5 rfl rfl)
theorem dX1_change_28 : decode cX1_change 28 = .ok (.astore 4, 2) := dk_58 4 (dk_at dksX1_change_1 6 rfl rfl)
theorem dX1_change_30 : decode cX1_change 30 = .ok (.aload_n 0, 1) := dk_42 (dk_at dksX1_change_1 8 rfl rfl)
theorem dX1_change_31 : decode cX1_change 31 = .ok (.aload 4, 2) := dk_25 4 (dk_at dksX1_change_1 9 rfl rfl)
theorem dX1_change_33 : decode cX1_change 33 = .ok (.getfield 145, 3) := dk_180 0 145 (dk_at dksX1_change_1 11 rfl rfl)
theorem dX1_change_36 : decode cX1_change 36 = .ok (.aload 4, 2) := dk_25 4 (dk_at dksX1_change_1 14 rfl rfl)
theorem dX1_change_38 : decode cX1_change 38 = .ok (.getfield 146, 3) := dk_180 0 146 (dk_at dksX1_change_1 16 rfl rfl)
theorem dX1_change_41 : decode cX1_change 41 = .ok (.invokevirtual 147, 3) := dk_182 0 147 (dk_at dksX1_change_1 19 rfl rfl)
theorem dX1_change_44 : decode cX1_change 44 = .ok (.athrow, 1) := dk_191 (dk_at dksX1_change_1 22 rfl rfl)
abbrev cX1_require : ByteArray := prog_1_method_2_code
def yX1_require : MethodName := ⟨RX1, "require", "([Z)V"⟩
def dkwX1_require_1 : List UInt8 := [187, 0, 1, 89, 183, 0, 3, 191, 132, 3, 1, 167, 255, 230, 177]
abbrev dktX1_require_1 : List UInt8 := dkwX1_require_1 ++ []
def dkwX1_require_0 : List UInt8 := [42, 76, 43, 190, 61, 3, 62, 29, 28, 162, 0, 27, 43, 29, 51, 54, 4, 21, 4, 154, 0, 11]
abbrev dktX1_require_0 : List UInt8 := dkwX1_require_0 ++ dktX1_require_1
theorem dksX1_require_0 : cX1_require.data.toList.drop 0 = dktX1_require_0 := by decide +kernel
theorem dksX1_require_1 : cX1_require.data.toList.drop 22 = dktX1_require_1 := dk_seg dksX1_require_0 22 rfl rfl
theorem dX1_require_0 : decode cX1_require 0 = .ok (.aload_n 0, 1) := dk_42 (dk_at dksX1_require_0 0 rfl rfl)
theorem dX1_require_1 : decode cX1_require 1 = .ok (.astore_n 1, 1) := dk_76 (dk_at dksX1_require_0 1 rfl rfl)
theorem dX1_require_2 : decode cX1_require 2 = .ok (.aload_n 1, 1) := dk_43 (dk_at dksX1_require_0 2 rfl rfl)
theorem dX1_require_3 : decode cX1_require 3 = .ok (.arraylength, 1) := dk_190 (dk_at dksX1_require_0 3 rfl rfl)
theorem dX1_require_4 : decode cX1_require 4 = .ok (.istore_n 2, 1) := dk_61 (dk_at dksX1_require_0 4 rfl rfl)
theorem dX1_require_5 : decode cX1_require 5 = .ok (.iconst 0, 1) := dk_3 (dk_at dksX1_require_0 5 rfl rfl)
theorem dX1_require_6 : decode cX1_require 6 = .ok (.istore_n 3, 1) := dk_62 (dk_at dksX1_require_0 6 rfl rfl)
theorem dX1_require_7 : decode cX1_require 7 = .ok (.iload_n 3, 1) := dk_29 (dk_at dksX1_require_0 7 rfl rfl)
theorem dX1_require_8 : decode cX1_require 8 = .ok (.iload_n 2, 1) := dk_28 (dk_at dksX1_require_0 8 rfl rfl)
theorem dX1_require_9 : decode cX1_require 9 = .ok (.if_icmp .ge 27, 3) := dk_162 0 27 (dk_at dksX1_require_0 9 rfl rfl)
theorem dX1_require_12 : decode cX1_require 12 = .ok (.aload_n 1, 1) := dk_43 (dk_at dksX1_require_0 12 rfl rfl)
theorem dX1_require_13 : decode cX1_require 13 = .ok (.iload_n 3, 1) := dk_29 (dk_at dksX1_require_0 13 rfl rfl)
theorem dX1_require_14 : decode cX1_require 14 = .ok (.baload, 1) := dk_51 (dk_at dksX1_require_0 14 rfl rfl)
theorem dX1_require_15 : decode cX1_require 15 = .ok (.istore 4, 2) := dk_54 4 (dk_at dksX1_require_0 15 rfl rfl)
theorem dX1_require_17 : decode cX1_require 17 = .ok (.iload 4, 2) := dk_21 4 (dk_at dksX1_require_0 17 rfl rfl)
theorem dX1_require_19 : decode cX1_require 19 = .ok (.ifCond .ne 11, 3) := dk_154 0 11 (dk_at dksX1_require_0 19 rfl rfl)
theorem dX1_require_22 : decode cX1_require 22 = .ok (.new 1, 3) := dk_187 0 1 (dk_at dksX1_require_1 0 rfl rfl)
theorem dX1_require_25 : decode cX1_require 25 = .ok (.dup, 1) := dk_89 (dk_at dksX1_require_1 3 rfl rfl)
theorem dX1_require_26 : decode cX1_require 26 = .ok (.invokespecial 3, 3) := dk_183 0 3 (dk_at dksX1_require_1 4 rfl rfl)
theorem dX1_require_29 : decode cX1_require 29 = .ok (.athrow, 1) := dk_191 (dk_at dksX1_require_1 7 rfl rfl)
theorem dX1_require_30 : decode cX1_require 30 = .ok (.iinc 3 1, 3) := dk_132 3 1 (dk_at dksX1_require_1 8 rfl rfl)
theorem dX1_require_33 : decode cX1_require 33 = .ok (.goto (-26), 3) := dk_167 255 230 (dk_at dksX1_require_1 11 rfl rfl)
theorem dX1_require_36 : decode cX1_require 36 = .ok (.return_, 1) := dk_177 (dk_at dksX1_require_1 14 rfl rfl)
abbrev cX1_allow : ByteArray := prog_1_method_7_code
def yX1_allow : MethodName := ⟨RX1, "allow", "(ZII)V"⟩
def dkwX1_allow_0 : List UInt8 := [26, 154, 0, 13, 187, 0, 26, 89, 27, 28, 183, 0, 28, 191, 177]
abbrev dktX1_allow_0 : List UInt8 := dkwX1_allow_0 ++ []
theorem dksX1_allow_0 : cX1_allow.data.toList.drop 0 = dktX1_allow_0 := by decide +kernel
theorem dX1_allow_0 : decode cX1_allow 0 = .ok (.iload_n 0, 1) := dk_26 (dk_at dksX1_allow_0 0 rfl rfl)
theorem dX1_allow_1 : decode cX1_allow 1 = .ok (.ifCond .ne 13, 3) := dk_154 0 13 (dk_at dksX1_allow_0 1 rfl rfl)
theorem dX1_allow_4 : decode cX1_allow 4 = .ok (.new 26, 3) := dk_187 0 26 (dk_at dksX1_allow_0 4 rfl rfl)
theorem dX1_allow_7 : decode cX1_allow 7 = .ok (.dup, 1) := dk_89 (dk_at dksX1_allow_0 7 rfl rfl)
theorem dX1_allow_8 : decode cX1_allow 8 = .ok (.iload_n 1, 1) := dk_27 (dk_at dksX1_allow_0 8 rfl rfl)
theorem dX1_allow_9 : decode cX1_allow 9 = .ok (.iload_n 2, 1) := dk_28 (dk_at dksX1_allow_0 9 rfl rfl)
theorem dX1_allow_10 : decode cX1_allow 10 = .ok (.invokespecial 28, 3) := dk_183 0 28 (dk_at dksX1_allow_0 10 rfl rfl)
theorem dX1_allow_13 : decode cX1_allow 13 = .ok (.athrow, 1) := dk_191 (dk_at dksX1_allow_0 13 rfl rfl)
theorem dX1_allow_14 : decode cX1_allow 14 = .ok (.return_, 1) := dk_177 (dk_at dksX1_allow_0 14 rfl rfl)
abbrev cX1_replace : ByteArray := prog_1_method_15_code
def yX1_replace : MethodName := ⟨RX1, "replace", "(LFlintMine$Mine;)V"⟩
def dkwX1_replace_1 : List UInt8 := [180, 0, 96, 42, 180, 0, 38, 182, 0, 122, 42, 43, 181, 0, 38, 177]
abbrev dktX1_replace_1 : List UInt8 := dkwX1_replace_1 ++ []
def dkwX1_replace_0 : List UInt8 := [42, 180, 0, 96, 182, 0, 114, 16, 8, 160, 0, 14, 42, 180, 0, 96, 182, 0, 118, 192, 0, 43, 77, 42]
abbrev dktX1_replace_0 : List UInt8 := dkwX1_replace_0 ++ dktX1_replace_1
theorem dksX1_replace_0 : cX1_replace.data.toList.drop 0 = dktX1_replace_0 := by decide +kernel
theorem dksX1_replace_1 : cX1_replace.data.toList.drop 24 = dktX1_replace_1 := dk_seg dksX1_replace_0 24 rfl rfl
theorem dX1_replace_0 : decode cX1_replace 0 = .ok (.aload_n 0, 1) := dk_42 (dk_at dksX1_replace_0 0 rfl rfl)
theorem dX1_replace_1 : decode cX1_replace 1 = .ok (.getfield 96, 3) := dk_180 0 96 (dk_at dksX1_replace_0 1 rfl rfl)
theorem dX1_replace_4 : decode cX1_replace 4 = .ok (.invokevirtual 114, 3) := dk_182 0 114 (dk_at dksX1_replace_0 4 rfl rfl)
theorem dX1_replace_7 : decode cX1_replace 7 = .ok (.bipush 8, 2) := dk_16 8 (dk_at dksX1_replace_0 7 rfl rfl)
theorem dX1_replace_9 : decode cX1_replace 9 = .ok (.if_icmp .ne 14, 3) := dk_160 0 14 (dk_at dksX1_replace_0 9 rfl rfl)
theorem dX1_replace_12 : decode cX1_replace 12 = .ok (.aload_n 0, 1) := dk_42 (dk_at dksX1_replace_0 12 rfl rfl)
theorem dX1_replace_13 : decode cX1_replace 13 = .ok (.getfield 96, 3) := dk_180 0 96 (dk_at dksX1_replace_0 13 rfl rfl)
theorem dX1_replace_16 : decode cX1_replace 16 = .ok (.invokevirtual 118, 3) := dk_182 0 118 (dk_at dksX1_replace_0 16 rfl rfl)
theorem dX1_replace_19 : decode cX1_replace 19 = .ok (.checkcast 43, 3) := dk_192 0 43 (dk_at dksX1_replace_0 19 rfl rfl)
theorem dX1_replace_22 : decode cX1_replace 22 = .ok (.astore_n 2, 1) := dk_77 (dk_at dksX1_replace_0 22 rfl rfl)
theorem dX1_replace_23 : decode cX1_replace 23 = .ok (.aload_n 0, 1) := dk_42 (dk_at dksX1_replace_0 23 rfl rfl)
theorem dX1_replace_24 : decode cX1_replace 24 = .ok (.getfield 96, 3) := dk_180 0 96 (dk_at dksX1_replace_1 0 rfl rfl)
theorem dX1_replace_27 : decode cX1_replace 27 = .ok (.aload_n 0, 1) := dk_42 (dk_at dksX1_replace_1 3 rfl rfl)
theorem dX1_replace_28 : decode cX1_replace 28 = .ok (.getfield 38, 3) := dk_180 0 38 (dk_at dksX1_replace_1 4 rfl rfl)
theorem dX1_replace_31 : decode cX1_replace 31 = .ok (.invokevirtual 122, 3) := dk_182 0 122 (dk_at dksX1_replace_1 7 rfl rfl)
theorem dX1_replace_34 : decode cX1_replace 34 = .ok (.aload_n 0, 1) := dk_42 (dk_at dksX1_replace_1 10 rfl rfl)
theorem dX1_replace_35 : decode cX1_replace 35 = .ok (.aload_n 1, 1) := dk_43 (dk_at dksX1_replace_1 11 rfl rfl)
theorem dX1_replace_36 : decode cX1_replace 36 = .ok (.putfield 38, 3) := dk_181 0 38 (dk_at dksX1_replace_1 12 rfl rfl)
theorem dX1_replace_39 : decode cX1_replace 39 = .ok (.return_, 1) := dk_177 (dk_at dksX1_replace_1 15 rfl rfl)
abbrev cX1_refuse : ByteArray := prog_1_method_16_code
def yX1_refuse : MethodName := ⟨RX1, "refuse", "(II)Ljava/lang/UnsupportedOperationException;"⟩
def dkwX1_refuse_0 : List UInt8 := [42, 27, 181, 0, 126, 42, 28, 181, 0, 129, 187, 0, 132, 89, 183, 0, 134, 176]
abbrev dktX1_refuse_0 : List UInt8 := dkwX1_refuse_0 ++ []
theorem dksX1_refuse_0 : cX1_refuse.data.toList.drop 0 = dktX1_refuse_0 := by decide +kernel
theorem dX1_refuse_0 : decode cX1_refuse 0 = .ok (.aload_n 0, 1) := dk_42 (dk_at dksX1_refuse_0 0 rfl rfl)
theorem dX1_refuse_1 : decode cX1_refuse 1 = .ok (.iload_n 1, 1) := dk_27 (dk_at dksX1_refuse_0 1 rfl rfl)
theorem dX1_refuse_2 : decode cX1_refuse 2 = .ok (.putfield 126, 3) := dk_181 0 126 (dk_at dksX1_refuse_0 2 rfl rfl)
theorem dX1_refuse_5 : decode cX1_refuse 5 = .ok (.aload_n 0, 1) := dk_42 (dk_at dksX1_refuse_0 5 rfl rfl)
theorem dX1_refuse_6 : decode cX1_refuse 6 = .ok (.iload_n 2, 1) := dk_28 (dk_at dksX1_refuse_0 6 rfl rfl)
theorem dX1_refuse_7 : decode cX1_refuse 7 = .ok (.putfield 129, 3) := dk_181 0 129 (dk_at dksX1_refuse_0 7 rfl rfl)
theorem dX1_refuse_10 : decode cX1_refuse 10 = .ok (.new 132, 3) := dk_187 0 132 (dk_at dksX1_refuse_0 10 rfl rfl)
theorem dX1_refuse_13 : decode cX1_refuse 13 = .ok (.dup, 1) := dk_89 (dk_at dksX1_refuse_0 13 rfl rfl)
theorem dX1_refuse_14 : decode cX1_refuse 14 = .ok (.invokespecial 134, 3) := dk_183 0 134 (dk_at dksX1_refuse_0 14 rfl rfl)
theorem dX1_refuse_17 : decode cX1_refuse 17 = .ok (.areturn, 1) := dk_176 (dk_at dksX1_refuse_0 17 rfl rfl)
abbrev cX1_roof : ByteArray := prog_1_method_19_code
def yX1_roof : MethodName := ⟨RX1, "roof", "(I)I"⟩
def dkwX1_roof_0 : List UInt8 := [42, 178, 0, 163, 4, 188, 10, 89, 3, 27, 79, 182, 0, 159, 172]
abbrev dktX1_roof_0 : List UInt8 := dkwX1_roof_0 ++ []
theorem dksX1_roof_0 : cX1_roof.data.toList.drop 0 = dktX1_roof_0 := by decide +kernel
theorem dX1_roof_0 : decode cX1_roof 0 = .ok (.aload_n 0, 1) := dk_42 (dk_at dksX1_roof_0 0 rfl rfl)
theorem dX1_roof_1 : decode cX1_roof 1 = .ok (.getstatic 163, 3) := dk_178 0 163 (dk_at dksX1_roof_0 1 rfl rfl)
theorem dX1_roof_4 : decode cX1_roof 4 = .ok (.iconst 1, 1) := dk_4 (dk_at dksX1_roof_0 4 rfl rfl)
theorem dX1_roof_5 : decode cX1_roof 5 = .ok (.newarray .int, 2) := dk_188_10 (dk_at dksX1_roof_0 5 rfl rfl)
theorem dX1_roof_7 : decode cX1_roof 7 = .ok (.dup, 1) := dk_89 (dk_at dksX1_roof_0 7 rfl rfl)
theorem dX1_roof_8 : decode cX1_roof 8 = .ok (.iconst 0, 1) := dk_3 (dk_at dksX1_roof_0 8 rfl rfl)
theorem dX1_roof_9 : decode cX1_roof 9 = .ok (.iload_n 1, 1) := dk_27 (dk_at dksX1_roof_0 9 rfl rfl)
theorem dX1_roof_10 : decode cX1_roof 10 = .ok (.iastore, 1) := dk_79 (dk_at dksX1_roof_0 10 rfl rfl)
theorem dX1_roof_11 : decode cX1_roof 11 = .ok (.invokevirtual 159, 3) := dk_182 0 159 (dk_at dksX1_roof_0 11 rfl rfl)
theorem dX1_roof_14 : decode cX1_roof 14 = .ok (.ireturn, 1) := dk_172 (dk_at dksX1_roof_0 14 rfl rfl)
abbrev cX1_props : ByteArray := prog_1_method_20_code
def yX1_props : MethodName := ⟨RX1, "props", "(I)I"⟩
def dkwX1_props_0 : List UInt8 := [42, 178, 0, 166, 4, 188, 10, 89, 3, 27, 79, 182, 0, 159, 172]
abbrev dktX1_props_0 : List UInt8 := dkwX1_props_0 ++ []
theorem dksX1_props_0 : cX1_props.data.toList.drop 0 = dktX1_props_0 := by decide +kernel
theorem dX1_props_0 : decode cX1_props 0 = .ok (.aload_n 0, 1) := dk_42 (dk_at dksX1_props_0 0 rfl rfl)
theorem dX1_props_1 : decode cX1_props 1 = .ok (.getstatic 166, 3) := dk_178 0 166 (dk_at dksX1_props_0 1 rfl rfl)
theorem dX1_props_4 : decode cX1_props 4 = .ok (.iconst 1, 1) := dk_4 (dk_at dksX1_props_0 4 rfl rfl)
theorem dX1_props_5 : decode cX1_props 5 = .ok (.newarray .int, 2) := dk_188_10 (dk_at dksX1_props_0 5 rfl rfl)
theorem dX1_props_7 : decode cX1_props 7 = .ok (.dup, 1) := dk_89 (dk_at dksX1_props_0 7 rfl rfl)
theorem dX1_props_8 : decode cX1_props 8 = .ok (.iconst 0, 1) := dk_3 (dk_at dksX1_props_0 8 rfl rfl)
theorem dX1_props_9 : decode cX1_props 9 = .ok (.iload_n 1, 1) := dk_27 (dk_at dksX1_props_0 9 rfl rfl)
theorem dX1_props_10 : decode cX1_props 10 = .ok (.iastore, 1) := dk_79 (dk_at dksX1_props_0 10 rfl rfl)
theorem dX1_props_11 : decode cX1_props 11 = .ok (.invokevirtual 159, 3) := dk_182 0 159 (dk_at dksX1_props_0 11 rfl rfl)
theorem dX1_props_14 : decode cX1_props 14 = .ok (.ireturn, 1) := dk_172 (dk_at dksX1_props_0 14 rfl rfl)
abbrev cX1_pick : ByteArray := prog_1_method_21_code
def yX1_pick : MethodName := ⟨RX1, "pick", "(I)I"⟩
def dkwX1_pick_0 : List UInt8 := [42, 178, 0, 169, 4, 188, 10, 89, 3, 27, 79, 182, 0, 159, 172]
abbrev dktX1_pick_0 : List UInt8 := dkwX1_pick_0 ++ []
theorem dksX1_pick_0 : cX1_pick.data.toList.drop 0 = dktX1_pick_0 := by decide +kernel
theorem dX1_pick_0 : decode cX1_pick 0 = .ok (.aload_n 0, 1) := dk_42 (dk_at dksX1_pick_0 0 rfl rfl)
theorem dX1_pick_1 : decode cX1_pick 1 = .ok (.getstatic 169, 3) := dk_178 0 169 (dk_at dksX1_pick_0 1 rfl rfl)
theorem dX1_pick_4 : decode cX1_pick 4 = .ok (.iconst 1, 1) := dk_4 (dk_at dksX1_pick_0 4 rfl rfl)
theorem dX1_pick_5 : decode cX1_pick 5 = .ok (.newarray .int, 2) := dk_188_10 (dk_at dksX1_pick_0 5 rfl rfl)
theorem dX1_pick_7 : decode cX1_pick 7 = .ok (.dup, 1) := dk_89 (dk_at dksX1_pick_0 7 rfl rfl)
theorem dX1_pick_8 : decode cX1_pick 8 = .ok (.iconst 0, 1) := dk_3 (dk_at dksX1_pick_0 8 rfl rfl)
theorem dX1_pick_9 : decode cX1_pick 9 = .ok (.iload_n 1, 1) := dk_27 (dk_at dksX1_pick_0 9 rfl rfl)
theorem dX1_pick_10 : decode cX1_pick 10 = .ok (.iastore, 1) := dk_79 (dk_at dksX1_pick_0 10 rfl rfl)
theorem dX1_pick_11 : decode cX1_pick 11 = .ok (.invokevirtual 159, 3) := dk_182 0 159 (dk_at dksX1_pick_0 11 rfl rfl)
theorem dX1_pick_14 : decode cX1_pick 14 = .ok (.ireturn, 1) := dk_172 (dk_at dksX1_pick_0 14 rfl rfl)
abbrev cX1_edge : ByteArray := prog_1_method_22_code
def yX1_edge : MethodName := ⟨RX1, "edge", "(I)I"⟩
def dkwX1_edge_1 : List UInt8 := [180, 0, 38, 180, 0, 172, 27, 185, 0, 179, 2, 0, 192, 0, 183, 182, 0, 185, 172]
abbrev dktX1_edge_1 : List UInt8 := dkwX1_edge_1 ++ []
def dkwX1_edge_0 : List UInt8 := [27, 3, 42, 180, 0, 38, 180, 0, 172, 185, 0, 176, 1, 0, 4, 100, 184, 0, 18, 184, 0, 22, 42]
abbrev dktX1_edge_0 : List UInt8 := dkwX1_edge_0 ++ dktX1_edge_1
theorem dksX1_edge_0 : cX1_edge.data.toList.drop 0 = dktX1_edge_0 := by decide +kernel
theorem dksX1_edge_1 : cX1_edge.data.toList.drop 23 = dktX1_edge_1 := dk_seg dksX1_edge_0 23 rfl rfl
theorem dX1_edge_0 : decode cX1_edge 0 = .ok (.iload_n 1, 1) := dk_27 (dk_at dksX1_edge_0 0 rfl rfl)
theorem dX1_edge_1 : decode cX1_edge 1 = .ok (.iconst 0, 1) := dk_3 (dk_at dksX1_edge_0 1 rfl rfl)
theorem dX1_edge_2 : decode cX1_edge 2 = .ok (.aload_n 0, 1) := dk_42 (dk_at dksX1_edge_0 2 rfl rfl)
theorem dX1_edge_3 : decode cX1_edge 3 = .ok (.getfield 38, 3) := dk_180 0 38 (dk_at dksX1_edge_0 3 rfl rfl)
theorem dX1_edge_6 : decode cX1_edge 6 = .ok (.getfield 172, 3) := dk_180 0 172 (dk_at dksX1_edge_0 6 rfl rfl)
theorem dX1_edge_9 : decode cX1_edge 9 = .ok (.invokeinterface 176 1, 5) := by decide +kernel
theorem dX1_edge_14 : decode cX1_edge 14 = .ok (.iconst 1, 1) := dk_4 (dk_at dksX1_edge_0 14 rfl rfl)
theorem dX1_edge_15 : decode cX1_edge 15 = .ok (.isub, 1) := dk_100 (dk_at dksX1_edge_0 15 rfl rfl)
theorem dX1_edge_16 : decode cX1_edge 16 = .ok (.invokestatic 18, 3) := dk_184 0 18 (dk_at dksX1_edge_0 16 rfl rfl)
theorem dX1_edge_19 : decode cX1_edge 19 = .ok (.invokestatic 22, 3) := dk_184 0 22 (dk_at dksX1_edge_0 19 rfl rfl)
theorem dX1_edge_22 : decode cX1_edge 22 = .ok (.aload_n 0, 1) := dk_42 (dk_at dksX1_edge_0 22 rfl rfl)
theorem dX1_edge_23 : decode cX1_edge 23 = .ok (.getfield 38, 3) := dk_180 0 38 (dk_at dksX1_edge_1 0 rfl rfl)
theorem dX1_edge_26 : decode cX1_edge 26 = .ok (.getfield 172, 3) := dk_180 0 172 (dk_at dksX1_edge_1 3 rfl rfl)
theorem dX1_edge_29 : decode cX1_edge 29 = .ok (.iload_n 1, 1) := dk_27 (dk_at dksX1_edge_1 6 rfl rfl)
theorem dX1_edge_30 : decode cX1_edge 30 = .ok (.invokeinterface 179 2, 5) := by decide +kernel
theorem dX1_edge_35 : decode cX1_edge 35 = .ok (.checkcast 183, 3) := dk_192 0 183 (dk_at dksX1_edge_1 12 rfl rfl)
theorem dX1_edge_38 : decode cX1_edge 38 = .ok (.invokevirtual 185, 3) := dk_182 0 185 (dk_at dksX1_edge_1 15 rfl rfl)
theorem dX1_edge_41 : decode cX1_edge 41 = .ok (.ireturn, 1) := dk_172 (dk_at dksX1_edge_1 18 rfl rfl)
abbrev cX1_cell : ByteArray := prog_1_method_24_code
def yX1_cell : MethodName := ⟨RX1, "cell", "(II)I"⟩
def dkwX1_cell_6 : List UInt8 := [192, 0, 190, 58, 5, 25, 5, 180, 0, 219, 153, 0, 7, 4, 167, 0, 4, 3, 172]
abbrev dktX1_cell_6 : List UInt8 := dkwX1_cell_6 ++ []
def dkwX1_cell_5 : List UInt8 := [182, 0, 211, 172, 25, 4, 185, 0, 214, 1, 0, 172, 25, 4, 193, 0, 190, 153, 0, 22, 25, 4]
abbrev dktX1_cell_5 : List UInt8 := dkwX1_cell_5 ++ dktX1_cell_6
def dkwX1_cell_4 : List UInt8 := [180, 0, 204, 167, 0, 4, 3, 172, 42, 180, 0, 38, 29, 182, 0, 207, 172, 42, 180, 0, 38, 29]
abbrev dktX1_cell_4 : List UInt8 := dkwX1_cell_4 ++ dktX1_cell_5
def dkwX1_cell_3 : List UInt8 := [25, 4, 184, 0, 200, 172, 25, 4, 193, 0, 188, 153, 0, 18, 25, 4, 192, 0, 188, 58, 5, 25, 5]
abbrev dktX1_cell_3 : List UInt8 := dkwX1_cell_3 ++ dktX1_cell_4
def dkwX1_cell_2 : List UInt8 := [170, 0, 0, 0, 0, 91, 0, 0, 0, 0, 0, 0, 0, 4, 0, 0, 0, 34, 0, 0, 0, 40, 0, 0, 0, 65, 0, 0, 0, 74, 0, 0, 0, 83]
abbrev dktX1_cell_2 : List UInt8 := dkwX1_cell_2 ++ dktX1_cell_3
def dkwX1_cell_1 : List UInt8 := [184, 0, 192, 42, 180, 0, 38, 180, 0, 196, 29, 50, 58, 4, 28]
abbrev dktX1_cell_1 : List UInt8 := dkwX1_cell_1 ++ dktX1_cell_2
def dkwX1_cell_0 : List UInt8 := [4, 188, 10, 89, 3, 27, 79, 184, 0, 151, 62, 4, 188, 4, 89, 3, 28, 3, 8, 184, 0, 18, 84]
abbrev dktX1_cell_0 : List UInt8 := dkwX1_cell_0 ++ dktX1_cell_1
theorem dksX1_cell_0 : cX1_cell.data.toList.drop 0 = dktX1_cell_0 := by decide +kernel
theorem dksX1_cell_1 : cX1_cell.data.toList.drop 23 = dktX1_cell_1 := dk_seg dksX1_cell_0 23 rfl rfl
theorem dksX1_cell_2 : cX1_cell.data.toList.drop 38 = dktX1_cell_2 := dk_seg dksX1_cell_1 15 rfl rfl
theorem dksX1_cell_3 : cX1_cell.data.toList.drop 72 = dktX1_cell_3 := dk_seg dksX1_cell_2 34 rfl rfl
theorem dksX1_cell_4 : cX1_cell.data.toList.drop 95 = dktX1_cell_4 := dk_seg dksX1_cell_3 23 rfl rfl
theorem dksX1_cell_5 : cX1_cell.data.toList.drop 117 = dktX1_cell_5 := dk_seg dksX1_cell_4 22 rfl rfl
theorem dksX1_cell_6 : cX1_cell.data.toList.drop 139 = dktX1_cell_6 := dk_seg dksX1_cell_5 22 rfl rfl
theorem dX1_cell_0 : decode cX1_cell 0 = .ok (.iconst 1, 1) := dk_4 (dk_at dksX1_cell_0 0 rfl rfl)
theorem dX1_cell_1 : decode cX1_cell 1 = .ok (.newarray .int, 2) := dk_188_10 (dk_at dksX1_cell_0 1 rfl rfl)
theorem dX1_cell_3 : decode cX1_cell 3 = .ok (.dup, 1) := dk_89 (dk_at dksX1_cell_0 3 rfl rfl)
theorem dX1_cell_4 : decode cX1_cell 4 = .ok (.iconst 0, 1) := dk_3 (dk_at dksX1_cell_0 4 rfl rfl)
theorem dX1_cell_5 : decode cX1_cell 5 = .ok (.iload_n 1, 1) := dk_27 (dk_at dksX1_cell_0 5 rfl rfl)
theorem dX1_cell_6 : decode cX1_cell 6 = .ok (.iastore, 1) := dk_79 (dk_at dksX1_cell_0 6 rfl rfl)
theorem dX1_cell_7 : decode cX1_cell 7 = .ok (.invokestatic 151, 3) := dk_184 0 151 (dk_at dksX1_cell_0 7 rfl rfl)
theorem dX1_cell_10 : decode cX1_cell 10 = .ok (.istore_n 3, 1) := dk_62 (dk_at dksX1_cell_0 10 rfl rfl)
theorem dX1_cell_11 : decode cX1_cell 11 = .ok (.iconst 1, 1) := dk_4 (dk_at dksX1_cell_0 11 rfl rfl)
theorem dX1_cell_12 : decode cX1_cell 12 = .ok (.newarray .boolean, 2) := dk_188_4 (dk_at dksX1_cell_0 12 rfl rfl)
theorem dX1_cell_14 : decode cX1_cell 14 = .ok (.dup, 1) := dk_89 (dk_at dksX1_cell_0 14 rfl rfl)
theorem dX1_cell_15 : decode cX1_cell 15 = .ok (.iconst 0, 1) := dk_3 (dk_at dksX1_cell_0 15 rfl rfl)
theorem dX1_cell_16 : decode cX1_cell 16 = .ok (.iload_n 2, 1) := dk_28 (dk_at dksX1_cell_0 16 rfl rfl)
theorem dX1_cell_17 : decode cX1_cell 17 = .ok (.iconst 0, 1) := dk_3 (dk_at dksX1_cell_0 17 rfl rfl)
theorem dX1_cell_18 : decode cX1_cell 18 = .ok (.iconst 5, 1) := dk_8 (dk_at dksX1_cell_0 18 rfl rfl)
theorem dX1_cell_19 : decode cX1_cell 19 = .ok (.invokestatic 18, 3) := dk_184 0 18 (dk_at dksX1_cell_0 19 rfl rfl)
theorem dX1_cell_22 : decode cX1_cell 22 = .ok (.bastore, 1) := dk_84 (dk_at dksX1_cell_0 22 rfl rfl)
theorem dX1_cell_23 : decode cX1_cell 23 = .ok (.invokestatic 192, 3) := dk_184 0 192 (dk_at dksX1_cell_1 0 rfl rfl)
theorem dX1_cell_26 : decode cX1_cell 26 = .ok (.aload_n 0, 1) := dk_42 (dk_at dksX1_cell_1 3 rfl rfl)
theorem dX1_cell_27 : decode cX1_cell 27 = .ok (.getfield 38, 3) := dk_180 0 38 (dk_at dksX1_cell_1 4 rfl rfl)
theorem dX1_cell_30 : decode cX1_cell 30 = .ok (.getfield 196, 3) := dk_180 0 196 (dk_at dksX1_cell_1 7 rfl rfl)
theorem dX1_cell_33 : decode cX1_cell 33 = .ok (.iload_n 3, 1) := dk_29 (dk_at dksX1_cell_1 10 rfl rfl)
theorem dX1_cell_34 : decode cX1_cell 34 = .ok (.aaload, 1) := dk_50 (dk_at dksX1_cell_1 11 rfl rfl)
theorem dX1_cell_35 : decode cX1_cell 35 = .ok (.astore 4, 2) := dk_58 4 (dk_at dksX1_cell_1 12 rfl rfl)
theorem dX1_cell_37 : decode cX1_cell 37 = .ok (.iload_n 2, 1) := dk_28 (dk_at dksX1_cell_1 14 rfl rfl)
theorem dX1_cell_38 : decode cX1_cell 38 = .ok (.tableswitch 91 0 4 #[34, 40, 65, 74, 83], 34) := by decide +kernel
theorem dX1_cell_72 : decode cX1_cell 72 = .ok (.aload 4, 2) := dk_25 4 (dk_at dksX1_cell_3 0 rfl rfl)
theorem dX1_cell_74 : decode cX1_cell 74 = .ok (.invokestatic 200, 3) := dk_184 0 200 (dk_at dksX1_cell_3 2 rfl rfl)
theorem dX1_cell_77 : decode cX1_cell 77 = .ok (.ireturn, 1) := dk_172 (dk_at dksX1_cell_3 5 rfl rfl)
theorem dX1_cell_78 : decode cX1_cell 78 = .ok (.aload 4, 2) := dk_25 4 (dk_at dksX1_cell_3 6 rfl rfl)
theorem dX1_cell_80 : decode cX1_cell 80 = .ok (.instanceof 188, 3) := dk_193 0 188 (dk_at dksX1_cell_3 8 rfl rfl)
theorem dX1_cell_83 : decode cX1_cell 83 = .ok (.ifCond .eq 18, 3) := dk_153 0 18 (dk_at dksX1_cell_3 11 rfl rfl)
theorem dX1_cell_86 : decode cX1_cell 86 = .ok (.aload 4, 2) := dk_25 4 (dk_at dksX1_cell_3 14 rfl rfl)
theorem dX1_cell_88 : decode cX1_cell 88 = .ok (.checkcast 188, 3) := dk_192 0 188 (dk_at dksX1_cell_3 16 rfl rfl)
theorem dX1_cell_91 : decode cX1_cell 91 = .ok (.astore 5, 2) := dk_58 5 (dk_at dksX1_cell_3 19 rfl rfl)
theorem dX1_cell_93 : decode cX1_cell 93 = .ok (.aload 5, 2) := dk_25 5 (dk_at dksX1_cell_3 21 rfl rfl)
theorem dX1_cell_95 : decode cX1_cell 95 = .ok (.getfield 204, 3) := dk_180 0 204 (dk_at dksX1_cell_4 0 rfl rfl)
theorem dX1_cell_98 : decode cX1_cell 98 = .ok (.goto 4, 3) := dk_167 0 4 (dk_at dksX1_cell_4 3 rfl rfl)
theorem dX1_cell_101 : decode cX1_cell 101 = .ok (.iconst 0, 1) := dk_3 (dk_at dksX1_cell_4 6 rfl rfl)
theorem dX1_cell_102 : decode cX1_cell 102 = .ok (.ireturn, 1) := dk_172 (dk_at dksX1_cell_4 7 rfl rfl)
theorem dX1_cell_103 : decode cX1_cell 103 = .ok (.aload_n 0, 1) := dk_42 (dk_at dksX1_cell_4 8 rfl rfl)
theorem dX1_cell_104 : decode cX1_cell 104 = .ok (.getfield 38, 3) := dk_180 0 38 (dk_at dksX1_cell_4 9 rfl rfl)
theorem dX1_cell_107 : decode cX1_cell 107 = .ok (.iload_n 3, 1) := dk_29 (dk_at dksX1_cell_4 12 rfl rfl)
theorem dX1_cell_108 : decode cX1_cell 108 = .ok (.invokevirtual 207, 3) := dk_182 0 207 (dk_at dksX1_cell_4 13 rfl rfl)
theorem dX1_cell_111 : decode cX1_cell 111 = .ok (.ireturn, 1) := dk_172 (dk_at dksX1_cell_4 16 rfl rfl)
theorem dX1_cell_112 : decode cX1_cell 112 = .ok (.aload_n 0, 1) := dk_42 (dk_at dksX1_cell_4 17 rfl rfl)
theorem dX1_cell_113 : decode cX1_cell 113 = .ok (.getfield 38, 3) := dk_180 0 38 (dk_at dksX1_cell_4 18 rfl rfl)
theorem dX1_cell_116 : decode cX1_cell 116 = .ok (.iload_n 3, 1) := dk_29 (dk_at dksX1_cell_4 21 rfl rfl)
theorem dX1_cell_117 : decode cX1_cell 117 = .ok (.invokevirtual 211, 3) := dk_182 0 211 (dk_at dksX1_cell_5 0 rfl rfl)
theorem dX1_cell_120 : decode cX1_cell 120 = .ok (.ireturn, 1) := dk_172 (dk_at dksX1_cell_5 3 rfl rfl)
theorem dX1_cell_121 : decode cX1_cell 121 = .ok (.aload 4, 2) := dk_25 4 (dk_at dksX1_cell_5 4 rfl rfl)
theorem dX1_cell_123 : decode cX1_cell 123 = .ok (.invokeinterface 214 1, 5) := by decide +kernel
theorem dX1_cell_128 : decode cX1_cell 128 = .ok (.ireturn, 1) := dk_172 (dk_at dksX1_cell_5 11 rfl rfl)
theorem dX1_cell_129 : decode cX1_cell 129 = .ok (.aload 4, 2) := dk_25 4 (dk_at dksX1_cell_5 12 rfl rfl)
theorem dX1_cell_131 : decode cX1_cell 131 = .ok (.instanceof 190, 3) := dk_193 0 190 (dk_at dksX1_cell_5 14 rfl rfl)
theorem dX1_cell_134 : decode cX1_cell 134 = .ok (.ifCond .eq 22, 3) := dk_153 0 22 (dk_at dksX1_cell_5 17 rfl rfl)
theorem dX1_cell_137 : decode cX1_cell 137 = .ok (.aload 4, 2) := dk_25 4 (dk_at dksX1_cell_5 20 rfl rfl)
theorem dX1_cell_139 : decode cX1_cell 139 = .ok (.checkcast 190, 3) := dk_192 0 190 (dk_at dksX1_cell_6 0 rfl rfl)
theorem dX1_cell_142 : decode cX1_cell 142 = .ok (.astore 5, 2) := dk_58 5 (dk_at dksX1_cell_6 3 rfl rfl)
theorem dX1_cell_144 : decode cX1_cell 144 = .ok (.aload 5, 2) := dk_25 5 (dk_at dksX1_cell_6 5 rfl rfl)
theorem dX1_cell_146 : decode cX1_cell 146 = .ok (.getfield 219, 3) := dk_180 0 219 (dk_at dksX1_cell_6 7 rfl rfl)
theorem dX1_cell_149 : decode cX1_cell 149 = .ok (.ifCond .eq 7, 3) := dk_153 0 7 (dk_at dksX1_cell_6 10 rfl rfl)
theorem dX1_cell_152 : decode cX1_cell 152 = .ok (.iconst 1, 1) := dk_4 (dk_at dksX1_cell_6 13 rfl rfl)
theorem dX1_cell_153 : decode cX1_cell 153 = .ok (.goto 4, 3) := dk_167 0 4 (dk_at dksX1_cell_6 14 rfl rfl)
theorem dX1_cell_156 : decode cX1_cell 156 = .ok (.iconst 0, 1) := dk_3 (dk_at dksX1_cell_6 17 rfl rfl)
theorem dX1_cell_157 : decode cX1_cell 157 = .ok (.ireturn, 1) := dk_172 (dk_at dksX1_cell_6 18 rfl rfl)
abbrev cX1_span : ByteArray := prog_1_method_25_code
def yX1_span : MethodName := ⟨RX1, "span", "(IZ)I"⟩
def dkwX1_span_0 : List UInt8 := [42, 180, 0, 38, 4, 188, 10, 89, 3, 27, 79, 184, 0, 151, 28, 182, 0, 222, 172]
abbrev dktX1_span_0 : List UInt8 := dkwX1_span_0 ++ []
theorem dksX1_span_0 : cX1_span.data.toList.drop 0 = dktX1_span_0 := by decide +kernel
theorem dX1_span_0 : decode cX1_span 0 = .ok (.aload_n 0, 1) := dk_42 (dk_at dksX1_span_0 0 rfl rfl)
theorem dX1_span_1 : decode cX1_span 1 = .ok (.getfield 38, 3) := dk_180 0 38 (dk_at dksX1_span_0 1 rfl rfl)
theorem dX1_span_4 : decode cX1_span 4 = .ok (.iconst 1, 1) := dk_4 (dk_at dksX1_span_0 4 rfl rfl)
theorem dX1_span_5 : decode cX1_span 5 = .ok (.newarray .int, 2) := dk_188_10 (dk_at dksX1_span_0 5 rfl rfl)
theorem dX1_span_7 : decode cX1_span 7 = .ok (.dup, 1) := dk_89 (dk_at dksX1_span_0 7 rfl rfl)
theorem dX1_span_8 : decode cX1_span 8 = .ok (.iconst 0, 1) := dk_3 (dk_at dksX1_span_0 8 rfl rfl)
theorem dX1_span_9 : decode cX1_span 9 = .ok (.iload_n 1, 1) := dk_27 (dk_at dksX1_span_0 9 rfl rfl)
theorem dX1_span_10 : decode cX1_span 10 = .ok (.iastore, 1) := dk_79 (dk_at dksX1_span_0 10 rfl rfl)
theorem dX1_span_11 : decode cX1_span 11 = .ok (.invokestatic 151, 3) := dk_184 0 151 (dk_at dksX1_span_0 11 rfl rfl)
theorem dX1_span_14 : decode cX1_span 14 = .ok (.iload_n 2, 1) := dk_28 (dk_at dksX1_span_0 14 rfl rfl)
theorem dX1_span_15 : decode cX1_span 15 = .ok (.invokevirtual 222, 3) := dk_182 0 222 (dk_at dksX1_span_0 15 rfl rfl)
theorem dX1_span_18 : decode cX1_span 18 = .ok (.ireturn, 1) := dk_172 (dk_at dksX1_span_0 18 rfl rfl)
abbrev cX1_knock : ByteArray := prog_1_method_27_code
def yX1_knock : MethodName := ⟨RX1, "knock", "(I)I"⟩
def dkwX1_knock_3 : List UInt8 := [180, 0, 38, 28, 21, 4, 184, 0, 51, 182, 0, 207, 96, 62, 132, 4, 1, 167, 255, 231, 29, 172]
abbrev dktX1_knock_3 : List UInt8 := dkwX1_knock_3 ++ []
def dkwX1_knock_2 : List UInt8 := [5, 42, 180, 0, 38, 28, 182, 0, 207, 104, 62, 3, 54, 4, 21, 4, 7, 162, 0, 25, 29, 42]
abbrev dktX1_knock_2 : List UInt8 := dkwX1_knock_2 ++ dktX1_knock_3
def dkwX1_knock_1 : List UInt8 := [153, 0, 20, 42, 180, 0, 38, 28, 2, 182, 0, 229, 2, 159, 0, 7, 4, 167, 0, 4, 3, 184, 0, 232]
abbrev dktX1_knock_1 : List UInt8 := dkwX1_knock_1 ++ dktX1_knock_2
def dkwX1_knock_0 : List UInt8 := [4, 188, 10, 89, 3, 27, 79, 184, 0, 151, 61, 42, 180, 0, 38, 180, 0, 196, 28, 50, 193, 0, 188]
abbrev dktX1_knock_0 : List UInt8 := dkwX1_knock_0 ++ dktX1_knock_1
theorem dksX1_knock_0 : cX1_knock.data.toList.drop 0 = dktX1_knock_0 := by decide +kernel
theorem dksX1_knock_1 : cX1_knock.data.toList.drop 23 = dktX1_knock_1 := dk_seg dksX1_knock_0 23 rfl rfl
theorem dksX1_knock_2 : cX1_knock.data.toList.drop 47 = dktX1_knock_2 := dk_seg dksX1_knock_1 24 rfl rfl
theorem dksX1_knock_3 : cX1_knock.data.toList.drop 69 = dktX1_knock_3 := dk_seg dksX1_knock_2 22 rfl rfl
theorem dX1_knock_0 : decode cX1_knock 0 = .ok (.iconst 1, 1) := dk_4 (dk_at dksX1_knock_0 0 rfl rfl)
theorem dX1_knock_1 : decode cX1_knock 1 = .ok (.newarray .int, 2) := dk_188_10 (dk_at dksX1_knock_0 1 rfl rfl)
theorem dX1_knock_3 : decode cX1_knock 3 = .ok (.dup, 1) := dk_89 (dk_at dksX1_knock_0 3 rfl rfl)
theorem dX1_knock_4 : decode cX1_knock 4 = .ok (.iconst 0, 1) := dk_3 (dk_at dksX1_knock_0 4 rfl rfl)
theorem dX1_knock_5 : decode cX1_knock 5 = .ok (.iload_n 1, 1) := dk_27 (dk_at dksX1_knock_0 5 rfl rfl)
theorem dX1_knock_6 : decode cX1_knock 6 = .ok (.iastore, 1) := dk_79 (dk_at dksX1_knock_0 6 rfl rfl)
theorem dX1_knock_7 : decode cX1_knock 7 = .ok (.invokestatic 151, 3) := dk_184 0 151 (dk_at dksX1_knock_0 7 rfl rfl)
theorem dX1_knock_10 : decode cX1_knock 10 = .ok (.istore_n 2, 1) := dk_61 (dk_at dksX1_knock_0 10 rfl rfl)
theorem dX1_knock_11 : decode cX1_knock 11 = .ok (.aload_n 0, 1) := dk_42 (dk_at dksX1_knock_0 11 rfl rfl)
theorem dX1_knock_12 : decode cX1_knock 12 = .ok (.getfield 38, 3) := dk_180 0 38 (dk_at dksX1_knock_0 12 rfl rfl)
theorem dX1_knock_15 : decode cX1_knock 15 = .ok (.getfield 196, 3) := dk_180 0 196 (dk_at dksX1_knock_0 15 rfl rfl)
theorem dX1_knock_18 : decode cX1_knock 18 = .ok (.iload_n 2, 1) := dk_28 (dk_at dksX1_knock_0 18 rfl rfl)
theorem dX1_knock_19 : decode cX1_knock 19 = .ok (.aaload, 1) := dk_50 (dk_at dksX1_knock_0 19 rfl rfl)
theorem dX1_knock_20 : decode cX1_knock 20 = .ok (.instanceof 188, 3) := dk_193 0 188 (dk_at dksX1_knock_0 20 rfl rfl)
theorem dX1_knock_23 : decode cX1_knock 23 = .ok (.ifCond .eq 20, 3) := dk_153 0 20 (dk_at dksX1_knock_1 0 rfl rfl)
theorem dX1_knock_26 : decode cX1_knock 26 = .ok (.aload_n 0, 1) := dk_42 (dk_at dksX1_knock_1 3 rfl rfl)
theorem dX1_knock_27 : decode cX1_knock 27 = .ok (.getfield 38, 3) := dk_180 0 38 (dk_at dksX1_knock_1 4 rfl rfl)
theorem dX1_knock_30 : decode cX1_knock 30 = .ok (.iload_n 2, 1) := dk_28 (dk_at dksX1_knock_1 7 rfl rfl)
theorem dX1_knock_31 : decode cX1_knock 31 = .ok (.iconst (-1), 1) := dk_2 (dk_at dksX1_knock_1 8 rfl rfl)
theorem dX1_knock_32 : decode cX1_knock 32 = .ok (.invokevirtual 229, 3) := dk_182 0 229 (dk_at dksX1_knock_1 9 rfl rfl)
theorem dX1_knock_35 : decode cX1_knock 35 = .ok (.iconst (-1), 1) := dk_2 (dk_at dksX1_knock_1 12 rfl rfl)
theorem dX1_knock_36 : decode cX1_knock 36 = .ok (.if_icmp .eq 7, 3) := dk_159 0 7 (dk_at dksX1_knock_1 13 rfl rfl)
theorem dX1_knock_39 : decode cX1_knock 39 = .ok (.iconst 1, 1) := dk_4 (dk_at dksX1_knock_1 16 rfl rfl)
theorem dX1_knock_40 : decode cX1_knock 40 = .ok (.goto 4, 3) := dk_167 0 4 (dk_at dksX1_knock_1 17 rfl rfl)
theorem dX1_knock_43 : decode cX1_knock 43 = .ok (.iconst 0, 1) := dk_3 (dk_at dksX1_knock_1 20 rfl rfl)
theorem dX1_knock_44 : decode cX1_knock 44 = .ok (.invokestatic 232, 3) := dk_184 0 232 (dk_at dksX1_knock_1 21 rfl rfl)
theorem dX1_knock_47 : decode cX1_knock 47 = .ok (.iconst 2, 1) := dk_5 (dk_at dksX1_knock_2 0 rfl rfl)
theorem dX1_knock_48 : decode cX1_knock 48 = .ok (.aload_n 0, 1) := dk_42 (dk_at dksX1_knock_2 1 rfl rfl)
theorem dX1_knock_49 : decode cX1_knock 49 = .ok (.getfield 38, 3) := dk_180 0 38 (dk_at dksX1_knock_2 2 rfl rfl)
theorem dX1_knock_52 : decode cX1_knock 52 = .ok (.iload_n 2, 1) := dk_28 (dk_at dksX1_knock_2 5 rfl rfl)
theorem dX1_knock_53 : decode cX1_knock 53 = .ok (.invokevirtual 207, 3) := dk_182 0 207 (dk_at dksX1_knock_2 6 rfl rfl)
theorem dX1_knock_56 : decode cX1_knock 56 = .ok (.imul, 1) := dk_104 (dk_at dksX1_knock_2 9 rfl rfl)
theorem dX1_knock_57 : decode cX1_knock 57 = .ok (.istore_n 3, 1) := dk_62 (dk_at dksX1_knock_2 10 rfl rfl)
theorem dX1_knock_58 : decode cX1_knock 58 = .ok (.iconst 0, 1) := dk_3 (dk_at dksX1_knock_2 11 rfl rfl)
theorem dX1_knock_59 : decode cX1_knock 59 = .ok (.istore 4, 2) := dk_54 4 (dk_at dksX1_knock_2 12 rfl rfl)
theorem dX1_knock_61 : decode cX1_knock 61 = .ok (.iload 4, 2) := dk_21 4 (dk_at dksX1_knock_2 14 rfl rfl)
theorem dX1_knock_63 : decode cX1_knock 63 = .ok (.iconst 4, 1) := dk_7 (dk_at dksX1_knock_2 16 rfl rfl)
theorem dX1_knock_64 : decode cX1_knock 64 = .ok (.if_icmp .ge 25, 3) := dk_162 0 25 (dk_at dksX1_knock_2 17 rfl rfl)
theorem dX1_knock_67 : decode cX1_knock 67 = .ok (.iload_n 3, 1) := dk_29 (dk_at dksX1_knock_2 20 rfl rfl)
theorem dX1_knock_68 : decode cX1_knock 68 = .ok (.aload_n 0, 1) := dk_42 (dk_at dksX1_knock_2 21 rfl rfl)
theorem dX1_knock_69 : decode cX1_knock 69 = .ok (.getfield 38, 3) := dk_180 0 38 (dk_at dksX1_knock_3 0 rfl rfl)
theorem dX1_knock_72 : decode cX1_knock 72 = .ok (.iload_n 2, 1) := dk_28 (dk_at dksX1_knock_3 3 rfl rfl)
theorem dX1_knock_73 : decode cX1_knock 73 = .ok (.iload 4, 2) := dk_21 4 (dk_at dksX1_knock_3 4 rfl rfl)
theorem dX1_knock_75 : decode cX1_knock 75 = .ok (.invokestatic 51, 3) := dk_184 0 51 (dk_at dksX1_knock_3 6 rfl rfl)
theorem dX1_knock_78 : decode cX1_knock 78 = .ok (.invokevirtual 207, 3) := dk_182 0 207 (dk_at dksX1_knock_3 9 rfl rfl)
theorem dX1_knock_81 : decode cX1_knock 81 = .ok (.iadd, 1) := dk_96 (dk_at dksX1_knock_3 12 rfl rfl)
theorem dX1_knock_82 : decode cX1_knock 82 = .ok (.istore_n 3, 1) := dk_62 (dk_at dksX1_knock_3 13 rfl rfl)
theorem dX1_knock_83 : decode cX1_knock 83 = .ok (.iinc 4 1, 3) := dk_132 4 1 (dk_at dksX1_knock_3 14 rfl rfl)
theorem dX1_knock_86 : decode cX1_knock 86 = .ok (.goto (-25), 3) := dk_167 255 231 (dk_at dksX1_knock_3 17 rfl rfl)
theorem dX1_knock_89 : decode cX1_knock 89 = .ok (.iload_n 3, 1) := dk_29 (dk_at dksX1_knock_3 20 rfl rfl)
theorem dX1_knock_90 : decode cX1_knock 90 = .ok (.ireturn, 1) := dk_172 (dk_at dksX1_knock_3 21 rfl rfl)
abbrev cX1_requireState : ByteArray := prog_1_method_4_code
def yX1_requireState : MethodName := ⟨RX1, "requireState", "(Z)V"⟩
def dkwX1_requireState_0 : List UInt8 := [26, 154, 0, 11, 187, 0, 10, 89, 183, 0, 12, 191, 177]
abbrev dktX1_requireState_0 : List UInt8 := dkwX1_requireState_0 ++ []
theorem dksX1_requireState_0 : cX1_requireState.data.toList.drop 0 = dktX1_requireState_0 := by decide +kernel
theorem dX1_requireState_0 : decode cX1_requireState 0 = .ok (.iload_n 0, 1) := dk_26 (dk_at dksX1_requireState_0 0 rfl rfl)
theorem dX1_requireState_1 : decode cX1_requireState 1 = .ok (.ifCond .ne 11, 3) := dk_154 0 11 (dk_at dksX1_requireState_0 1 rfl rfl)
theorem dX1_requireState_4 : decode cX1_requireState 4 = .ok (.new 10, 3) := dk_187 0 10 (dk_at dksX1_requireState_0 4 rfl rfl)
theorem dX1_requireState_7 : decode cX1_requireState 7 = .ok (.dup, 1) := dk_89 (dk_at dksX1_requireState_0 7 rfl rfl)
theorem dX1_requireState_8 : decode cX1_requireState 8 = .ok (.invokespecial 12, 3) := dk_183 0 12 (dk_at dksX1_requireState_0 8 rfl rfl)
theorem dX1_requireState_11 : decode cX1_requireState 11 = .ok (.athrow, 1) := dk_191 (dk_at dksX1_requireState_0 11 rfl rfl)
theorem dX1_requireState_12 : decode cX1_requireState 12 = .ok (.return_, 1) := dk_177 (dk_at dksX1_requireState_0 12 rfl rfl)
abbrev cX1_sink : ByteArray := prog_1_method_28_code
def yX1_sink : MethodName := ⟨RX1, "sink", "(I)I"⟩
def dkwX1_sink_0 : List UInt8 := [42, 178, 0, 235, 4, 188, 10, 89, 3, 27, 79, 182, 0, 159, 172]
abbrev dktX1_sink_0 : List UInt8 := dkwX1_sink_0 ++ []
theorem dksX1_sink_0 : cX1_sink.data.toList.drop 0 = dktX1_sink_0 := by decide +kernel
theorem dX1_sink_0 : decode cX1_sink 0 = .ok (.aload_n 0, 1) := dk_42 (dk_at dksX1_sink_0 0 rfl rfl)
theorem dX1_sink_1 : decode cX1_sink 1 = .ok (.getstatic 235, 3) := dk_178 0 235 (dk_at dksX1_sink_0 1 rfl rfl)
theorem dX1_sink_4 : decode cX1_sink 4 = .ok (.iconst 1, 1) := dk_4 (dk_at dksX1_sink_0 4 rfl rfl)
theorem dX1_sink_5 : decode cX1_sink 5 = .ok (.newarray .int, 2) := dk_188_10 (dk_at dksX1_sink_0 5 rfl rfl)
theorem dX1_sink_7 : decode cX1_sink 7 = .ok (.dup, 1) := dk_89 (dk_at dksX1_sink_0 7 rfl rfl)
theorem dX1_sink_8 : decode cX1_sink 8 = .ok (.iconst 0, 1) := dk_3 (dk_at dksX1_sink_0 8 rfl rfl)
theorem dX1_sink_9 : decode cX1_sink 9 = .ok (.iload_n 1, 1) := dk_27 (dk_at dksX1_sink_0 9 rfl rfl)
theorem dX1_sink_10 : decode cX1_sink 10 = .ok (.iastore, 1) := dk_79 (dk_at dksX1_sink_0 10 rfl rfl)
theorem dX1_sink_11 : decode cX1_sink 11 = .ok (.invokevirtual 159, 3) := dk_182 0 159 (dk_at dksX1_sink_0 11 rfl rfl)
theorem dX1_sink_14 : decode cX1_sink 14 = .ok (.ireturn, 1) := dk_172 (dk_at dksX1_sink_0 14 rfl rfl)
abbrev cX1_dig : ByteArray := prog_1_method_29_code
def yX1_dig : MethodName := ⟨RX1, "dig", "(IIZ)I"⟩
def dkwX1_dig_1 : List UInt8 := [167, 0, 4, 3, 79, 182, 0, 159, 172]
abbrev dktX1_dig_1 : List UInt8 := dkwX1_dig_1 ++ []
def dkwX1_dig_0 : List UInt8 := [42, 178, 0, 238, 6, 188, 10, 89, 3, 27, 79, 89, 4, 28, 79, 89, 5, 29, 153, 0, 7, 4]
abbrev dktX1_dig_0 : List UInt8 := dkwX1_dig_0 ++ dktX1_dig_1
theorem dksX1_dig_0 : cX1_dig.data.toList.drop 0 = dktX1_dig_0 := by decide +kernel
theorem dksX1_dig_1 : cX1_dig.data.toList.drop 22 = dktX1_dig_1 := dk_seg dksX1_dig_0 22 rfl rfl
theorem dX1_dig_0 : decode cX1_dig 0 = .ok (.aload_n 0, 1) := dk_42 (dk_at dksX1_dig_0 0 rfl rfl)
theorem dX1_dig_1 : decode cX1_dig 1 = .ok (.getstatic 238, 3) := dk_178 0 238 (dk_at dksX1_dig_0 1 rfl rfl)
theorem dX1_dig_4 : decode cX1_dig 4 = .ok (.iconst 3, 1) := dk_6 (dk_at dksX1_dig_0 4 rfl rfl)
theorem dX1_dig_5 : decode cX1_dig 5 = .ok (.newarray .int, 2) := dk_188_10 (dk_at dksX1_dig_0 5 rfl rfl)
theorem dX1_dig_7 : decode cX1_dig 7 = .ok (.dup, 1) := dk_89 (dk_at dksX1_dig_0 7 rfl rfl)
theorem dX1_dig_8 : decode cX1_dig 8 = .ok (.iconst 0, 1) := dk_3 (dk_at dksX1_dig_0 8 rfl rfl)
theorem dX1_dig_9 : decode cX1_dig 9 = .ok (.iload_n 1, 1) := dk_27 (dk_at dksX1_dig_0 9 rfl rfl)
theorem dX1_dig_10 : decode cX1_dig 10 = .ok (.iastore, 1) := dk_79 (dk_at dksX1_dig_0 10 rfl rfl)
theorem dX1_dig_11 : decode cX1_dig 11 = .ok (.dup, 1) := dk_89 (dk_at dksX1_dig_0 11 rfl rfl)
theorem dX1_dig_12 : decode cX1_dig 12 = .ok (.iconst 1, 1) := dk_4 (dk_at dksX1_dig_0 12 rfl rfl)
theorem dX1_dig_13 : decode cX1_dig 13 = .ok (.iload_n 2, 1) := dk_28 (dk_at dksX1_dig_0 13 rfl rfl)
theorem dX1_dig_14 : decode cX1_dig 14 = .ok (.iastore, 1) := dk_79 (dk_at dksX1_dig_0 14 rfl rfl)
theorem dX1_dig_15 : decode cX1_dig 15 = .ok (.dup, 1) := dk_89 (dk_at dksX1_dig_0 15 rfl rfl)
theorem dX1_dig_16 : decode cX1_dig 16 = .ok (.iconst 2, 1) := dk_5 (dk_at dksX1_dig_0 16 rfl rfl)
theorem dX1_dig_17 : decode cX1_dig 17 = .ok (.iload_n 3, 1) := dk_29 (dk_at dksX1_dig_0 17 rfl rfl)
theorem dX1_dig_18 : decode cX1_dig 18 = .ok (.ifCond .eq 7, 3) := dk_153 0 7 (dk_at dksX1_dig_0 18 rfl rfl)
theorem dX1_dig_21 : decode cX1_dig 21 = .ok (.iconst 1, 1) := dk_4 (dk_at dksX1_dig_0 21 rfl rfl)
theorem dX1_dig_22 : decode cX1_dig 22 = .ok (.goto 4, 3) := dk_167 0 4 (dk_at dksX1_dig_1 0 rfl rfl)
theorem dX1_dig_25 : decode cX1_dig 25 = .ok (.iconst 0, 1) := dk_3 (dk_at dksX1_dig_1 3 rfl rfl)
theorem dX1_dig_26 : decode cX1_dig 26 = .ok (.iastore, 1) := dk_79 (dk_at dksX1_dig_1 4 rfl rfl)
theorem dX1_dig_27 : decode cX1_dig 27 = .ok (.invokevirtual 159, 3) := dk_182 0 159 (dk_at dksX1_dig_1 5 rfl rfl)
theorem dX1_dig_30 : decode cX1_dig 30 = .ok (.ireturn, 1) := dk_172 (dk_at dksX1_dig_1 8 rfl rfl)
abbrev cX1_prop : ByteArray := prog_1_method_30_code
def yX1_prop : MethodName := ⟨RX1, "prop", "(I)I"⟩
def dkwX1_prop_0 : List UInt8 := [42, 178, 0, 241, 4, 188, 10, 89, 3, 27, 79, 182, 0, 159, 172]
abbrev dktX1_prop_0 : List UInt8 := dkwX1_prop_0 ++ []
theorem dksX1_prop_0 : cX1_prop.data.toList.drop 0 = dktX1_prop_0 := by decide +kernel
theorem dX1_prop_0 : decode cX1_prop 0 = .ok (.aload_n 0, 1) := dk_42 (dk_at dksX1_prop_0 0 rfl rfl)
theorem dX1_prop_1 : decode cX1_prop 1 = .ok (.getstatic 241, 3) := dk_178 0 241 (dk_at dksX1_prop_0 1 rfl rfl)
theorem dX1_prop_4 : decode cX1_prop 4 = .ok (.iconst 1, 1) := dk_4 (dk_at dksX1_prop_0 4 rfl rfl)
theorem dX1_prop_5 : decode cX1_prop 5 = .ok (.newarray .int, 2) := dk_188_10 (dk_at dksX1_prop_0 5 rfl rfl)
theorem dX1_prop_7 : decode cX1_prop 7 = .ok (.dup, 1) := dk_89 (dk_at dksX1_prop_0 7 rfl rfl)
theorem dX1_prop_8 : decode cX1_prop 8 = .ok (.iconst 0, 1) := dk_3 (dk_at dksX1_prop_0 8 rfl rfl)
theorem dX1_prop_9 : decode cX1_prop 9 = .ok (.iload_n 1, 1) := dk_27 (dk_at dksX1_prop_0 9 rfl rfl)
theorem dX1_prop_10 : decode cX1_prop 10 = .ok (.iastore, 1) := dk_79 (dk_at dksX1_prop_0 10 rfl rfl)
theorem dX1_prop_11 : decode cX1_prop 11 = .ok (.invokevirtual 159, 3) := dk_182 0 159 (dk_at dksX1_prop_0 11 rfl rfl)
theorem dX1_prop_14 : decode cX1_prop 14 = .ok (.ireturn, 1) := dk_172 (dk_at dksX1_prop_0 14 rfl rfl)
abbrev cX1_unprop : ByteArray := prog_1_method_31_code
def yX1_unprop : MethodName := ⟨RX1, "unprop", "(I)I"⟩
def dkwX1_unprop_0 : List UInt8 := [42, 178, 0, 244, 4, 188, 10, 89, 3, 27, 79, 182, 0, 159, 172]
abbrev dktX1_unprop_0 : List UInt8 := dkwX1_unprop_0 ++ []
theorem dksX1_unprop_0 : cX1_unprop.data.toList.drop 0 = dktX1_unprop_0 := by decide +kernel
theorem dX1_unprop_0 : decode cX1_unprop 0 = .ok (.aload_n 0, 1) := dk_42 (dk_at dksX1_unprop_0 0 rfl rfl)
theorem dX1_unprop_1 : decode cX1_unprop 1 = .ok (.getstatic 244, 3) := dk_178 0 244 (dk_at dksX1_unprop_0 1 rfl rfl)
theorem dX1_unprop_4 : decode cX1_unprop 4 = .ok (.iconst 1, 1) := dk_4 (dk_at dksX1_unprop_0 4 rfl rfl)
theorem dX1_unprop_5 : decode cX1_unprop 5 = .ok (.newarray .int, 2) := dk_188_10 (dk_at dksX1_unprop_0 5 rfl rfl)
theorem dX1_unprop_7 : decode cX1_unprop 7 = .ok (.dup, 1) := dk_89 (dk_at dksX1_unprop_0 7 rfl rfl)
theorem dX1_unprop_8 : decode cX1_unprop 8 = .ok (.iconst 0, 1) := dk_3 (dk_at dksX1_unprop_0 8 rfl rfl)
theorem dX1_unprop_9 : decode cX1_unprop 9 = .ok (.iload_n 1, 1) := dk_27 (dk_at dksX1_unprop_0 9 rfl rfl)
theorem dX1_unprop_10 : decode cX1_unprop 10 = .ok (.iastore, 1) := dk_79 (dk_at dksX1_unprop_0 10 rfl rfl)
theorem dX1_unprop_11 : decode cX1_unprop 11 = .ok (.invokevirtual 159, 3) := dk_182 0 159 (dk_at dksX1_unprop_0 11 rfl rfl)
theorem dX1_unprop_14 : decode cX1_unprop 14 = .ok (.ireturn, 1) := dk_172 (dk_at dksX1_unprop_0 14 rfl rfl)
abbrev cX1_close : ByteArray := prog_1_method_32_code
def yX1_close : MethodName := ⟨RX1, "close", "(I)I"⟩
def dkwX1_close_0 : List UInt8 := [42, 178, 0, 247, 4, 188, 10, 89, 3, 27, 79, 182, 0, 159, 172]
abbrev dktX1_close_0 : List UInt8 := dkwX1_close_0 ++ []
theorem dksX1_close_0 : cX1_close.data.toList.drop 0 = dktX1_close_0 := by decide +kernel
theorem dX1_close_0 : decode cX1_close 0 = .ok (.aload_n 0, 1) := dk_42 (dk_at dksX1_close_0 0 rfl rfl)
theorem dX1_close_1 : decode cX1_close 1 = .ok (.getstatic 247, 3) := dk_178 0 247 (dk_at dksX1_close_0 1 rfl rfl)
theorem dX1_close_4 : decode cX1_close 4 = .ok (.iconst 1, 1) := dk_4 (dk_at dksX1_close_0 4 rfl rfl)
theorem dX1_close_5 : decode cX1_close 5 = .ok (.newarray .int, 2) := dk_188_10 (dk_at dksX1_close_0 5 rfl rfl)
theorem dX1_close_7 : decode cX1_close 7 = .ok (.dup, 1) := dk_89 (dk_at dksX1_close_0 7 rfl rfl)
theorem dX1_close_8 : decode cX1_close 8 = .ok (.iconst 0, 1) := dk_3 (dk_at dksX1_close_0 8 rfl rfl)
theorem dX1_close_9 : decode cX1_close 9 = .ok (.iload_n 1, 1) := dk_27 (dk_at dksX1_close_0 9 rfl rfl)
theorem dX1_close_10 : decode cX1_close 10 = .ok (.iastore, 1) := dk_79 (dk_at dksX1_close_0 10 rfl rfl)
theorem dX1_close_11 : decode cX1_close 11 = .ok (.invokevirtual 159, 3) := dk_182 0 159 (dk_at dksX1_close_0 11 rfl rfl)
theorem dX1_close_14 : decode cX1_close 14 = .ok (.ireturn, 1) := dk_172 (dk_at dksX1_close_0 14 rfl rfl)
abbrev cX1_shaft : ByteArray := prog_1_method_34_code
def yX1_shaft : MethodName := ⟨RX1, "shaft", "(II)I"⟩
def dkwX1_shaft_4 : List UInt8 := [182, 1, 4, 172, 45, 180, 0, 77, 153, 0, 7, 4, 167, 0, 4, 3, 172, 42, 27, 182, 1, 7, 172]
abbrev dktX1_shaft_4 : List UInt8 := dkwX1_shaft_4 ++ []
def dkwX1_shaft_3 : List UInt8 := [45, 180, 0, 253, 172, 42, 180, 0, 38, 27, 182, 0, 254, 172, 45, 180, 1, 1, 172, 42, 180, 0, 38, 27]
abbrev dktX1_shaft_3 : List UInt8 := dkwX1_shaft_3 ++ dktX1_shaft_4
def dkwX1_shaft_2 : List UInt8 := [170, 0, 0, 0, 0, 0, 76, 0, 0, 0, 0, 0, 0, 0, 4, 0, 0, 0, 35, 0, 0, 0, 40, 0, 0, 0, 49, 0, 0, 0, 54, 0, 0, 0, 63]
abbrev dktX1_shaft_2 : List UInt8 := dkwX1_shaft_2 ++ dktX1_shaft_3
def dkwX1_shaft_1 : List UInt8 := [28]
abbrev dktX1_shaft_1 : List UInt8 := dkwX1_shaft_1 ++ dktX1_shaft_2
def dkwX1_shaft_0 : List UInt8 := [42, 180, 0, 38, 27, 182, 0, 250, 78, 4, 188, 4, 89, 3, 28, 3, 8, 184, 0, 18, 84, 184, 0, 192]
abbrev dktX1_shaft_0 : List UInt8 := dkwX1_shaft_0 ++ dktX1_shaft_1
theorem dksX1_shaft_0 : cX1_shaft.data.toList.drop 0 = dktX1_shaft_0 := by decide +kernel
theorem dksX1_shaft_1 : cX1_shaft.data.toList.drop 24 = dktX1_shaft_1 := dk_seg dksX1_shaft_0 24 rfl rfl
theorem dksX1_shaft_2 : cX1_shaft.data.toList.drop 25 = dktX1_shaft_2 := dk_seg dksX1_shaft_1 1 rfl rfl
theorem dksX1_shaft_3 : cX1_shaft.data.toList.drop 60 = dktX1_shaft_3 := dk_seg dksX1_shaft_2 35 rfl rfl
theorem dksX1_shaft_4 : cX1_shaft.data.toList.drop 84 = dktX1_shaft_4 := dk_seg dksX1_shaft_3 24 rfl rfl
theorem dX1_shaft_0 : decode cX1_shaft 0 = .ok (.aload_n 0, 1) := dk_42 (dk_at dksX1_shaft_0 0 rfl rfl)
theorem dX1_shaft_1 : decode cX1_shaft 1 = .ok (.getfield 38, 3) := dk_180 0 38 (dk_at dksX1_shaft_0 1 rfl rfl)
theorem dX1_shaft_4 : decode cX1_shaft 4 = .ok (.iload_n 1, 1) := dk_27 (dk_at dksX1_shaft_0 4 rfl rfl)
theorem dX1_shaft_5 : decode cX1_shaft 5 = .ok (.invokevirtual 250, 3) := dk_182 0 250 (dk_at dksX1_shaft_0 5 rfl rfl)
theorem dX1_shaft_8 : decode cX1_shaft 8 = .ok (.astore_n 3, 1) := dk_78 (dk_at dksX1_shaft_0 8 rfl rfl)
theorem dX1_shaft_9 : decode cX1_shaft 9 = .ok (.iconst 1, 1) := dk_4 (dk_at dksX1_shaft_0 9 rfl rfl)
theorem dX1_shaft_10 : decode cX1_shaft 10 = .ok (.newarray .boolean, 2) := dk_188_4 (dk_at dksX1_shaft_0 10 rfl rfl)
theorem dX1_shaft_12 : decode cX1_shaft 12 = .ok (.dup, 1) := dk_89 (dk_at dksX1_shaft_0 12 rfl rfl)
theorem dX1_shaft_13 : decode cX1_shaft 13 = .ok (.iconst 0, 1) := dk_3 (dk_at dksX1_shaft_0 13 rfl rfl)
theorem dX1_shaft_14 : decode cX1_shaft 14 = .ok (.iload_n 2, 1) := dk_28 (dk_at dksX1_shaft_0 14 rfl rfl)
theorem dX1_shaft_15 : decode cX1_shaft 15 = .ok (.iconst 0, 1) := dk_3 (dk_at dksX1_shaft_0 15 rfl rfl)
theorem dX1_shaft_16 : decode cX1_shaft 16 = .ok (.iconst 5, 1) := dk_8 (dk_at dksX1_shaft_0 16 rfl rfl)
theorem dX1_shaft_17 : decode cX1_shaft 17 = .ok (.invokestatic 18, 3) := dk_184 0 18 (dk_at dksX1_shaft_0 17 rfl rfl)
theorem dX1_shaft_20 : decode cX1_shaft 20 = .ok (.bastore, 1) := dk_84 (dk_at dksX1_shaft_0 20 rfl rfl)
theorem dX1_shaft_21 : decode cX1_shaft 21 = .ok (.invokestatic 192, 3) := dk_184 0 192 (dk_at dksX1_shaft_0 21 rfl rfl)
theorem dX1_shaft_24 : decode cX1_shaft 24 = .ok (.iload_n 2, 1) := dk_28 (dk_at dksX1_shaft_1 0 rfl rfl)
theorem dX1_shaft_25 : decode cX1_shaft 25 = .ok (.tableswitch 76 0 4 #[35, 40, 49, 54, 63], 35) := by decide +kernel
theorem dX1_shaft_60 : decode cX1_shaft 60 = .ok (.aload_n 3, 1) := dk_45 (dk_at dksX1_shaft_3 0 rfl rfl)
theorem dX1_shaft_61 : decode cX1_shaft 61 = .ok (.getfield 253, 3) := dk_180 0 253 (dk_at dksX1_shaft_3 1 rfl rfl)
theorem dX1_shaft_64 : decode cX1_shaft 64 = .ok (.ireturn, 1) := dk_172 (dk_at dksX1_shaft_3 4 rfl rfl)
theorem dX1_shaft_65 : decode cX1_shaft 65 = .ok (.aload_n 0, 1) := dk_42 (dk_at dksX1_shaft_3 5 rfl rfl)
theorem dX1_shaft_66 : decode cX1_shaft 66 = .ok (.getfield 38, 3) := dk_180 0 38 (dk_at dksX1_shaft_3 6 rfl rfl)
theorem dX1_shaft_69 : decode cX1_shaft 69 = .ok (.iload_n 1, 1) := dk_27 (dk_at dksX1_shaft_3 9 rfl rfl)
theorem dX1_shaft_70 : decode cX1_shaft 70 = .ok (.invokevirtual 254, 3) := dk_182 0 254 (dk_at dksX1_shaft_3 10 rfl rfl)
theorem dX1_shaft_73 : decode cX1_shaft 73 = .ok (.ireturn, 1) := dk_172 (dk_at dksX1_shaft_3 13 rfl rfl)
theorem dX1_shaft_74 : decode cX1_shaft 74 = .ok (.aload_n 3, 1) := dk_45 (dk_at dksX1_shaft_3 14 rfl rfl)
theorem dX1_shaft_75 : decode cX1_shaft 75 = .ok (.getfield 257, 3) := dk_180 1 1 (dk_at dksX1_shaft_3 15 rfl rfl)
theorem dX1_shaft_78 : decode cX1_shaft 78 = .ok (.ireturn, 1) := dk_172 (dk_at dksX1_shaft_3 18 rfl rfl)
theorem dX1_shaft_79 : decode cX1_shaft 79 = .ok (.aload_n 0, 1) := dk_42 (dk_at dksX1_shaft_3 19 rfl rfl)
theorem dX1_shaft_80 : decode cX1_shaft 80 = .ok (.getfield 38, 3) := dk_180 0 38 (dk_at dksX1_shaft_3 20 rfl rfl)
theorem dX1_shaft_83 : decode cX1_shaft 83 = .ok (.iload_n 1, 1) := dk_27 (dk_at dksX1_shaft_3 23 rfl rfl)
theorem dX1_shaft_84 : decode cX1_shaft 84 = .ok (.invokevirtual 260, 3) := dk_182 1 4 (dk_at dksX1_shaft_4 0 rfl rfl)
theorem dX1_shaft_87 : decode cX1_shaft 87 = .ok (.ireturn, 1) := dk_172 (dk_at dksX1_shaft_4 3 rfl rfl)
theorem dX1_shaft_88 : decode cX1_shaft 88 = .ok (.aload_n 3, 1) := dk_45 (dk_at dksX1_shaft_4 4 rfl rfl)
theorem dX1_shaft_89 : decode cX1_shaft 89 = .ok (.getfield 77, 3) := dk_180 0 77 (dk_at dksX1_shaft_4 5 rfl rfl)
theorem dX1_shaft_92 : decode cX1_shaft 92 = .ok (.ifCond .eq 7, 3) := dk_153 0 7 (dk_at dksX1_shaft_4 8 rfl rfl)
theorem dX1_shaft_95 : decode cX1_shaft 95 = .ok (.iconst 1, 1) := dk_4 (dk_at dksX1_shaft_4 11 rfl rfl)
theorem dX1_shaft_96 : decode cX1_shaft 96 = .ok (.goto 4, 3) := dk_167 0 4 (dk_at dksX1_shaft_4 12 rfl rfl)
theorem dX1_shaft_99 : decode cX1_shaft 99 = .ok (.iconst 0, 1) := dk_3 (dk_at dksX1_shaft_4 15 rfl rfl)
theorem dX1_shaft_100 : decode cX1_shaft 100 = .ok (.ireturn, 1) := dk_172 (dk_at dksX1_shaft_4 16 rfl rfl)
theorem dX1_shaft_101 : decode cX1_shaft 101 = .ok (.aload_n 0, 1) := dk_42 (dk_at dksX1_shaft_4 17 rfl rfl)
theorem dX1_shaft_102 : decode cX1_shaft 102 = .ok (.iload_n 1, 1) := dk_27 (dk_at dksX1_shaft_4 18 rfl rfl)
theorem dX1_shaft_103 : decode cX1_shaft 103 = .ok (.invokevirtual 263, 3) := dk_182 1 7 (dk_at dksX1_shaft_4 19 rfl rfl)
theorem dX1_shaft_106 : decode cX1_shaft 106 = .ok (.ireturn, 1) := dk_172 (dk_at dksX1_shaft_4 22 rfl rfl)
abbrev cX1_reached : ByteArray := prog_1_method_33_code
def yX1_reached : MethodName := ⟨RX1, "reached", "(I)I"⟩
def dkwX1_reached_1 : List UInt8 := [3, 96, 61, 132, 3, 1, 167, 255, 230, 28, 172]
abbrev dktX1_reached_1 : List UInt8 := dkwX1_reached_1 ++ []
def dkwX1_reached_0 : List UInt8 := [3, 61, 3, 62, 29, 16, 64, 162, 0, 26, 28, 42, 27, 29, 182, 0, 86, 198, 0, 7, 4, 167, 0, 4]
abbrev dktX1_reached_0 : List UInt8 := dkwX1_reached_0 ++ dktX1_reached_1
theorem dksX1_reached_0 : cX1_reached.data.toList.drop 0 = dktX1_reached_0 := by decide +kernel
theorem dksX1_reached_1 : cX1_reached.data.toList.drop 24 = dktX1_reached_1 := dk_seg dksX1_reached_0 24 rfl rfl
theorem dX1_reached_0 : decode cX1_reached 0 = .ok (.iconst 0, 1) := dk_3 (dk_at dksX1_reached_0 0 rfl rfl)
theorem dX1_reached_1 : decode cX1_reached 1 = .ok (.istore_n 2, 1) := dk_61 (dk_at dksX1_reached_0 1 rfl rfl)
theorem dX1_reached_2 : decode cX1_reached 2 = .ok (.iconst 0, 1) := dk_3 (dk_at dksX1_reached_0 2 rfl rfl)
theorem dX1_reached_3 : decode cX1_reached 3 = .ok (.istore_n 3, 1) := dk_62 (dk_at dksX1_reached_0 3 rfl rfl)
theorem dX1_reached_4 : decode cX1_reached 4 = .ok (.iload_n 3, 1) := dk_29 (dk_at dksX1_reached_0 4 rfl rfl)
theorem dX1_reached_5 : decode cX1_reached 5 = .ok (.bipush 64, 2) := dk_16 64 (dk_at dksX1_reached_0 5 rfl rfl)
theorem dX1_reached_7 : decode cX1_reached 7 = .ok (.if_icmp .ge 26, 3) := dk_162 0 26 (dk_at dksX1_reached_0 7 rfl rfl)
theorem dX1_reached_10 : decode cX1_reached 10 = .ok (.iload_n 2, 1) := dk_28 (dk_at dksX1_reached_0 10 rfl rfl)
theorem dX1_reached_11 : decode cX1_reached 11 = .ok (.aload_n 0, 1) := dk_42 (dk_at dksX1_reached_0 11 rfl rfl)
theorem dX1_reached_12 : decode cX1_reached 12 = .ok (.iload_n 1, 1) := dk_27 (dk_at dksX1_reached_0 12 rfl rfl)
theorem dX1_reached_13 : decode cX1_reached 13 = .ok (.iload_n 3, 1) := dk_29 (dk_at dksX1_reached_0 13 rfl rfl)
theorem dX1_reached_14 : decode cX1_reached 14 = .ok (.invokevirtual 86, 3) := dk_182 0 86 (dk_at dksX1_reached_0 14 rfl rfl)
theorem dX1_reached_17 : decode cX1_reached 17 = .ok (.ifnull 7, 3) := dk_198 0 7 (dk_at dksX1_reached_0 17 rfl rfl)
theorem dX1_reached_20 : decode cX1_reached 20 = .ok (.iconst 1, 1) := dk_4 (dk_at dksX1_reached_0 20 rfl rfl)
theorem dX1_reached_21 : decode cX1_reached 21 = .ok (.goto 4, 3) := dk_167 0 4 (dk_at dksX1_reached_0 21 rfl rfl)
theorem dX1_reached_24 : decode cX1_reached 24 = .ok (.iconst 0, 1) := dk_3 (dk_at dksX1_reached_1 0 rfl rfl)
theorem dX1_reached_25 : decode cX1_reached 25 = .ok (.iadd, 1) := dk_96 (dk_at dksX1_reached_1 1 rfl rfl)
theorem dX1_reached_26 : decode cX1_reached 26 = .ok (.istore_n 2, 1) := dk_61 (dk_at dksX1_reached_1 2 rfl rfl)
theorem dX1_reached_27 : decode cX1_reached 27 = .ok (.iinc 3 1, 3) := dk_132 3 1 (dk_at dksX1_reached_1 3 rfl rfl)
theorem dX1_reached_30 : decode cX1_reached 30 = .ok (.goto (-26), 3) := dk_167 255 230 (dk_at dksX1_reached_1 6 rfl rfl)
theorem dX1_reached_33 : decode cX1_reached 33 = .ok (.iload_n 2, 1) := dk_28 (dk_at dksX1_reached_1 9 rfl rfl)
theorem dX1_reached_34 : decode cX1_reached 34 = .ok (.ireturn, 1) := dk_172 (dk_at dksX1_reached_1 10 rfl rfl)
abbrev cX1_trail : ByteArray := prog_1_method_10_code
def yX1_trail : MethodName := ⟨RX1, "trail", "(II)LFlintMine$Trail;"⟩
def dkwX1_trail_4 : List UInt8 := [167, 0, 15, 42, 187, 0, 61, 89, 29, 183, 0, 63, 182, 0, 66, 176]
abbrev dktX1_trail_4 : List UInt8 := dkwX1_trail_4 ++ []
def dkwX1_trail_3 : List UInt8 := [153, 0, 8, 21, 4, 167, 0, 4, 29, 62, 132, 4, 1, 167, 255, 182, 29, 2, 160, 0, 7, 1]
abbrev dktX1_trail_3 : List UInt8 := dkwX1_trail_3 ++ dktX1_trail_4
def dkwX1_trail_2 : List UInt8 := [180, 0, 35, 21, 4, 46, 42, 180, 0, 35, 29, 46, 162, 0, 7, 4, 167, 0, 4, 3, 54, 5, 21, 5]
abbrev dktX1_trail_2 : List UInt8 := dkwX1_trail_2 ++ dktX1_trail_3
def dkwX1_trail_1 : List UInt8 := [46, 2, 159, 0, 41, 42, 180, 0, 38, 21, 4, 27, 182, 0, 58, 153, 0, 28, 29, 2, 159, 0, 19, 42]
abbrev dktX1_trail_1 : List UInt8 := dkwX1_trail_1 ++ dktX1_trail_2
def dkwX1_trail_0 : List UInt8 := [42, 27, 28, 182, 0, 55, 2, 62, 3, 54, 4, 21, 4, 16, 64, 162, 0, 73, 42, 180, 0, 35, 21, 4]
abbrev dktX1_trail_0 : List UInt8 := dkwX1_trail_0 ++ dktX1_trail_1
theorem dksX1_trail_0 : cX1_trail.data.toList.drop 0 = dktX1_trail_0 := by decide +kernel
theorem dksX1_trail_1 : cX1_trail.data.toList.drop 24 = dktX1_trail_1 := dk_seg dksX1_trail_0 24 rfl rfl
theorem dksX1_trail_2 : cX1_trail.data.toList.drop 48 = dktX1_trail_2 := dk_seg dksX1_trail_1 24 rfl rfl
theorem dksX1_trail_3 : cX1_trail.data.toList.drop 72 = dktX1_trail_3 := dk_seg dksX1_trail_2 24 rfl rfl
theorem dksX1_trail_4 : cX1_trail.data.toList.drop 94 = dktX1_trail_4 := dk_seg dksX1_trail_3 22 rfl rfl
theorem dX1_trail_0 : decode cX1_trail 0 = .ok (.aload_n 0, 1) := dk_42 (dk_at dksX1_trail_0 0 rfl rfl)
theorem dX1_trail_1 : decode cX1_trail 1 = .ok (.iload_n 1, 1) := dk_27 (dk_at dksX1_trail_0 1 rfl rfl)
theorem dX1_trail_2 : decode cX1_trail 2 = .ok (.iload_n 2, 1) := dk_28 (dk_at dksX1_trail_0 2 rfl rfl)
theorem dX1_trail_3 : decode cX1_trail 3 = .ok (.invokevirtual 55, 3) := dk_182 0 55 (dk_at dksX1_trail_0 3 rfl rfl)
theorem dX1_trail_6 : decode cX1_trail 6 = .ok (.iconst (-1), 1) := dk_2 (dk_at dksX1_trail_0 6 rfl rfl)
theorem dX1_trail_7 : decode cX1_trail 7 = .ok (.istore_n 3, 1) := dk_62 (dk_at dksX1_trail_0 7 rfl rfl)
theorem dX1_trail_8 : decode cX1_trail 8 = .ok (.iconst 0, 1) := dk_3 (dk_at dksX1_trail_0 8 rfl rfl)
theorem dX1_trail_9 : decode cX1_trail 9 = .ok (.istore 4, 2) := dk_54 4 (dk_at dksX1_trail_0 9 rfl rfl)
theorem dX1_trail_11 : decode cX1_trail 11 = .ok (.iload 4, 2) := dk_21 4 (dk_at dksX1_trail_0 11 rfl rfl)
theorem dX1_trail_13 : decode cX1_trail 13 = .ok (.bipush 64, 2) := dk_16 64 (dk_at dksX1_trail_0 13 rfl rfl)
theorem dX1_trail_15 : decode cX1_trail 15 = .ok (.if_icmp .ge 73, 3) := dk_162 0 73 (dk_at dksX1_trail_0 15 rfl rfl)
theorem dX1_trail_18 : decode cX1_trail 18 = .ok (.aload_n 0, 1) := dk_42 (dk_at dksX1_trail_0 18 rfl rfl)
theorem dX1_trail_19 : decode cX1_trail 19 = .ok (.getfield 35, 3) := dk_180 0 35 (dk_at dksX1_trail_0 19 rfl rfl)
theorem dX1_trail_22 : decode cX1_trail 22 = .ok (.iload 4, 2) := dk_21 4 (dk_at dksX1_trail_0 22 rfl rfl)
theorem dX1_trail_24 : decode cX1_trail 24 = .ok (.iaload, 1) := dk_46 (dk_at dksX1_trail_1 0 rfl rfl)
theorem dX1_trail_25 : decode cX1_trail 25 = .ok (.iconst (-1), 1) := dk_2 (dk_at dksX1_trail_1 1 rfl rfl)
theorem dX1_trail_26 : decode cX1_trail 26 = .ok (.if_icmp .eq 41, 3) := dk_159 0 41 (dk_at dksX1_trail_1 2 rfl rfl)
theorem dX1_trail_29 : decode cX1_trail 29 = .ok (.aload_n 0, 1) := dk_42 (dk_at dksX1_trail_1 5 rfl rfl)
theorem dX1_trail_30 : decode cX1_trail 30 = .ok (.getfield 38, 3) := dk_180 0 38 (dk_at dksX1_trail_1 6 rfl rfl)
theorem dX1_trail_33 : decode cX1_trail 33 = .ok (.iload 4, 2) := dk_21 4 (dk_at dksX1_trail_1 9 rfl rfl)
theorem dX1_trail_35 : decode cX1_trail 35 = .ok (.iload_n 1, 1) := dk_27 (dk_at dksX1_trail_1 11 rfl rfl)
theorem dX1_trail_36 : decode cX1_trail 36 = .ok (.invokevirtual 58, 3) := dk_182 0 58 (dk_at dksX1_trail_1 12 rfl rfl)
theorem dX1_trail_39 : decode cX1_trail 39 = .ok (.ifCond .eq 28, 3) := dk_153 0 28 (dk_at dksX1_trail_1 15 rfl rfl)
theorem dX1_trail_42 : decode cX1_trail 42 = .ok (.iload_n 3, 1) := dk_29 (dk_at dksX1_trail_1 18 rfl rfl)
theorem dX1_trail_43 : decode cX1_trail 43 = .ok (.iconst (-1), 1) := dk_2 (dk_at dksX1_trail_1 19 rfl rfl)
theorem dX1_trail_44 : decode cX1_trail 44 = .ok (.if_icmp .eq 19, 3) := dk_159 0 19 (dk_at dksX1_trail_1 20 rfl rfl)
theorem dX1_trail_47 : decode cX1_trail 47 = .ok (.aload_n 0, 1) := dk_42 (dk_at dksX1_trail_1 23 rfl rfl)
theorem dX1_trail_48 : decode cX1_trail 48 = .ok (.getfield 35, 3) := dk_180 0 35 (dk_at dksX1_trail_2 0 rfl rfl)
theorem dX1_trail_51 : decode cX1_trail 51 = .ok (.iload 4, 2) := dk_21 4 (dk_at dksX1_trail_2 3 rfl rfl)
theorem dX1_trail_53 : decode cX1_trail 53 = .ok (.iaload, 1) := dk_46 (dk_at dksX1_trail_2 5 rfl rfl)
theorem dX1_trail_54 : decode cX1_trail 54 = .ok (.aload_n 0, 1) := dk_42 (dk_at dksX1_trail_2 6 rfl rfl)
theorem dX1_trail_55 : decode cX1_trail 55 = .ok (.getfield 35, 3) := dk_180 0 35 (dk_at dksX1_trail_2 7 rfl rfl)
theorem dX1_trail_58 : decode cX1_trail 58 = .ok (.iload_n 3, 1) := dk_29 (dk_at dksX1_trail_2 10 rfl rfl)
theorem dX1_trail_59 : decode cX1_trail 59 = .ok (.iaload, 1) := dk_46 (dk_at dksX1_trail_2 11 rfl rfl)
theorem dX1_trail_60 : decode cX1_trail 60 = .ok (.if_icmp .ge 7, 3) := dk_162 0 7 (dk_at dksX1_trail_2 12 rfl rfl)
theorem dX1_trail_63 : decode cX1_trail 63 = .ok (.iconst 1, 1) := dk_4 (dk_at dksX1_trail_2 15 rfl rfl)
theorem dX1_trail_64 : decode cX1_trail 64 = .ok (.goto 4, 3) := dk_167 0 4 (dk_at dksX1_trail_2 16 rfl rfl)
theorem dX1_trail_67 : decode cX1_trail 67 = .ok (.iconst 0, 1) := dk_3 (dk_at dksX1_trail_2 19 rfl rfl)
theorem dX1_trail_68 : decode cX1_trail 68 = .ok (.istore 5, 2) := dk_54 5 (dk_at dksX1_trail_2 20 rfl rfl)
theorem dX1_trail_70 : decode cX1_trail 70 = .ok (.iload 5, 2) := dk_21 5 (dk_at dksX1_trail_2 22 rfl rfl)
theorem dX1_trail_72 : decode cX1_trail 72 = .ok (.ifCond .eq 8, 3) := dk_153 0 8 (dk_at dksX1_trail_3 0 rfl rfl)
theorem dX1_trail_75 : decode cX1_trail 75 = .ok (.iload 4, 2) := dk_21 4 (dk_at dksX1_trail_3 3 rfl rfl)
theorem dX1_trail_77 : decode cX1_trail 77 = .ok (.goto 4, 3) := dk_167 0 4 (dk_at dksX1_trail_3 5 rfl rfl)
theorem dX1_trail_80 : decode cX1_trail 80 = .ok (.iload_n 3, 1) := dk_29 (dk_at dksX1_trail_3 8 rfl rfl)
theorem dX1_trail_81 : decode cX1_trail 81 = .ok (.istore_n 3, 1) := dk_62 (dk_at dksX1_trail_3 9 rfl rfl)
theorem dX1_trail_82 : decode cX1_trail 82 = .ok (.iinc 4 1, 3) := dk_132 4 1 (dk_at dksX1_trail_3 10 rfl rfl)
theorem dX1_trail_85 : decode cX1_trail 85 = .ok (.goto (-74), 3) := dk_167 255 182 (dk_at dksX1_trail_3 13 rfl rfl)
theorem dX1_trail_88 : decode cX1_trail 88 = .ok (.iload_n 3, 1) := dk_29 (dk_at dksX1_trail_3 16 rfl rfl)
theorem dX1_trail_89 : decode cX1_trail 89 = .ok (.iconst (-1), 1) := dk_2 (dk_at dksX1_trail_3 17 rfl rfl)
theorem dX1_trail_90 : decode cX1_trail 90 = .ok (.if_icmp .ne 7, 3) := dk_160 0 7 (dk_at dksX1_trail_3 18 rfl rfl)
theorem dX1_trail_93 : decode cX1_trail 93 = .ok (.aconst_null, 1) := dk_1 (dk_at dksX1_trail_3 21 rfl rfl)
theorem dX1_trail_94 : decode cX1_trail 94 = .ok (.goto 15, 3) := dk_167 0 15 (dk_at dksX1_trail_4 0 rfl rfl)
theorem dX1_trail_97 : decode cX1_trail 97 = .ok (.aload_n 0, 1) := dk_42 (dk_at dksX1_trail_4 3 rfl rfl)
theorem dX1_trail_98 : decode cX1_trail 98 = .ok (.new 61, 3) := dk_187 0 61 (dk_at dksX1_trail_4 4 rfl rfl)
theorem dX1_trail_101 : decode cX1_trail 101 = .ok (.dup, 1) := dk_89 (dk_at dksX1_trail_4 7 rfl rfl)
theorem dX1_trail_102 : decode cX1_trail 102 = .ok (.iload_n 3, 1) := dk_29 (dk_at dksX1_trail_4 8 rfl rfl)
theorem dX1_trail_103 : decode cX1_trail 103 = .ok (.invokespecial 63, 3) := dk_183 0 63 (dk_at dksX1_trail_4 9 rfl rfl)
theorem dX1_trail_106 : decode cX1_trail 106 = .ok (.invokevirtual 66, 3) := dk_182 0 66 (dk_at dksX1_trail_4 12 rfl rfl)
theorem dX1_trail_109 : decode cX1_trail 109 = .ok (.areturn, 1) := dk_176 (dk_at dksX1_trail_4 15 rfl rfl)
abbrev cX1_measure : ByteArray := prog_1_method_9_code
def yX1_measure : MethodName := ⟨RX1, "measure", "(II)V"⟩
def dkwX1_measure_6 : List UInt8 := [79, 132, 3, 1, 132, 5, 1, 167, 255, 171, 132, 4, 1, 167, 255, 156, 177]
abbrev dktX1_measure_6 : List UInt8 := dkwX1_measure_6 ++ []
def dkwX1_measure_5 : List UInt8 := [21, 6, 42, 180, 0, 35, 42, 180, 0, 48, 21, 4, 46, 46, 4, 96, 79, 42, 180, 0, 48, 29, 21, 6]
abbrev dktX1_measure_5 : List UInt8 := dkwX1_measure_5 ++ dktX1_measure_6
def dkwX1_measure_4 : List UInt8 := [21, 6, 46, 2, 160, 0, 48, 42, 180, 0, 38, 21, 6, 27, 182, 0, 42, 153, 0, 35, 42, 180, 0, 35]
abbrev dktX1_measure_4 : List UInt8 := dkwX1_measure_4 ++ dktX1_measure_5
def dkwX1_measure_3 : List UInt8 := [180, 0, 48, 21, 4, 46, 21, 5, 184, 0, 51, 54, 6, 21, 6, 2, 159, 0, 59, 42, 180, 0, 35]
abbrev dktX1_measure_3 : List UInt8 := dkwX1_measure_3 ++ dktX1_measure_4
def dkwX1_measure_2 : List UInt8 := [79, 4, 62, 3, 54, 4, 21, 4, 29, 162, 0, 100, 3, 54, 5, 21, 5, 7, 162, 0, 85, 42]
abbrev dktX1_measure_2 : List UInt8 := dkwX1_measure_2 ++ dktX1_measure_3
def dkwX1_measure_1 : List UInt8 := [180, 0, 38, 28, 27, 182, 0, 42, 153, 0, 19, 42, 180, 0, 35, 28, 4, 79, 42, 180, 0, 48, 3, 28]
abbrev dktX1_measure_1 : List UInt8 := dkwX1_measure_1 ++ dktX1_measure_2
def dkwX1_measure_0 : List UInt8 := [3, 62, 29, 16, 64, 162, 0, 16, 42, 180, 0, 35, 29, 2, 79, 132, 3, 1, 167, 255, 240, 3, 62, 42]
abbrev dktX1_measure_0 : List UInt8 := dkwX1_measure_0 ++ dktX1_measure_1
theorem dksX1_measure_0 : cX1_measure.data.toList.drop 0 = dktX1_measure_0 := by decide +kernel
theorem dksX1_measure_1 : cX1_measure.data.toList.drop 24 = dktX1_measure_1 := dk_seg dksX1_measure_0 24 rfl rfl
theorem dksX1_measure_2 : cX1_measure.data.toList.drop 48 = dktX1_measure_2 := dk_seg dksX1_measure_1 24 rfl rfl
theorem dksX1_measure_3 : cX1_measure.data.toList.drop 70 = dktX1_measure_3 := dk_seg dksX1_measure_2 22 rfl rfl
theorem dksX1_measure_4 : cX1_measure.data.toList.drop 93 = dktX1_measure_4 := dk_seg dksX1_measure_3 23 rfl rfl
theorem dksX1_measure_5 : cX1_measure.data.toList.drop 117 = dktX1_measure_5 := dk_seg dksX1_measure_4 24 rfl rfl
theorem dksX1_measure_6 : cX1_measure.data.toList.drop 141 = dktX1_measure_6 := dk_seg dksX1_measure_5 24 rfl rfl
theorem dX1_measure_0 : decode cX1_measure 0 = .ok (.iconst 0, 1) := dk_3 (dk_at dksX1_measure_0 0 rfl rfl)
theorem dX1_measure_1 : decode cX1_measure 1 = .ok (.istore_n 3, 1) := dk_62 (dk_at dksX1_measure_0 1 rfl rfl)
theorem dX1_measure_2 : decode cX1_measure 2 = .ok (.iload_n 3, 1) := dk_29 (dk_at dksX1_measure_0 2 rfl rfl)
theorem dX1_measure_3 : decode cX1_measure 3 = .ok (.bipush 64, 2) := dk_16 64 (dk_at dksX1_measure_0 3 rfl rfl)
theorem dX1_measure_5 : decode cX1_measure 5 = .ok (.if_icmp .ge 16, 3) := dk_162 0 16 (dk_at dksX1_measure_0 5 rfl rfl)
theorem dX1_measure_8 : decode cX1_measure 8 = .ok (.aload_n 0, 1) := dk_42 (dk_at dksX1_measure_0 8 rfl rfl)
theorem dX1_measure_9 : decode cX1_measure 9 = .ok (.getfield 35, 3) := dk_180 0 35 (dk_at dksX1_measure_0 9 rfl rfl)
theorem dX1_measure_12 : decode cX1_measure 12 = .ok (.iload_n 3, 1) := dk_29 (dk_at dksX1_measure_0 12 rfl rfl)
theorem dX1_measure_13 : decode cX1_measure 13 = .ok (.iconst (-1), 1) := dk_2 (dk_at dksX1_measure_0 13 rfl rfl)
theorem dX1_measure_14 : decode cX1_measure 14 = .ok (.iastore, 1) := dk_79 (dk_at dksX1_measure_0 14 rfl rfl)
theorem dX1_measure_15 : decode cX1_measure 15 = .ok (.iinc 3 1, 3) := dk_132 3 1 (dk_at dksX1_measure_0 15 rfl rfl)
theorem dX1_measure_18 : decode cX1_measure 18 = .ok (.goto (-16), 3) := dk_167 255 240 (dk_at dksX1_measure_0 18 rfl rfl)
theorem dX1_measure_21 : decode cX1_measure 21 = .ok (.iconst 0, 1) := dk_3 (dk_at dksX1_measure_0 21 rfl rfl)
theorem dX1_measure_22 : decode cX1_measure 22 = .ok (.istore_n 3, 1) := dk_62 (dk_at dksX1_measure_0 22 rfl rfl)
theorem dX1_measure_23 : decode cX1_measure 23 = .ok (.aload_n 0, 1) := dk_42 (dk_at dksX1_measure_0 23 rfl rfl)
theorem dX1_measure_24 : decode cX1_measure 24 = .ok (.getfield 38, 3) := dk_180 0 38 (dk_at dksX1_measure_1 0 rfl rfl)
theorem dX1_measure_27 : decode cX1_measure 27 = .ok (.iload_n 2, 1) := dk_28 (dk_at dksX1_measure_1 3 rfl rfl)
theorem dX1_measure_28 : decode cX1_measure 28 = .ok (.iload_n 1, 1) := dk_27 (dk_at dksX1_measure_1 4 rfl rfl)
theorem dX1_measure_29 : decode cX1_measure 29 = .ok (.invokevirtual 42, 3) := dk_182 0 42 (dk_at dksX1_measure_1 5 rfl rfl)
theorem dX1_measure_32 : decode cX1_measure 32 = .ok (.ifCond .eq 19, 3) := dk_153 0 19 (dk_at dksX1_measure_1 8 rfl rfl)
theorem dX1_measure_35 : decode cX1_measure 35 = .ok (.aload_n 0, 1) := dk_42 (dk_at dksX1_measure_1 11 rfl rfl)
theorem dX1_measure_36 : decode cX1_measure 36 = .ok (.getfield 35, 3) := dk_180 0 35 (dk_at dksX1_measure_1 12 rfl rfl)
theorem dX1_measure_39 : decode cX1_measure 39 = .ok (.iload_n 2, 1) := dk_28 (dk_at dksX1_measure_1 15 rfl rfl)
theorem dX1_measure_40 : decode cX1_measure 40 = .ok (.iconst 1, 1) := dk_4 (dk_at dksX1_measure_1 16 rfl rfl)
theorem dX1_measure_41 : decode cX1_measure 41 = .ok (.iastore, 1) := dk_79 (dk_at dksX1_measure_1 17 rfl rfl)
theorem dX1_measure_42 : decode cX1_measure 42 = .ok (.aload_n 0, 1) := dk_42 (dk_at dksX1_measure_1 18 rfl rfl)
theorem dX1_measure_43 : decode cX1_measure 43 = .ok (.getfield 48, 3) := dk_180 0 48 (dk_at dksX1_measure_1 19 rfl rfl)
theorem dX1_measure_46 : decode cX1_measure 46 = .ok (.iconst 0, 1) := dk_3 (dk_at dksX1_measure_1 22 rfl rfl)
theorem dX1_measure_47 : decode cX1_measure 47 = .ok (.iload_n 2, 1) := dk_28 (dk_at dksX1_measure_1 23 rfl rfl)
theorem dX1_measure_48 : decode cX1_measure 48 = .ok (.iastore, 1) := dk_79 (dk_at dksX1_measure_2 0 rfl rfl)
theorem dX1_measure_49 : decode cX1_measure 49 = .ok (.iconst 1, 1) := dk_4 (dk_at dksX1_measure_2 1 rfl rfl)
theorem dX1_measure_50 : decode cX1_measure 50 = .ok (.istore_n 3, 1) := dk_62 (dk_at dksX1_measure_2 2 rfl rfl)
theorem dX1_measure_51 : decode cX1_measure 51 = .ok (.iconst 0, 1) := dk_3 (dk_at dksX1_measure_2 3 rfl rfl)
theorem dX1_measure_52 : decode cX1_measure 52 = .ok (.istore 4, 2) := dk_54 4 (dk_at dksX1_measure_2 4 rfl rfl)
theorem dX1_measure_54 : decode cX1_measure 54 = .ok (.iload 4, 2) := dk_21 4 (dk_at dksX1_measure_2 6 rfl rfl)
theorem dX1_measure_56 : decode cX1_measure 56 = .ok (.iload_n 3, 1) := dk_29 (dk_at dksX1_measure_2 8 rfl rfl)
theorem dX1_measure_57 : decode cX1_measure 57 = .ok (.if_icmp .ge 100, 3) := dk_162 0 100 (dk_at dksX1_measure_2 9 rfl rfl)
theorem dX1_measure_60 : decode cX1_measure 60 = .ok (.iconst 0, 1) := dk_3 (dk_at dksX1_measure_2 12 rfl rfl)
theorem dX1_measure_61 : decode cX1_measure 61 = .ok (.istore 5, 2) := dk_54 5 (dk_at dksX1_measure_2 13 rfl rfl)
theorem dX1_measure_63 : decode cX1_measure 63 = .ok (.iload 5, 2) := dk_21 5 (dk_at dksX1_measure_2 15 rfl rfl)
theorem dX1_measure_65 : decode cX1_measure 65 = .ok (.iconst 4, 1) := dk_7 (dk_at dksX1_measure_2 17 rfl rfl)
theorem dX1_measure_66 : decode cX1_measure 66 = .ok (.if_icmp .ge 85, 3) := dk_162 0 85 (dk_at dksX1_measure_2 18 rfl rfl)
theorem dX1_measure_69 : decode cX1_measure 69 = .ok (.aload_n 0, 1) := dk_42 (dk_at dksX1_measure_2 21 rfl rfl)
theorem dX1_measure_70 : decode cX1_measure 70 = .ok (.getfield 48, 3) := dk_180 0 48 (dk_at dksX1_measure_3 0 rfl rfl)
theorem dX1_measure_73 : decode cX1_measure 73 = .ok (.iload 4, 2) := dk_21 4 (dk_at dksX1_measure_3 3 rfl rfl)
theorem dX1_measure_75 : decode cX1_measure 75 = .ok (.iaload, 1) := dk_46 (dk_at dksX1_measure_3 5 rfl rfl)
theorem dX1_measure_76 : decode cX1_measure 76 = .ok (.iload 5, 2) := dk_21 5 (dk_at dksX1_measure_3 6 rfl rfl)
theorem dX1_measure_78 : decode cX1_measure 78 = .ok (.invokestatic 51, 3) := dk_184 0 51 (dk_at dksX1_measure_3 8 rfl rfl)
theorem dX1_measure_81 : decode cX1_measure 81 = .ok (.istore 6, 2) := dk_54 6 (dk_at dksX1_measure_3 11 rfl rfl)
theorem dX1_measure_83 : decode cX1_measure 83 = .ok (.iload 6, 2) := dk_21 6 (dk_at dksX1_measure_3 13 rfl rfl)
theorem dX1_measure_85 : decode cX1_measure 85 = .ok (.iconst (-1), 1) := dk_2 (dk_at dksX1_measure_3 15 rfl rfl)
theorem dX1_measure_86 : decode cX1_measure 86 = .ok (.if_icmp .eq 59, 3) := dk_159 0 59 (dk_at dksX1_measure_3 16 rfl rfl)
theorem dX1_measure_89 : decode cX1_measure 89 = .ok (.aload_n 0, 1) := dk_42 (dk_at dksX1_measure_3 19 rfl rfl)
theorem dX1_measure_90 : decode cX1_measure 90 = .ok (.getfield 35, 3) := dk_180 0 35 (dk_at dksX1_measure_3 20 rfl rfl)
theorem dX1_measure_93 : decode cX1_measure 93 = .ok (.iload 6, 2) := dk_21 6 (dk_at dksX1_measure_4 0 rfl rfl)
theorem dX1_measure_95 : decode cX1_measure 95 = .ok (.iaload, 1) := dk_46 (dk_at dksX1_measure_4 2 rfl rfl)
theorem dX1_measure_96 : decode cX1_measure 96 = .ok (.iconst (-1), 1) := dk_2 (dk_at dksX1_measure_4 3 rfl rfl)
theorem dX1_measure_97 : decode cX1_measure 97 = .ok (.if_icmp .ne 48, 3) := dk_160 0 48 (dk_at dksX1_measure_4 4 rfl rfl)
theorem dX1_measure_100 : decode cX1_measure 100 = .ok (.aload_n 0, 1) := dk_42 (dk_at dksX1_measure_4 7 rfl rfl)
theorem dX1_measure_101 : decode cX1_measure 101 = .ok (.getfield 38, 3) := dk_180 0 38 (dk_at dksX1_measure_4 8 rfl rfl)
theorem dX1_measure_104 : decode cX1_measure 104 = .ok (.iload 6, 2) := dk_21 6 (dk_at dksX1_measure_4 11 rfl rfl)
theorem dX1_measure_106 : decode cX1_measure 106 = .ok (.iload_n 1, 1) := dk_27 (dk_at dksX1_measure_4 13 rfl rfl)
theorem dX1_measure_107 : decode cX1_measure 107 = .ok (.invokevirtual 42, 3) := dk_182 0 42 (dk_at dksX1_measure_4 14 rfl rfl)
theorem dX1_measure_110 : decode cX1_measure 110 = .ok (.ifCond .eq 35, 3) := dk_153 0 35 (dk_at dksX1_measure_4 17 rfl rfl)
theorem dX1_measure_113 : decode cX1_measure 113 = .ok (.aload_n 0, 1) := dk_42 (dk_at dksX1_measure_4 20 rfl rfl)
theorem dX1_measure_114 : decode cX1_measure 114 = .ok (.getfield 35, 3) := dk_180 0 35 (dk_at dksX1_measure_4 21 rfl rfl)
theorem dX1_measure_117 : decode cX1_measure 117 = .ok (.iload 6, 2) := dk_21 6 (dk_at dksX1_measure_5 0 rfl rfl)
theorem dX1_measure_119 : decode cX1_measure 119 = .ok (.aload_n 0, 1) := dk_42 (dk_at dksX1_measure_5 2 rfl rfl)
theorem dX1_measure_120 : decode cX1_measure 120 = .ok (.getfield 35, 3) := dk_180 0 35 (dk_at dksX1_measure_5 3 rfl rfl)
theorem dX1_measure_123 : decode cX1_measure 123 = .ok (.aload_n 0, 1) := dk_42 (dk_at dksX1_measure_5 6 rfl rfl)
theorem dX1_measure_124 : decode cX1_measure 124 = .ok (.getfield 48, 3) := dk_180 0 48 (dk_at dksX1_measure_5 7 rfl rfl)
theorem dX1_measure_127 : decode cX1_measure 127 = .ok (.iload 4, 2) := dk_21 4 (dk_at dksX1_measure_5 10 rfl rfl)
theorem dX1_measure_129 : decode cX1_measure 129 = .ok (.iaload, 1) := dk_46 (dk_at dksX1_measure_5 12 rfl rfl)
theorem dX1_measure_130 : decode cX1_measure 130 = .ok (.iaload, 1) := dk_46 (dk_at dksX1_measure_5 13 rfl rfl)
theorem dX1_measure_131 : decode cX1_measure 131 = .ok (.iconst 1, 1) := dk_4 (dk_at dksX1_measure_5 14 rfl rfl)
theorem dX1_measure_132 : decode cX1_measure 132 = .ok (.iadd, 1) := dk_96 (dk_at dksX1_measure_5 15 rfl rfl)
theorem dX1_measure_133 : decode cX1_measure 133 = .ok (.iastore, 1) := dk_79 (dk_at dksX1_measure_5 16 rfl rfl)
theorem dX1_measure_134 : decode cX1_measure 134 = .ok (.aload_n 0, 1) := dk_42 (dk_at dksX1_measure_5 17 rfl rfl)
theorem dX1_measure_135 : decode cX1_measure 135 = .ok (.getfield 48, 3) := dk_180 0 48 (dk_at dksX1_measure_5 18 rfl rfl)
theorem dX1_measure_138 : decode cX1_measure 138 = .ok (.iload_n 3, 1) := dk_29 (dk_at dksX1_measure_5 21 rfl rfl)
theorem dX1_measure_139 : decode cX1_measure 139 = .ok (.iload 6, 2) := dk_21 6 (dk_at dksX1_measure_5 22 rfl rfl)
theorem dX1_measure_141 : decode cX1_measure 141 = .ok (.iastore, 1) := dk_79 (dk_at dksX1_measure_6 0 rfl rfl)
theorem dX1_measure_142 : decode cX1_measure 142 = .ok (.iinc 3 1, 3) := dk_132 3 1 (dk_at dksX1_measure_6 1 rfl rfl)
theorem dX1_measure_145 : decode cX1_measure 145 = .ok (.iinc 5 1, 3) := dk_132 5 1 (dk_at dksX1_measure_6 4 rfl rfl)
theorem dX1_measure_148 : decode cX1_measure 148 = .ok (.goto (-85), 3) := dk_167 255 171 (dk_at dksX1_measure_6 7 rfl rfl)
theorem dX1_measure_151 : decode cX1_measure 151 = .ok (.iinc 4 1, 3) := dk_132 4 1 (dk_at dksX1_measure_6 10 rfl rfl)
theorem dX1_measure_154 : decode cX1_measure 154 = .ok (.goto (-100), 3) := dk_167 255 156 (dk_at dksX1_measure_6 13 rfl rfl)
theorem dX1_measure_157 : decode cX1_measure 157 = .ok (.return_, 1) := dk_177 (dk_at dksX1_measure_6 16 rfl rfl)
abbrev cX1_goOn : ByteArray := prog_1_method_11_code
def yX1_goOn : MethodName := ⟨RX1, "goOn", "(LFlintMine$Trail;)LFlintMine$Trail;"⟩
def dkwX1_goOn_3 : List UInt8 := [167, 255, 205, 42, 187, 0, 61, 89, 28, 43, 183, 0, 74, 182, 0, 66, 176]
abbrev dktX1_goOn_3 : List UInt8 := dkwX1_goOn_3 ++ []
def dkwX1_goOn_2 : List UInt8 := [180, 0, 35, 43, 180, 0, 70, 46, 4, 100, 160, 0, 8, 21, 4, 167, 0, 4, 28, 61, 132, 3, 255]
abbrev dktX1_goOn_2 : List UInt8 := dkwX1_goOn_2 ++ dktX1_goOn_3
def dkwX1_goOn_1 : List UInt8 := [180, 0, 70, 29, 184, 0, 51, 54, 4, 21, 4, 2, 159, 0, 29, 42, 180, 0, 35, 21, 4, 46, 42]
abbrev dktX1_goOn_1 : List UInt8 := dkwX1_goOn_1 ++ dktX1_goOn_2
def dkwX1_goOn_0 : List UInt8 := [42, 180, 0, 35, 43, 180, 0, 70, 46, 4, 160, 0, 5, 43, 176, 2, 61, 6, 62, 29, 155, 0, 53, 43]
abbrev dktX1_goOn_0 : List UInt8 := dkwX1_goOn_0 ++ dktX1_goOn_1
theorem dksX1_goOn_0 : cX1_goOn.data.toList.drop 0 = dktX1_goOn_0 := by decide +kernel
theorem dksX1_goOn_1 : cX1_goOn.data.toList.drop 24 = dktX1_goOn_1 := dk_seg dksX1_goOn_0 24 rfl rfl
theorem dksX1_goOn_2 : cX1_goOn.data.toList.drop 47 = dktX1_goOn_2 := dk_seg dksX1_goOn_1 23 rfl rfl
theorem dksX1_goOn_3 : cX1_goOn.data.toList.drop 70 = dktX1_goOn_3 := dk_seg dksX1_goOn_2 23 rfl rfl
theorem dX1_goOn_0 : decode cX1_goOn 0 = .ok (.aload_n 0, 1) := dk_42 (dk_at dksX1_goOn_0 0 rfl rfl)
theorem dX1_goOn_1 : decode cX1_goOn 1 = .ok (.getfield 35, 3) := dk_180 0 35 (dk_at dksX1_goOn_0 1 rfl rfl)
theorem dX1_goOn_4 : decode cX1_goOn 4 = .ok (.aload_n 1, 1) := dk_43 (dk_at dksX1_goOn_0 4 rfl rfl)
theorem dX1_goOn_5 : decode cX1_goOn 5 = .ok (.getfield 70, 3) := dk_180 0 70 (dk_at dksX1_goOn_0 5 rfl rfl)
theorem dX1_goOn_8 : decode cX1_goOn 8 = .ok (.iaload, 1) := dk_46 (dk_at dksX1_goOn_0 8 rfl rfl)
theorem dX1_goOn_9 : decode cX1_goOn 9 = .ok (.iconst 1, 1) := dk_4 (dk_at dksX1_goOn_0 9 rfl rfl)
theorem dX1_goOn_10 : decode cX1_goOn 10 = .ok (.if_icmp .ne 5, 3) := dk_160 0 5 (dk_at dksX1_goOn_0 10 rfl rfl)
theorem dX1_goOn_13 : decode cX1_goOn 13 = .ok (.aload_n 1, 1) := dk_43 (dk_at dksX1_goOn_0 13 rfl rfl)
theorem dX1_goOn_14 : decode cX1_goOn 14 = .ok (.areturn, 1) := dk_176 (dk_at dksX1_goOn_0 14 rfl rfl)
theorem dX1_goOn_15 : decode cX1_goOn 15 = .ok (.iconst (-1), 1) := dk_2 (dk_at dksX1_goOn_0 15 rfl rfl)
theorem dX1_goOn_16 : decode cX1_goOn 16 = .ok (.istore_n 2, 1) := dk_61 (dk_at dksX1_goOn_0 16 rfl rfl)
theorem dX1_goOn_17 : decode cX1_goOn 17 = .ok (.iconst 3, 1) := dk_6 (dk_at dksX1_goOn_0 17 rfl rfl)
theorem dX1_goOn_18 : decode cX1_goOn 18 = .ok (.istore_n 3, 1) := dk_62 (dk_at dksX1_goOn_0 18 rfl rfl)
theorem dX1_goOn_19 : decode cX1_goOn 19 = .ok (.iload_n 3, 1) := dk_29 (dk_at dksX1_goOn_0 19 rfl rfl)
theorem dX1_goOn_20 : decode cX1_goOn 20 = .ok (.ifCond .lt 53, 3) := dk_155 0 53 (dk_at dksX1_goOn_0 20 rfl rfl)
theorem dX1_goOn_23 : decode cX1_goOn 23 = .ok (.aload_n 1, 1) := dk_43 (dk_at dksX1_goOn_0 23 rfl rfl)
theorem dX1_goOn_24 : decode cX1_goOn 24 = .ok (.getfield 70, 3) := dk_180 0 70 (dk_at dksX1_goOn_1 0 rfl rfl)
theorem dX1_goOn_27 : decode cX1_goOn 27 = .ok (.iload_n 3, 1) := dk_29 (dk_at dksX1_goOn_1 3 rfl rfl)
theorem dX1_goOn_28 : decode cX1_goOn 28 = .ok (.invokestatic 51, 3) := dk_184 0 51 (dk_at dksX1_goOn_1 4 rfl rfl)
theorem dX1_goOn_31 : decode cX1_goOn 31 = .ok (.istore 4, 2) := dk_54 4 (dk_at dksX1_goOn_1 7 rfl rfl)
theorem dX1_goOn_33 : decode cX1_goOn 33 = .ok (.iload 4, 2) := dk_21 4 (dk_at dksX1_goOn_1 9 rfl rfl)
theorem dX1_goOn_35 : decode cX1_goOn 35 = .ok (.iconst (-1), 1) := dk_2 (dk_at dksX1_goOn_1 11 rfl rfl)
theorem dX1_goOn_36 : decode cX1_goOn 36 = .ok (.if_icmp .eq 29, 3) := dk_159 0 29 (dk_at dksX1_goOn_1 12 rfl rfl)
theorem dX1_goOn_39 : decode cX1_goOn 39 = .ok (.aload_n 0, 1) := dk_42 (dk_at dksX1_goOn_1 15 rfl rfl)
theorem dX1_goOn_40 : decode cX1_goOn 40 = .ok (.getfield 35, 3) := dk_180 0 35 (dk_at dksX1_goOn_1 16 rfl rfl)
theorem dX1_goOn_43 : decode cX1_goOn 43 = .ok (.iload 4, 2) := dk_21 4 (dk_at dksX1_goOn_1 19 rfl rfl)
theorem dX1_goOn_45 : decode cX1_goOn 45 = .ok (.iaload, 1) := dk_46 (dk_at dksX1_goOn_1 21 rfl rfl)
theorem dX1_goOn_46 : decode cX1_goOn 46 = .ok (.aload_n 0, 1) := dk_42 (dk_at dksX1_goOn_1 22 rfl rfl)
theorem dX1_goOn_47 : decode cX1_goOn 47 = .ok (.getfield 35, 3) := dk_180 0 35 (dk_at dksX1_goOn_2 0 rfl rfl)
theorem dX1_goOn_50 : decode cX1_goOn 50 = .ok (.aload_n 1, 1) := dk_43 (dk_at dksX1_goOn_2 3 rfl rfl)
theorem dX1_goOn_51 : decode cX1_goOn 51 = .ok (.getfield 70, 3) := dk_180 0 70 (dk_at dksX1_goOn_2 4 rfl rfl)
theorem dX1_goOn_54 : decode cX1_goOn 54 = .ok (.iaload, 1) := dk_46 (dk_at dksX1_goOn_2 7 rfl rfl)
theorem dX1_goOn_55 : decode cX1_goOn 55 = .ok (.iconst 1, 1) := dk_4 (dk_at dksX1_goOn_2 8 rfl rfl)
theorem dX1_goOn_56 : decode cX1_goOn 56 = .ok (.isub, 1) := dk_100 (dk_at dksX1_goOn_2 9 rfl rfl)
theorem dX1_goOn_57 : decode cX1_goOn 57 = .ok (.if_icmp .ne 8, 3) := dk_160 0 8 (dk_at dksX1_goOn_2 10 rfl rfl)
theorem dX1_goOn_60 : decode cX1_goOn 60 = .ok (.iload 4, 2) := dk_21 4 (dk_at dksX1_goOn_2 13 rfl rfl)
theorem dX1_goOn_62 : decode cX1_goOn 62 = .ok (.goto 4, 3) := dk_167 0 4 (dk_at dksX1_goOn_2 15 rfl rfl)
theorem dX1_goOn_65 : decode cX1_goOn 65 = .ok (.iload_n 2, 1) := dk_28 (dk_at dksX1_goOn_2 18 rfl rfl)
theorem dX1_goOn_66 : decode cX1_goOn 66 = .ok (.istore_n 2, 1) := dk_61 (dk_at dksX1_goOn_2 19 rfl rfl)
theorem dX1_goOn_67 : decode cX1_goOn 67 = .ok (.iinc 3 (-1), 3) := dk_132 3 255 (dk_at dksX1_goOn_2 20 rfl rfl)
theorem dX1_goOn_70 : decode cX1_goOn 70 = .ok (.goto (-51), 3) := dk_167 255 205 (dk_at dksX1_goOn_3 0 rfl rfl)
theorem dX1_goOn_73 : decode cX1_goOn 73 = .ok (.aload_n 0, 1) := dk_42 (dk_at dksX1_goOn_3 3 rfl rfl)
theorem dX1_goOn_74 : decode cX1_goOn 74 = .ok (.new 61, 3) := dk_187 0 61 (dk_at dksX1_goOn_3 4 rfl rfl)
theorem dX1_goOn_77 : decode cX1_goOn 77 = .ok (.dup, 1) := dk_89 (dk_at dksX1_goOn_3 7 rfl rfl)
theorem dX1_goOn_78 : decode cX1_goOn 78 = .ok (.iload_n 2, 1) := dk_28 (dk_at dksX1_goOn_3 8 rfl rfl)
theorem dX1_goOn_79 : decode cX1_goOn 79 = .ok (.aload_n 1, 1) := dk_43 (dk_at dksX1_goOn_3 9 rfl rfl)
theorem dX1_goOn_80 : decode cX1_goOn 80 = .ok (.invokespecial 74, 3) := dk_183 0 74 (dk_at dksX1_goOn_3 10 rfl rfl)
theorem dX1_goOn_83 : decode cX1_goOn 83 = .ok (.invokevirtual 66, 3) := dk_182 0 66 (dk_at dksX1_goOn_3 13 rfl rfl)
theorem dX1_goOn_86 : decode cX1_goOn 86 = .ok (.areturn, 1) := dk_176 (dk_at dksX1_goOn_3 16 rfl rfl)
abbrev cX1_best : ByteArray := prog_1_method_36_code
def yX1_best : MethodName := ⟨RX1, "best", "(I)I"⟩
def dkwX1_best_3 : List UInt8 := [167, 0, 4, 3, 184, 0, 83, 29, 172]
abbrev dktX1_best_3 : List UInt8 := dkwX1_best_3 ++ []
def dkwX1_best_2 : List UInt8 := [153, 0, 8, 21, 4, 167, 0, 4, 29, 62, 132, 4, 1, 167, 255, 211, 29, 2, 159, 0, 7, 4]
abbrev dktX1_best_2 : List UInt8 := dkwX1_best_2 ++ dktX1_best_3
def dkwX1_best_1 : List UInt8 := [180, 0, 38, 27, 21, 4, 182, 1, 10, 153, 0, 23, 29, 2, 159, 0, 13, 42, 21, 4, 29, 182, 1, 13]
abbrev dktX1_best_1 : List UInt8 := dkwX1_best_1 ++ dktX1_best_2
def dkwX1_best_0 : List UInt8 := [42, 180, 0, 38, 27, 182, 0, 250, 77, 2, 62, 3, 54, 4, 21, 4, 16, 64, 162, 0, 44, 42]
abbrev dktX1_best_0 : List UInt8 := dkwX1_best_0 ++ dktX1_best_1
theorem dksX1_best_0 : cX1_best.data.toList.drop 0 = dktX1_best_0 := by decide +kernel
theorem dksX1_best_1 : cX1_best.data.toList.drop 22 = dktX1_best_1 := dk_seg dksX1_best_0 22 rfl rfl
theorem dksX1_best_2 : cX1_best.data.toList.drop 46 = dktX1_best_2 := dk_seg dksX1_best_1 24 rfl rfl
theorem dksX1_best_3 : cX1_best.data.toList.drop 68 = dktX1_best_3 := dk_seg dksX1_best_2 22 rfl rfl
theorem dX1_best_0 : decode cX1_best 0 = .ok (.aload_n 0, 1) := dk_42 (dk_at dksX1_best_0 0 rfl rfl)
theorem dX1_best_1 : decode cX1_best 1 = .ok (.getfield 38, 3) := dk_180 0 38 (dk_at dksX1_best_0 1 rfl rfl)
theorem dX1_best_4 : decode cX1_best 4 = .ok (.iload_n 1, 1) := dk_27 (dk_at dksX1_best_0 4 rfl rfl)
theorem dX1_best_5 : decode cX1_best 5 = .ok (.invokevirtual 250, 3) := dk_182 0 250 (dk_at dksX1_best_0 5 rfl rfl)
theorem dX1_best_8 : decode cX1_best 8 = .ok (.astore_n 2, 1) := dk_77 (dk_at dksX1_best_0 8 rfl rfl)
theorem dX1_best_9 : decode cX1_best 9 = .ok (.iconst (-1), 1) := dk_2 (dk_at dksX1_best_0 9 rfl rfl)
theorem dX1_best_10 : decode cX1_best 10 = .ok (.istore_n 3, 1) := dk_62 (dk_at dksX1_best_0 10 rfl rfl)
theorem dX1_best_11 : decode cX1_best 11 = .ok (.iconst 0, 1) := dk_3 (dk_at dksX1_best_0 11 rfl rfl)
theorem dX1_best_12 : decode cX1_best 12 = .ok (.istore 4, 2) := dk_54 4 (dk_at dksX1_best_0 12 rfl rfl)
theorem dX1_best_14 : decode cX1_best 14 = .ok (.iload 4, 2) := dk_21 4 (dk_at dksX1_best_0 14 rfl rfl)
theorem dX1_best_16 : decode cX1_best 16 = .ok (.bipush 64, 2) := dk_16 64 (dk_at dksX1_best_0 16 rfl rfl)
theorem dX1_best_18 : decode cX1_best 18 = .ok (.if_icmp .ge 44, 3) := dk_162 0 44 (dk_at dksX1_best_0 18 rfl rfl)
theorem dX1_best_21 : decode cX1_best 21 = .ok (.aload_n 0, 1) := dk_42 (dk_at dksX1_best_0 21 rfl rfl)
theorem dX1_best_22 : decode cX1_best 22 = .ok (.getfield 38, 3) := dk_180 0 38 (dk_at dksX1_best_1 0 rfl rfl)
theorem dX1_best_25 : decode cX1_best 25 = .ok (.iload_n 1, 1) := dk_27 (dk_at dksX1_best_1 3 rfl rfl)
theorem dX1_best_26 : decode cX1_best 26 = .ok (.iload 4, 2) := dk_21 4 (dk_at dksX1_best_1 4 rfl rfl)
theorem dX1_best_28 : decode cX1_best 28 = .ok (.invokevirtual 266, 3) := dk_182 1 10 (dk_at dksX1_best_1 6 rfl rfl)
theorem dX1_best_31 : decode cX1_best 31 = .ok (.ifCond .eq 23, 3) := dk_153 0 23 (dk_at dksX1_best_1 9 rfl rfl)
theorem dX1_best_34 : decode cX1_best 34 = .ok (.iload_n 3, 1) := dk_29 (dk_at dksX1_best_1 12 rfl rfl)
theorem dX1_best_35 : decode cX1_best 35 = .ok (.iconst (-1), 1) := dk_2 (dk_at dksX1_best_1 13 rfl rfl)
theorem dX1_best_36 : decode cX1_best 36 = .ok (.if_icmp .eq 13, 3) := dk_159 0 13 (dk_at dksX1_best_1 14 rfl rfl)
theorem dX1_best_39 : decode cX1_best 39 = .ok (.aload_n 0, 1) := dk_42 (dk_at dksX1_best_1 17 rfl rfl)
theorem dX1_best_40 : decode cX1_best 40 = .ok (.iload 4, 2) := dk_21 4 (dk_at dksX1_best_1 18 rfl rfl)
theorem dX1_best_42 : decode cX1_best 42 = .ok (.iload_n 3, 1) := dk_29 (dk_at dksX1_best_1 20 rfl rfl)
theorem dX1_best_43 : decode cX1_best 43 = .ok (.invokevirtual 269, 3) := dk_182 1 13 (dk_at dksX1_best_1 21 rfl rfl)
theorem dX1_best_46 : decode cX1_best 46 = .ok (.ifCond .eq 8, 3) := dk_153 0 8 (dk_at dksX1_best_2 0 rfl rfl)
theorem dX1_best_49 : decode cX1_best 49 = .ok (.iload 4, 2) := dk_21 4 (dk_at dksX1_best_2 3 rfl rfl)
theorem dX1_best_51 : decode cX1_best 51 = .ok (.goto 4, 3) := dk_167 0 4 (dk_at dksX1_best_2 5 rfl rfl)
theorem dX1_best_54 : decode cX1_best 54 = .ok (.iload_n 3, 1) := dk_29 (dk_at dksX1_best_2 8 rfl rfl)
theorem dX1_best_55 : decode cX1_best 55 = .ok (.istore_n 3, 1) := dk_62 (dk_at dksX1_best_2 9 rfl rfl)
theorem dX1_best_56 : decode cX1_best 56 = .ok (.iinc 4 1, 3) := dk_132 4 1 (dk_at dksX1_best_2 10 rfl rfl)
theorem dX1_best_59 : decode cX1_best 59 = .ok (.goto (-45), 3) := dk_167 255 211 (dk_at dksX1_best_2 13 rfl rfl)
theorem dX1_best_62 : decode cX1_best 62 = .ok (.iload_n 3, 1) := dk_29 (dk_at dksX1_best_2 16 rfl rfl)
theorem dX1_best_63 : decode cX1_best 63 = .ok (.iconst (-1), 1) := dk_2 (dk_at dksX1_best_2 17 rfl rfl)
theorem dX1_best_64 : decode cX1_best 64 = .ok (.if_icmp .eq 7, 3) := dk_159 0 7 (dk_at dksX1_best_2 18 rfl rfl)
theorem dX1_best_67 : decode cX1_best 67 = .ok (.iconst 1, 1) := dk_4 (dk_at dksX1_best_2 21 rfl rfl)
theorem dX1_best_68 : decode cX1_best 68 = .ok (.goto 4, 3) := dk_167 0 4 (dk_at dksX1_best_3 0 rfl rfl)
theorem dX1_best_71 : decode cX1_best 71 = .ok (.iconst 0, 1) := dk_3 (dk_at dksX1_best_3 3 rfl rfl)
theorem dX1_best_72 : decode cX1_best 72 = .ok (.invokestatic 83, 3) := dk_184 0 83 (dk_at dksX1_best_3 4 rfl rfl)
theorem dX1_best_75 : decode cX1_best 75 = .ok (.iload_n 3, 1) := dk_29 (dk_at dksX1_best_3 7 rfl rfl)
theorem dX1_best_76 : decode cX1_best 76 = .ok (.ireturn, 1) := dk_172 (dk_at dksX1_best_3 8 rfl rfl)
abbrev cX1_isBetter : ByteArray := prog_1_method_35_code
def yX1_isBetter : MethodName := ⟨RX1, "isBetter", "(II)Z"⟩
def dkwX1_isBetter_2 : List UInt8 := [180, 0, 38, 27, 182, 0, 211, 42, 180, 0, 38, 28, 182, 0, 211, 162, 0, 7, 4, 167, 0, 4, 3, 172]
abbrev dktX1_isBetter_2 : List UInt8 := dkwX1_isBetter_2 ++ []
def dkwX1_isBetter_1 : List UInt8 := [182, 0, 207, 42, 180, 0, 38, 27, 182, 0, 211, 104, 100, 62, 29, 157, 0, 26, 29, 154, 0, 26, 42]
abbrev dktX1_isBetter_1 : List UInt8 := dkwX1_isBetter_1 ++ dktX1_isBetter_2
def dkwX1_isBetter_0 : List UInt8 := [42, 180, 0, 38, 27, 182, 0, 207, 42, 180, 0, 38, 28, 182, 0, 211, 104, 42, 180, 0, 38, 28]
abbrev dktX1_isBetter_0 : List UInt8 := dkwX1_isBetter_0 ++ dktX1_isBetter_1
theorem dksX1_isBetter_0 : cX1_isBetter.data.toList.drop 0 = dktX1_isBetter_0 := by decide +kernel
theorem dksX1_isBetter_1 : cX1_isBetter.data.toList.drop 22 = dktX1_isBetter_1 := dk_seg dksX1_isBetter_0 22 rfl rfl
theorem dksX1_isBetter_2 : cX1_isBetter.data.toList.drop 45 = dktX1_isBetter_2 := dk_seg dksX1_isBetter_1 23 rfl rfl
theorem dX1_isBetter_0 : decode cX1_isBetter 0 = .ok (.aload_n 0, 1) := dk_42 (dk_at dksX1_isBetter_0 0 rfl rfl)
theorem dX1_isBetter_1 : decode cX1_isBetter 1 = .ok (.getfield 38, 3) := dk_180 0 38 (dk_at dksX1_isBetter_0 1 rfl rfl)
theorem dX1_isBetter_4 : decode cX1_isBetter 4 = .ok (.iload_n 1, 1) := dk_27 (dk_at dksX1_isBetter_0 4 rfl rfl)
theorem dX1_isBetter_5 : decode cX1_isBetter 5 = .ok (.invokevirtual 207, 3) := dk_182 0 207 (dk_at dksX1_isBetter_0 5 rfl rfl)
theorem dX1_isBetter_8 : decode cX1_isBetter 8 = .ok (.aload_n 0, 1) := dk_42 (dk_at dksX1_isBetter_0 8 rfl rfl)
theorem dX1_isBetter_9 : decode cX1_isBetter 9 = .ok (.getfield 38, 3) := dk_180 0 38 (dk_at dksX1_isBetter_0 9 rfl rfl)
theorem dX1_isBetter_12 : decode cX1_isBetter 12 = .ok (.iload_n 2, 1) := dk_28 (dk_at dksX1_isBetter_0 12 rfl rfl)
theorem dX1_isBetter_13 : decode cX1_isBetter 13 = .ok (.invokevirtual 211, 3) := dk_182 0 211 (dk_at dksX1_isBetter_0 13 rfl rfl)
theorem dX1_isBetter_16 : decode cX1_isBetter 16 = .ok (.imul, 1) := dk_104 (dk_at dksX1_isBetter_0 16 rfl rfl)
theorem dX1_isBetter_17 : decode cX1_isBetter 17 = .ok (.aload_n 0, 1) := dk_42 (dk_at dksX1_isBetter_0 17 rfl rfl)
theorem dX1_isBetter_18 : decode cX1_isBetter 18 = .ok (.getfield 38, 3) := dk_180 0 38 (dk_at dksX1_isBetter_0 18 rfl rfl)
theorem dX1_isBetter_21 : decode cX1_isBetter 21 = .ok (.iload_n 2, 1) := dk_28 (dk_at dksX1_isBetter_0 21 rfl rfl)
theorem dX1_isBetter_22 : decode cX1_isBetter 22 = .ok (.invokevirtual 207, 3) := dk_182 0 207 (dk_at dksX1_isBetter_1 0 rfl rfl)
theorem dX1_isBetter_25 : decode cX1_isBetter 25 = .ok (.aload_n 0, 1) := dk_42 (dk_at dksX1_isBetter_1 3 rfl rfl)
theorem dX1_isBetter_26 : decode cX1_isBetter 26 = .ok (.getfield 38, 3) := dk_180 0 38 (dk_at dksX1_isBetter_1 4 rfl rfl)
theorem dX1_isBetter_29 : decode cX1_isBetter 29 = .ok (.iload_n 1, 1) := dk_27 (dk_at dksX1_isBetter_1 7 rfl rfl)
theorem dX1_isBetter_30 : decode cX1_isBetter 30 = .ok (.invokevirtual 211, 3) := dk_182 0 211 (dk_at dksX1_isBetter_1 8 rfl rfl)
theorem dX1_isBetter_33 : decode cX1_isBetter 33 = .ok (.imul, 1) := dk_104 (dk_at dksX1_isBetter_1 11 rfl rfl)
theorem dX1_isBetter_34 : decode cX1_isBetter 34 = .ok (.isub, 1) := dk_100 (dk_at dksX1_isBetter_1 12 rfl rfl)
theorem dX1_isBetter_35 : decode cX1_isBetter 35 = .ok (.istore_n 3, 1) := dk_62 (dk_at dksX1_isBetter_1 13 rfl rfl)
theorem dX1_isBetter_36 : decode cX1_isBetter 36 = .ok (.iload_n 3, 1) := dk_29 (dk_at dksX1_isBetter_1 14 rfl rfl)
theorem dX1_isBetter_37 : decode cX1_isBetter 37 = .ok (.ifCond .gt 26, 3) := dk_157 0 26 (dk_at dksX1_isBetter_1 15 rfl rfl)
theorem dX1_isBetter_40 : decode cX1_isBetter 40 = .ok (.iload_n 3, 1) := dk_29 (dk_at dksX1_isBetter_1 18 rfl rfl)
theorem dX1_isBetter_41 : decode cX1_isBetter 41 = .ok (.ifCond .ne 26, 3) := dk_154 0 26 (dk_at dksX1_isBetter_1 19 rfl rfl)
theorem dX1_isBetter_44 : decode cX1_isBetter 44 = .ok (.aload_n 0, 1) := dk_42 (dk_at dksX1_isBetter_1 22 rfl rfl)
theorem dX1_isBetter_45 : decode cX1_isBetter 45 = .ok (.getfield 38, 3) := dk_180 0 38 (dk_at dksX1_isBetter_2 0 rfl rfl)
theorem dX1_isBetter_48 : decode cX1_isBetter 48 = .ok (.iload_n 1, 1) := dk_27 (dk_at dksX1_isBetter_2 3 rfl rfl)
theorem dX1_isBetter_49 : decode cX1_isBetter 49 = .ok (.invokevirtual 211, 3) := dk_182 0 211 (dk_at dksX1_isBetter_2 4 rfl rfl)
theorem dX1_isBetter_52 : decode cX1_isBetter 52 = .ok (.aload_n 0, 1) := dk_42 (dk_at dksX1_isBetter_2 7 rfl rfl)
theorem dX1_isBetter_53 : decode cX1_isBetter 53 = .ok (.getfield 38, 3) := dk_180 0 38 (dk_at dksX1_isBetter_2 8 rfl rfl)
theorem dX1_isBetter_56 : decode cX1_isBetter 56 = .ok (.iload_n 2, 1) := dk_28 (dk_at dksX1_isBetter_2 11 rfl rfl)
theorem dX1_isBetter_57 : decode cX1_isBetter 57 = .ok (.invokevirtual 211, 3) := dk_182 0 211 (dk_at dksX1_isBetter_2 12 rfl rfl)
theorem dX1_isBetter_60 : decode cX1_isBetter 60 = .ok (.if_icmp .ge 7, 3) := dk_162 0 7 (dk_at dksX1_isBetter_2 15 rfl rfl)
theorem dX1_isBetter_63 : decode cX1_isBetter 63 = .ok (.iconst 1, 1) := dk_4 (dk_at dksX1_isBetter_2 18 rfl rfl)
theorem dX1_isBetter_64 : decode cX1_isBetter 64 = .ok (.goto 4, 3) := dk_167 0 4 (dk_at dksX1_isBetter_2 19 rfl rfl)
theorem dX1_isBetter_67 : decode cX1_isBetter 67 = .ok (.iconst 0, 1) := dk_3 (dk_at dksX1_isBetter_2 22 rfl rfl)
theorem dX1_isBetter_68 : decode cX1_isBetter 68 = .ok (.ireturn, 1) := dk_172 (dk_at dksX1_isBetter_2 23 rfl rfl)
abbrev cX1_requireElement : ByteArray := prog_1_method_5_code
def yX1_requireElement : MethodName := ⟨RX1, "requireElement", "(Z)V"⟩
def dkwX1_requireElement_0 : List UInt8 := [26, 154, 0, 11, 187, 0, 13, 89, 183, 0, 15, 191, 177]
abbrev dktX1_requireElement_0 : List UInt8 := dkwX1_requireElement_0 ++ []
theorem dksX1_requireElement_0 : cX1_requireElement.data.toList.drop 0 = dktX1_requireElement_0 := by decide +kernel
theorem dX1_requireElement_0 : decode cX1_requireElement 0 = .ok (.iload_n 0, 1) := dk_26 (dk_at dksX1_requireElement_0 0 rfl rfl)
theorem dX1_requireElement_1 : decode cX1_requireElement 1 = .ok (.ifCond .ne 11, 3) := dk_154 0 11 (dk_at dksX1_requireElement_0 1 rfl rfl)
theorem dX1_requireElement_4 : decode cX1_requireElement 4 = .ok (.new 13, 3) := dk_187 0 13 (dk_at dksX1_requireElement_0 4 rfl rfl)
theorem dX1_requireElement_7 : decode cX1_requireElement 7 = .ok (.dup, 1) := dk_89 (dk_at dksX1_requireElement_0 7 rfl rfl)
theorem dX1_requireElement_8 : decode cX1_requireElement 8 = .ok (.invokespecial 15, 3) := dk_183 0 15 (dk_at dksX1_requireElement_0 8 rfl rfl)
theorem dX1_requireElement_11 : decode cX1_requireElement 11 = .ok (.athrow, 1) := dk_191 (dk_at dksX1_requireElement_0 11 rfl rfl)
theorem dX1_requireElement_12 : decode cX1_requireElement 12 = .ok (.return_, 1) := dk_177 (dk_at dksX1_requireElement_0 12 rfl rfl)
abbrev cX1_way : ByteArray := prog_1_method_37_code
def yX1_way : MethodName := ⟨RX1, "way", "(II)I"⟩
def dkwX1_way_1 : List UInt8 := [182, 1, 16, 180, 1, 20, 172]
abbrev dktX1_way_1 : List UInt8 := dkwX1_way_1 ++ []
def dkwX1_way_0 : List UInt8 := [42, 180, 0, 38, 27, 182, 0, 250, 78, 42, 45, 27, 4, 188, 10, 89, 3, 28, 79, 184, 0, 151]
abbrev dktX1_way_0 : List UInt8 := dkwX1_way_0 ++ dktX1_way_1
theorem dksX1_way_0 : cX1_way.data.toList.drop 0 = dktX1_way_0 := by decide +kernel
theorem dksX1_way_1 : cX1_way.data.toList.drop 22 = dktX1_way_1 := dk_seg dksX1_way_0 22 rfl rfl
theorem dX1_way_0 : decode cX1_way 0 = .ok (.aload_n 0, 1) := dk_42 (dk_at dksX1_way_0 0 rfl rfl)
theorem dX1_way_1 : decode cX1_way 1 = .ok (.getfield 38, 3) := dk_180 0 38 (dk_at dksX1_way_0 1 rfl rfl)
theorem dX1_way_4 : decode cX1_way 4 = .ok (.iload_n 1, 1) := dk_27 (dk_at dksX1_way_0 4 rfl rfl)
theorem dX1_way_5 : decode cX1_way 5 = .ok (.invokevirtual 250, 3) := dk_182 0 250 (dk_at dksX1_way_0 5 rfl rfl)
theorem dX1_way_8 : decode cX1_way 8 = .ok (.astore_n 3, 1) := dk_78 (dk_at dksX1_way_0 8 rfl rfl)
theorem dX1_way_9 : decode cX1_way 9 = .ok (.aload_n 0, 1) := dk_42 (dk_at dksX1_way_0 9 rfl rfl)
theorem dX1_way_10 : decode cX1_way 10 = .ok (.aload_n 3, 1) := dk_45 (dk_at dksX1_way_0 10 rfl rfl)
theorem dX1_way_11 : decode cX1_way 11 = .ok (.iload_n 1, 1) := dk_27 (dk_at dksX1_way_0 11 rfl rfl)
theorem dX1_way_12 : decode cX1_way 12 = .ok (.iconst 1, 1) := dk_4 (dk_at dksX1_way_0 12 rfl rfl)
theorem dX1_way_13 : decode cX1_way 13 = .ok (.newarray .int, 2) := dk_188_10 (dk_at dksX1_way_0 13 rfl rfl)
theorem dX1_way_15 : decode cX1_way 15 = .ok (.dup, 1) := dk_89 (dk_at dksX1_way_0 15 rfl rfl)
theorem dX1_way_16 : decode cX1_way 16 = .ok (.iconst 0, 1) := dk_3 (dk_at dksX1_way_0 16 rfl rfl)
theorem dX1_way_17 : decode cX1_way 17 = .ok (.iload_n 2, 1) := dk_28 (dk_at dksX1_way_0 17 rfl rfl)
theorem dX1_way_18 : decode cX1_way 18 = .ok (.iastore, 1) := dk_79 (dk_at dksX1_way_0 18 rfl rfl)
theorem dX1_way_19 : decode cX1_way 19 = .ok (.invokestatic 151, 3) := dk_184 0 151 (dk_at dksX1_way_0 19 rfl rfl)
theorem dX1_way_22 : decode cX1_way 22 = .ok (.invokevirtual 272, 3) := dk_182 1 16 (dk_at dksX1_way_1 0 rfl rfl)
theorem dX1_way_25 : decode cX1_way 25 = .ok (.getfield 276, 3) := dk_180 1 20 (dk_at dksX1_way_1 3 rfl rfl)
theorem dX1_way_28 : decode cX1_way 28 = .ok (.ireturn, 1) := dk_172 (dk_at dksX1_way_1 6 rfl rfl)
abbrev cX1_way_2 : ByteArray := prog_1_method_12_code
def yX1_way_2 : MethodName := ⟨RX1, "way", "(LFlintMine$Shaft;II)LFlintMine$Trail;"⟩
def dkwX1_way_2_1 : List UInt8 := [25, 4, 198, 0, 7, 4, 167, 0, 4, 3, 184, 0, 83, 25, 4, 176]
abbrev dktX1_way_2_1 : List UInt8 := dkwX1_way_2_1 ++ []
def dkwX1_way_2_0 : List UInt8 := [43, 180, 0, 77, 154, 0, 7, 4, 167, 0, 4, 3, 184, 0, 83, 42, 28, 29, 182, 0, 86, 58, 4]
abbrev dktX1_way_2_0 : List UInt8 := dkwX1_way_2_0 ++ dktX1_way_2_1
theorem dksX1_way_2_0 : cX1_way_2.data.toList.drop 0 = dktX1_way_2_0 := by decide +kernel
theorem dksX1_way_2_1 : cX1_way_2.data.toList.drop 23 = dktX1_way_2_1 := dk_seg dksX1_way_2_0 23 rfl rfl
theorem dX1_way_2_0 : decode cX1_way_2 0 = .ok (.aload_n 1, 1) := dk_43 (dk_at dksX1_way_2_0 0 rfl rfl)
theorem dX1_way_2_1 : decode cX1_way_2 1 = .ok (.getfield 77, 3) := dk_180 0 77 (dk_at dksX1_way_2_0 1 rfl rfl)
theorem dX1_way_2_4 : decode cX1_way_2 4 = .ok (.ifCond .ne 7, 3) := dk_154 0 7 (dk_at dksX1_way_2_0 4 rfl rfl)
theorem dX1_way_2_7 : decode cX1_way_2 7 = .ok (.iconst 1, 1) := dk_4 (dk_at dksX1_way_2_0 7 rfl rfl)
theorem dX1_way_2_8 : decode cX1_way_2 8 = .ok (.goto 4, 3) := dk_167 0 4 (dk_at dksX1_way_2_0 8 rfl rfl)
theorem dX1_way_2_11 : decode cX1_way_2 11 = .ok (.iconst 0, 1) := dk_3 (dk_at dksX1_way_2_0 11 rfl rfl)
theorem dX1_way_2_12 : decode cX1_way_2 12 = .ok (.invokestatic 83, 3) := dk_184 0 83 (dk_at dksX1_way_2_0 12 rfl rfl)
theorem dX1_way_2_15 : decode cX1_way_2 15 = .ok (.aload_n 0, 1) := dk_42 (dk_at dksX1_way_2_0 15 rfl rfl)
theorem dX1_way_2_16 : decode cX1_way_2 16 = .ok (.iload_n 2, 1) := dk_28 (dk_at dksX1_way_2_0 16 rfl rfl)
theorem dX1_way_2_17 : decode cX1_way_2 17 = .ok (.iload_n 3, 1) := dk_29 (dk_at dksX1_way_2_0 17 rfl rfl)
theorem dX1_way_2_18 : decode cX1_way_2 18 = .ok (.invokevirtual 86, 3) := dk_182 0 86 (dk_at dksX1_way_2_0 18 rfl rfl)
theorem dX1_way_2_21 : decode cX1_way_2 21 = .ok (.astore 4, 2) := dk_58 4 (dk_at dksX1_way_2_0 21 rfl rfl)
theorem dX1_way_2_23 : decode cX1_way_2 23 = .ok (.aload 4, 2) := dk_25 4 (dk_at dksX1_way_2_1 0 rfl rfl)
theorem dX1_way_2_25 : decode cX1_way_2 25 = .ok (.ifnull 7, 3) := dk_198 0 7 (dk_at dksX1_way_2_1 2 rfl rfl)
theorem dX1_way_2_28 : decode cX1_way_2 28 = .ok (.iconst 1, 1) := dk_4 (dk_at dksX1_way_2_1 5 rfl rfl)
theorem dX1_way_2_29 : decode cX1_way_2 29 = .ok (.goto 4, 3) := dk_167 0 4 (dk_at dksX1_way_2_1 6 rfl rfl)
theorem dX1_way_2_32 : decode cX1_way_2 32 = .ok (.iconst 0, 1) := dk_3 (dk_at dksX1_way_2_1 9 rfl rfl)
theorem dX1_way_2_33 : decode cX1_way_2 33 = .ok (.invokestatic 83, 3) := dk_184 0 83 (dk_at dksX1_way_2_1 10 rfl rfl)
theorem dX1_way_2_36 : decode cX1_way_2 36 = .ok (.aload 4, 2) := dk_25 4 (dk_at dksX1_way_2_1 13 rfl rfl)
theorem dX1_way_2_38 : decode cX1_way_2 38 = .ok (.areturn, 1) := dk_176 (dk_at dksX1_way_2_1 15 rfl rfl)
abbrev cX1_wayAgain : ByteArray := prog_1_method_39_code
def yX1_wayAgain : MethodName := ⟨RX1, "wayAgain", "(II)I"⟩
def dkwX1_wayAgain_3 : List UInt8 := [153, 0, 7, 4, 167, 0, 4, 3, 184, 0, 83, 22, 8, 55, 5, 132, 7, 1, 167, 255, 212, 21, 7, 172]
abbrev dktX1_wayAgain_3 : List UInt8 := dkwX1_wayAgain_3 ++ []
def dkwX1_wayAgain_2 : List UInt8 := [123, 10, 127, 9, 148, 154, 0, 38, 42, 27, 22, 5, 182, 1, 23, 55, 8, 22, 8, 22, 5, 148]
abbrev dktX1_wayAgain_2 : List UInt8 := dkwX1_wayAgain_2 ++ dktX1_wayAgain_3
def dkwX1_wayAgain_1 : List UInt8 := [180, 0, 77, 154, 0, 7, 4, 167, 0, 4, 3, 184, 0, 83, 9, 55, 5, 3, 54, 7, 22, 5, 21, 4]
abbrev dktX1_wayAgain_1 : List UInt8 := dkwX1_wayAgain_1 ++ dktX1_wayAgain_2
def dkwX1_wayAgain_0 : List UInt8 := [42, 180, 0, 38, 27, 182, 0, 250, 78, 4, 188, 10, 89, 3, 28, 79, 184, 0, 151, 54, 4, 45]
abbrev dktX1_wayAgain_0 : List UInt8 := dkwX1_wayAgain_0 ++ dktX1_wayAgain_1
theorem dksX1_wayAgain_0 : cX1_wayAgain.data.toList.drop 0 = dktX1_wayAgain_0 := by decide +kernel
theorem dksX1_wayAgain_1 : cX1_wayAgain.data.toList.drop 22 = dktX1_wayAgain_1 := dk_seg dksX1_wayAgain_0 22 rfl rfl
theorem dksX1_wayAgain_2 : cX1_wayAgain.data.toList.drop 46 = dktX1_wayAgain_2 := dk_seg dksX1_wayAgain_1 24 rfl rfl
theorem dksX1_wayAgain_3 : cX1_wayAgain.data.toList.drop 68 = dktX1_wayAgain_3 := dk_seg dksX1_wayAgain_2 22 rfl rfl
theorem dX1_wayAgain_0 : decode cX1_wayAgain 0 = .ok (.aload_n 0, 1) := dk_42 (dk_at dksX1_wayAgain_0 0 rfl rfl)
theorem dX1_wayAgain_1 : decode cX1_wayAgain 1 = .ok (.getfield 38, 3) := dk_180 0 38 (dk_at dksX1_wayAgain_0 1 rfl rfl)
theorem dX1_wayAgain_4 : decode cX1_wayAgain 4 = .ok (.iload_n 1, 1) := dk_27 (dk_at dksX1_wayAgain_0 4 rfl rfl)
theorem dX1_wayAgain_5 : decode cX1_wayAgain 5 = .ok (.invokevirtual 250, 3) := dk_182 0 250 (dk_at dksX1_wayAgain_0 5 rfl rfl)
theorem dX1_wayAgain_8 : decode cX1_wayAgain 8 = .ok (.astore_n 3, 1) := dk_78 (dk_at dksX1_wayAgain_0 8 rfl rfl)
theorem dX1_wayAgain_9 : decode cX1_wayAgain 9 = .ok (.iconst 1, 1) := dk_4 (dk_at dksX1_wayAgain_0 9 rfl rfl)
theorem dX1_wayAgain_10 : decode cX1_wayAgain 10 = .ok (.newarray .int, 2) := dk_188_10 (dk_at dksX1_wayAgain_0 10 rfl rfl)
theorem dX1_wayAgain_12 : decode cX1_wayAgain 12 = .ok (.dup, 1) := dk_89 (dk_at dksX1_wayAgain_0 12 rfl rfl)
theorem dX1_wayAgain_13 : decode cX1_wayAgain 13 = .ok (.iconst 0, 1) := dk_3 (dk_at dksX1_wayAgain_0 13 rfl rfl)
theorem dX1_wayAgain_14 : decode cX1_wayAgain 14 = .ok (.iload_n 2, 1) := dk_28 (dk_at dksX1_wayAgain_0 14 rfl rfl)
theorem dX1_wayAgain_15 : decode cX1_wayAgain 15 = .ok (.iastore, 1) := dk_79 (dk_at dksX1_wayAgain_0 15 rfl rfl)
theorem dX1_wayAgain_16 : decode cX1_wayAgain 16 = .ok (.invokestatic 151, 3) := dk_184 0 151 (dk_at dksX1_wayAgain_0 16 rfl rfl)
theorem dX1_wayAgain_19 : decode cX1_wayAgain 19 = .ok (.istore 4, 2) := dk_54 4 (dk_at dksX1_wayAgain_0 19 rfl rfl)
theorem dX1_wayAgain_21 : decode cX1_wayAgain 21 = .ok (.aload_n 3, 1) := dk_45 (dk_at dksX1_wayAgain_0 21 rfl rfl)
theorem dX1_wayAgain_22 : decode cX1_wayAgain 22 = .ok (.getfield 77, 3) := dk_180 0 77 (dk_at dksX1_wayAgain_1 0 rfl rfl)
theorem dX1_wayAgain_25 : decode cX1_wayAgain 25 = .ok (.ifCond .ne 7, 3) := dk_154 0 7 (dk_at dksX1_wayAgain_1 3 rfl rfl)
theorem dX1_wayAgain_28 : decode cX1_wayAgain 28 = .ok (.iconst 1, 1) := dk_4 (dk_at dksX1_wayAgain_1 6 rfl rfl)
theorem dX1_wayAgain_29 : decode cX1_wayAgain 29 = .ok (.goto 4, 3) := dk_167 0 4 (dk_at dksX1_wayAgain_1 7 rfl rfl)
theorem dX1_wayAgain_32 : decode cX1_wayAgain 32 = .ok (.iconst 0, 1) := dk_3 (dk_at dksX1_wayAgain_1 10 rfl rfl)
theorem dX1_wayAgain_33 : decode cX1_wayAgain 33 = .ok (.invokestatic 83, 3) := dk_184 0 83 (dk_at dksX1_wayAgain_1 11 rfl rfl)
theorem dX1_wayAgain_36 : decode cX1_wayAgain 36 = .ok (.lconst 0, 1) := dk_9 (dk_at dksX1_wayAgain_1 14 rfl rfl)
theorem dX1_wayAgain_37 : decode cX1_wayAgain 37 = .ok (.lstore 5, 2) := dk_55 5 (dk_at dksX1_wayAgain_1 15 rfl rfl)
theorem dX1_wayAgain_39 : decode cX1_wayAgain 39 = .ok (.iconst 0, 1) := dk_3 (dk_at dksX1_wayAgain_1 17 rfl rfl)
theorem dX1_wayAgain_40 : decode cX1_wayAgain 40 = .ok (.istore 7, 2) := dk_54 7 (dk_at dksX1_wayAgain_1 18 rfl rfl)
theorem dX1_wayAgain_42 : decode cX1_wayAgain 42 = .ok (.lload 5, 2) := dk_22 5 (dk_at dksX1_wayAgain_1 20 rfl rfl)
theorem dX1_wayAgain_44 : decode cX1_wayAgain 44 = .ok (.iload 4, 2) := dk_21 4 (dk_at dksX1_wayAgain_1 22 rfl rfl)
theorem dX1_wayAgain_46 : decode cX1_wayAgain 46 = .ok (.lshr, 1) := dk_123 (dk_at dksX1_wayAgain_2 0 rfl rfl)
theorem dX1_wayAgain_47 : decode cX1_wayAgain 47 = .ok (.lconst 1, 1) := dk_10 (dk_at dksX1_wayAgain_2 1 rfl rfl)
theorem dX1_wayAgain_48 : decode cX1_wayAgain 48 = .ok (.land, 1) := dk_127 (dk_at dksX1_wayAgain_2 2 rfl rfl)
theorem dX1_wayAgain_49 : decode cX1_wayAgain 49 = .ok (.lconst 0, 1) := dk_9 (dk_at dksX1_wayAgain_2 3 rfl rfl)
theorem dX1_wayAgain_50 : decode cX1_wayAgain 50 = .ok (.lcmp, 1) := dk_148 (dk_at dksX1_wayAgain_2 4 rfl rfl)
theorem dX1_wayAgain_51 : decode cX1_wayAgain 51 = .ok (.ifCond .ne 38, 3) := dk_154 0 38 (dk_at dksX1_wayAgain_2 5 rfl rfl)
theorem dX1_wayAgain_54 : decode cX1_wayAgain 54 = .ok (.aload_n 0, 1) := dk_42 (dk_at dksX1_wayAgain_2 8 rfl rfl)
theorem dX1_wayAgain_55 : decode cX1_wayAgain 55 = .ok (.iload_n 1, 1) := dk_27 (dk_at dksX1_wayAgain_2 9 rfl rfl)
theorem dX1_wayAgain_56 : decode cX1_wayAgain 56 = .ok (.lload 5, 2) := dk_22 5 (dk_at dksX1_wayAgain_2 10 rfl rfl)
theorem dX1_wayAgain_58 : decode cX1_wayAgain 58 = .ok (.invokevirtual 279, 3) := dk_182 1 23 (dk_at dksX1_wayAgain_2 12 rfl rfl)
theorem dX1_wayAgain_61 : decode cX1_wayAgain 61 = .ok (.lstore 8, 2) := dk_55 8 (dk_at dksX1_wayAgain_2 15 rfl rfl)
theorem dX1_wayAgain_63 : decode cX1_wayAgain 63 = .ok (.lload 8, 2) := dk_22 8 (dk_at dksX1_wayAgain_2 17 rfl rfl)
theorem dX1_wayAgain_65 : decode cX1_wayAgain 65 = .ok (.lload 5, 2) := dk_22 5 (dk_at dksX1_wayAgain_2 19 rfl rfl)
theorem dX1_wayAgain_67 : decode cX1_wayAgain 67 = .ok (.lcmp, 1) := dk_148 (dk_at dksX1_wayAgain_2 21 rfl rfl)
theorem dX1_wayAgain_68 : decode cX1_wayAgain 68 = .ok (.ifCond .eq 7, 3) := dk_153 0 7 (dk_at dksX1_wayAgain_3 0 rfl rfl)
theorem dX1_wayAgain_71 : decode cX1_wayAgain 71 = .ok (.iconst 1, 1) := dk_4 (dk_at dksX1_wayAgain_3 3 rfl rfl)
theorem dX1_wayAgain_72 : decode cX1_wayAgain 72 = .ok (.goto 4, 3) := dk_167 0 4 (dk_at dksX1_wayAgain_3 4 rfl rfl)
theorem dX1_wayAgain_75 : decode cX1_wayAgain 75 = .ok (.iconst 0, 1) := dk_3 (dk_at dksX1_wayAgain_3 7 rfl rfl)
theorem dX1_wayAgain_76 : decode cX1_wayAgain 76 = .ok (.invokestatic 83, 3) := dk_184 0 83 (dk_at dksX1_wayAgain_3 8 rfl rfl)
theorem dX1_wayAgain_79 : decode cX1_wayAgain 79 = .ok (.lload 8, 2) := dk_22 8 (dk_at dksX1_wayAgain_3 11 rfl rfl)
theorem dX1_wayAgain_81 : decode cX1_wayAgain 81 = .ok (.lstore 5, 2) := dk_55 5 (dk_at dksX1_wayAgain_3 13 rfl rfl)
theorem dX1_wayAgain_83 : decode cX1_wayAgain 83 = .ok (.iinc 7 1, 3) := dk_132 7 1 (dk_at dksX1_wayAgain_3 15 rfl rfl)
theorem dX1_wayAgain_86 : decode cX1_wayAgain 86 = .ok (.goto (-44), 3) := dk_167 255 212 (dk_at dksX1_wayAgain_3 18 rfl rfl)
theorem dX1_wayAgain_89 : decode cX1_wayAgain 89 = .ok (.iload 7, 2) := dk_21 7 (dk_at dksX1_wayAgain_3 21 rfl rfl)
theorem dX1_wayAgain_91 : decode cX1_wayAgain 91 = .ok (.ireturn, 1) := dk_172 (dk_at dksX1_wayAgain_3 23 rfl rfl)
abbrev cX1_spread : ByteArray := prog_1_method_38_code
def yX1_spread : MethodName := ⟨RX1, "spread", "(IJ)J"⟩
def dkwX1_spread_4 : List UInt8 := [153, 0, 10, 10, 21, 6, 121, 167, 0, 4, 9, 129, 55, 4, 132, 6, 1, 167, 255, 152, 22, 4, 173]
abbrev dktX1_spread_4 : List UInt8 := dkwX1_spread_4 ++ []
def dkwX1_spread_3 : List UInt8 := [132, 8, 1, 167, 255, 211, 22, 4, 21, 7, 153, 0, 23, 42, 180, 0, 38, 21, 6, 27, 182, 0, 42]
abbrev dktX1_spread_3 : List UInt8 := dkwX1_spread_3 ++ dktX1_spread_4
def dkwX1_spread_2 : List UInt8 := [2, 159, 0, 18, 32, 21, 9, 123, 10, 127, 10, 148, 154, 0, 7, 4, 167, 0, 4, 3, 128, 54, 7]
abbrev dktX1_spread_2 : List UInt8 := dkwX1_spread_2 ++ dktX1_spread_3
def dkwX1_spread_1 : List UInt8 := [54, 7, 3, 54, 8, 21, 8, 7, 162, 0, 45, 21, 6, 21, 8, 184, 0, 51, 54, 9, 21, 7, 21, 9]
abbrev dktX1_spread_1 : List UInt8 := dkwX1_spread_1 ++ dktX1_spread_2
def dkwX1_spread_0 : List UInt8 := [32, 55, 4, 3, 54, 6, 21, 6, 16, 64, 162, 0, 103, 42, 180, 0, 38, 21, 6, 27, 182, 0, 58]
abbrev dktX1_spread_0 : List UInt8 := dkwX1_spread_0 ++ dktX1_spread_1
theorem dksX1_spread_0 : cX1_spread.data.toList.drop 0 = dktX1_spread_0 := by decide +kernel
theorem dksX1_spread_1 : cX1_spread.data.toList.drop 23 = dktX1_spread_1 := dk_seg dksX1_spread_0 23 rfl rfl
theorem dksX1_spread_2 : cX1_spread.data.toList.drop 47 = dktX1_spread_2 := dk_seg dksX1_spread_1 24 rfl rfl
theorem dksX1_spread_3 : cX1_spread.data.toList.drop 70 = dktX1_spread_3 := dk_seg dksX1_spread_2 23 rfl rfl
theorem dksX1_spread_4 : cX1_spread.data.toList.drop 93 = dktX1_spread_4 := dk_seg dksX1_spread_3 23 rfl rfl
theorem dX1_spread_0 : decode cX1_spread 0 = .ok (.lload_n 2, 1) := dk_32 (dk_at dksX1_spread_0 0 rfl rfl)
theorem dX1_spread_1 : decode cX1_spread 1 = .ok (.lstore 4, 2) := dk_55 4 (dk_at dksX1_spread_0 1 rfl rfl)
theorem dX1_spread_3 : decode cX1_spread 3 = .ok (.iconst 0, 1) := dk_3 (dk_at dksX1_spread_0 3 rfl rfl)
theorem dX1_spread_4 : decode cX1_spread 4 = .ok (.istore 6, 2) := dk_54 6 (dk_at dksX1_spread_0 4 rfl rfl)
theorem dX1_spread_6 : decode cX1_spread 6 = .ok (.iload 6, 2) := dk_21 6 (dk_at dksX1_spread_0 6 rfl rfl)
theorem dX1_spread_8 : decode cX1_spread 8 = .ok (.bipush 64, 2) := dk_16 64 (dk_at dksX1_spread_0 8 rfl rfl)
theorem dX1_spread_10 : decode cX1_spread 10 = .ok (.if_icmp .ge 103, 3) := dk_162 0 103 (dk_at dksX1_spread_0 10 rfl rfl)
theorem dX1_spread_13 : decode cX1_spread 13 = .ok (.aload_n 0, 1) := dk_42 (dk_at dksX1_spread_0 13 rfl rfl)
theorem dX1_spread_14 : decode cX1_spread 14 = .ok (.getfield 38, 3) := dk_180 0 38 (dk_at dksX1_spread_0 14 rfl rfl)
theorem dX1_spread_17 : decode cX1_spread 17 = .ok (.iload 6, 2) := dk_21 6 (dk_at dksX1_spread_0 17 rfl rfl)
theorem dX1_spread_19 : decode cX1_spread 19 = .ok (.iload_n 1, 1) := dk_27 (dk_at dksX1_spread_0 19 rfl rfl)
theorem dX1_spread_20 : decode cX1_spread 20 = .ok (.invokevirtual 58, 3) := dk_182 0 58 (dk_at dksX1_spread_0 20 rfl rfl)
theorem dX1_spread_23 : decode cX1_spread 23 = .ok (.istore 7, 2) := dk_54 7 (dk_at dksX1_spread_1 0 rfl rfl)
theorem dX1_spread_25 : decode cX1_spread 25 = .ok (.iconst 0, 1) := dk_3 (dk_at dksX1_spread_1 2 rfl rfl)
theorem dX1_spread_26 : decode cX1_spread 26 = .ok (.istore 8, 2) := dk_54 8 (dk_at dksX1_spread_1 3 rfl rfl)
theorem dX1_spread_28 : decode cX1_spread 28 = .ok (.iload 8, 2) := dk_21 8 (dk_at dksX1_spread_1 5 rfl rfl)
theorem dX1_spread_30 : decode cX1_spread 30 = .ok (.iconst 4, 1) := dk_7 (dk_at dksX1_spread_1 7 rfl rfl)
theorem dX1_spread_31 : decode cX1_spread 31 = .ok (.if_icmp .ge 45, 3) := dk_162 0 45 (dk_at dksX1_spread_1 8 rfl rfl)
theorem dX1_spread_34 : decode cX1_spread 34 = .ok (.iload 6, 2) := dk_21 6 (dk_at dksX1_spread_1 11 rfl rfl)
theorem dX1_spread_36 : decode cX1_spread 36 = .ok (.iload 8, 2) := dk_21 8 (dk_at dksX1_spread_1 13 rfl rfl)
theorem dX1_spread_38 : decode cX1_spread 38 = .ok (.invokestatic 51, 3) := dk_184 0 51 (dk_at dksX1_spread_1 15 rfl rfl)
theorem dX1_spread_41 : decode cX1_spread 41 = .ok (.istore 9, 2) := dk_54 9 (dk_at dksX1_spread_1 18 rfl rfl)
theorem dX1_spread_43 : decode cX1_spread 43 = .ok (.iload 7, 2) := dk_21 7 (dk_at dksX1_spread_1 20 rfl rfl)
theorem dX1_spread_45 : decode cX1_spread 45 = .ok (.iload 9, 2) := dk_21 9 (dk_at dksX1_spread_1 22 rfl rfl)
theorem dX1_spread_47 : decode cX1_spread 47 = .ok (.iconst (-1), 1) := dk_2 (dk_at dksX1_spread_2 0 rfl rfl)
theorem dX1_spread_48 : decode cX1_spread 48 = .ok (.if_icmp .eq 18, 3) := dk_159 0 18 (dk_at dksX1_spread_2 1 rfl rfl)
theorem dX1_spread_51 : decode cX1_spread 51 = .ok (.lload_n 2, 1) := dk_32 (dk_at dksX1_spread_2 4 rfl rfl)
theorem dX1_spread_52 : decode cX1_spread 52 = .ok (.iload 9, 2) := dk_21 9 (dk_at dksX1_spread_2 5 rfl rfl)
theorem dX1_spread_54 : decode cX1_spread 54 = .ok (.lshr, 1) := dk_123 (dk_at dksX1_spread_2 7 rfl rfl)
theorem dX1_spread_55 : decode cX1_spread 55 = .ok (.lconst 1, 1) := dk_10 (dk_at dksX1_spread_2 8 rfl rfl)
theorem dX1_spread_56 : decode cX1_spread 56 = .ok (.land, 1) := dk_127 (dk_at dksX1_spread_2 9 rfl rfl)
theorem dX1_spread_57 : decode cX1_spread 57 = .ok (.lconst 1, 1) := dk_10 (dk_at dksX1_spread_2 10 rfl rfl)
theorem dX1_spread_58 : decode cX1_spread 58 = .ok (.lcmp, 1) := dk_148 (dk_at dksX1_spread_2 11 rfl rfl)
theorem dX1_spread_59 : decode cX1_spread 59 = .ok (.ifCond .ne 7, 3) := dk_154 0 7 (dk_at dksX1_spread_2 12 rfl rfl)
theorem dX1_spread_62 : decode cX1_spread 62 = .ok (.iconst 1, 1) := dk_4 (dk_at dksX1_spread_2 15 rfl rfl)
theorem dX1_spread_63 : decode cX1_spread 63 = .ok (.goto 4, 3) := dk_167 0 4 (dk_at dksX1_spread_2 16 rfl rfl)
theorem dX1_spread_66 : decode cX1_spread 66 = .ok (.iconst 0, 1) := dk_3 (dk_at dksX1_spread_2 19 rfl rfl)
theorem dX1_spread_67 : decode cX1_spread 67 = .ok (.ior, 1) := dk_128 (dk_at dksX1_spread_2 20 rfl rfl)
theorem dX1_spread_68 : decode cX1_spread 68 = .ok (.istore 7, 2) := dk_54 7 (dk_at dksX1_spread_2 21 rfl rfl)
theorem dX1_spread_70 : decode cX1_spread 70 = .ok (.iinc 8 1, 3) := dk_132 8 1 (dk_at dksX1_spread_3 0 rfl rfl)
theorem dX1_spread_73 : decode cX1_spread 73 = .ok (.goto (-45), 3) := dk_167 255 211 (dk_at dksX1_spread_3 3 rfl rfl)
theorem dX1_spread_76 : decode cX1_spread 76 = .ok (.lload 4, 2) := dk_22 4 (dk_at dksX1_spread_3 6 rfl rfl)
theorem dX1_spread_78 : decode cX1_spread 78 = .ok (.iload 7, 2) := dk_21 7 (dk_at dksX1_spread_3 8 rfl rfl)
theorem dX1_spread_80 : decode cX1_spread 80 = .ok (.ifCond .eq 23, 3) := dk_153 0 23 (dk_at dksX1_spread_3 10 rfl rfl)
theorem dX1_spread_83 : decode cX1_spread 83 = .ok (.aload_n 0, 1) := dk_42 (dk_at dksX1_spread_3 13 rfl rfl)
theorem dX1_spread_84 : decode cX1_spread 84 = .ok (.getfield 38, 3) := dk_180 0 38 (dk_at dksX1_spread_3 14 rfl rfl)
theorem dX1_spread_87 : decode cX1_spread 87 = .ok (.iload 6, 2) := dk_21 6 (dk_at dksX1_spread_3 17 rfl rfl)
theorem dX1_spread_89 : decode cX1_spread 89 = .ok (.iload_n 1, 1) := dk_27 (dk_at dksX1_spread_3 19 rfl rfl)
theorem dX1_spread_90 : decode cX1_spread 90 = .ok (.invokevirtual 42, 3) := dk_182 0 42 (dk_at dksX1_spread_3 20 rfl rfl)
theorem dX1_spread_93 : decode cX1_spread 93 = .ok (.ifCond .eq 10, 3) := dk_153 0 10 (dk_at dksX1_spread_4 0 rfl rfl)
theorem dX1_spread_96 : decode cX1_spread 96 = .ok (.lconst 1, 1) := dk_10 (dk_at dksX1_spread_4 3 rfl rfl)
theorem dX1_spread_97 : decode cX1_spread 97 = .ok (.iload 6, 2) := dk_21 6 (dk_at dksX1_spread_4 4 rfl rfl)
theorem dX1_spread_99 : decode cX1_spread 99 = .ok (.lshl, 1) := dk_121 (dk_at dksX1_spread_4 6 rfl rfl)
theorem dX1_spread_100 : decode cX1_spread 100 = .ok (.goto 4, 3) := dk_167 0 4 (dk_at dksX1_spread_4 7 rfl rfl)
theorem dX1_spread_103 : decode cX1_spread 103 = .ok (.lconst 0, 1) := dk_9 (dk_at dksX1_spread_4 10 rfl rfl)
theorem dX1_spread_104 : decode cX1_spread 104 = .ok (.lor, 1) := dk_129 (dk_at dksX1_spread_4 11 rfl rfl)
theorem dX1_spread_105 : decode cX1_spread 105 = .ok (.lstore 4, 2) := dk_55 4 (dk_at dksX1_spread_4 12 rfl rfl)
theorem dX1_spread_107 : decode cX1_spread 107 = .ok (.iinc 6 1, 3) := dk_132 6 1 (dk_at dksX1_spread_4 14 rfl rfl)
theorem dX1_spread_110 : decode cX1_spread 110 = .ok (.goto (-104), 3) := dk_167 255 152 (dk_at dksX1_spread_4 17 rfl rfl)
theorem dX1_spread_113 : decode cX1_spread 113 = .ok (.lload 4, 2) := dk_22 4 (dk_at dksX1_spread_4 20 rfl rfl)
theorem dX1_spread_115 : decode cX1_spread 115 = .ok (.lreturn, 1) := dk_173 (dk_at dksX1_spread_4 22 rfl rfl)
abbrev cX1_step : ByteArray := prog_1_method_40_code
def yX1_step : MethodName := ⟨RX1, "step", "(III)I"⟩
def dkwX1_step_2 : List UInt8 := [182, 1, 27, 172]
abbrev dktX1_step_2 : List UInt8 := dkwX1_step_2 ++ []
def dkwX1_step_1 : List UInt8 := [182, 1, 16, 58, 5, 29, 3, 25, 5, 180, 1, 20, 4, 100, 184, 0, 18, 184, 0, 83, 25, 5, 29]
abbrev dktX1_step_1 : List UInt8 := dkwX1_step_1 ++ dktX1_step_2
def dkwX1_step_0 : List UInt8 := [42, 180, 0, 38, 27, 182, 0, 250, 58, 4, 42, 25, 4, 27, 4, 188, 10, 89, 3, 28, 79, 184, 0, 151]
abbrev dktX1_step_0 : List UInt8 := dkwX1_step_0 ++ dktX1_step_1
theorem dksX1_step_0 : cX1_step.data.toList.drop 0 = dktX1_step_0 := by decide +kernel
theorem dksX1_step_1 : cX1_step.data.toList.drop 24 = dktX1_step_1 := dk_seg dksX1_step_0 24 rfl rfl
theorem dksX1_step_2 : cX1_step.data.toList.drop 47 = dktX1_step_2 := dk_seg dksX1_step_1 23 rfl rfl
theorem dX1_step_0 : decode cX1_step 0 = .ok (.aload_n 0, 1) := dk_42 (dk_at dksX1_step_0 0 rfl rfl)
theorem dX1_step_1 : decode cX1_step 1 = .ok (.getfield 38, 3) := dk_180 0 38 (dk_at dksX1_step_0 1 rfl rfl)
theorem dX1_step_4 : decode cX1_step 4 = .ok (.iload_n 1, 1) := dk_27 (dk_at dksX1_step_0 4 rfl rfl)
theorem dX1_step_5 : decode cX1_step 5 = .ok (.invokevirtual 250, 3) := dk_182 0 250 (dk_at dksX1_step_0 5 rfl rfl)
theorem dX1_step_8 : decode cX1_step 8 = .ok (.astore 4, 2) := dk_58 4 (dk_at dksX1_step_0 8 rfl rfl)
theorem dX1_step_10 : decode cX1_step 10 = .ok (.aload_n 0, 1) := dk_42 (dk_at dksX1_step_0 10 rfl rfl)
theorem dX1_step_11 : decode cX1_step 11 = .ok (.aload 4, 2) := dk_25 4 (dk_at dksX1_step_0 11 rfl rfl)
theorem dX1_step_13 : decode cX1_step 13 = .ok (.iload_n 1, 1) := dk_27 (dk_at dksX1_step_0 13 rfl rfl)
theorem dX1_step_14 : decode cX1_step 14 = .ok (.iconst 1, 1) := dk_4 (dk_at dksX1_step_0 14 rfl rfl)
theorem dX1_step_15 : decode cX1_step 15 = .ok (.newarray .int, 2) := dk_188_10 (dk_at dksX1_step_0 15 rfl rfl)
theorem dX1_step_17 : decode cX1_step 17 = .ok (.dup, 1) := dk_89 (dk_at dksX1_step_0 17 rfl rfl)
theorem dX1_step_18 : decode cX1_step 18 = .ok (.iconst 0, 1) := dk_3 (dk_at dksX1_step_0 18 rfl rfl)
theorem dX1_step_19 : decode cX1_step 19 = .ok (.iload_n 2, 1) := dk_28 (dk_at dksX1_step_0 19 rfl rfl)
theorem dX1_step_20 : decode cX1_step 20 = .ok (.iastore, 1) := dk_79 (dk_at dksX1_step_0 20 rfl rfl)
theorem dX1_step_21 : decode cX1_step 21 = .ok (.invokestatic 151, 3) := dk_184 0 151 (dk_at dksX1_step_0 21 rfl rfl)
theorem dX1_step_24 : decode cX1_step 24 = .ok (.invokevirtual 272, 3) := dk_182 1 16 (dk_at dksX1_step_1 0 rfl rfl)
theorem dX1_step_27 : decode cX1_step 27 = .ok (.astore 5, 2) := dk_58 5 (dk_at dksX1_step_1 3 rfl rfl)
theorem dX1_step_29 : decode cX1_step 29 = .ok (.iload_n 3, 1) := dk_29 (dk_at dksX1_step_1 5 rfl rfl)
theorem dX1_step_30 : decode cX1_step 30 = .ok (.iconst 0, 1) := dk_3 (dk_at dksX1_step_1 6 rfl rfl)
theorem dX1_step_31 : decode cX1_step 31 = .ok (.aload 5, 2) := dk_25 5 (dk_at dksX1_step_1 7 rfl rfl)
theorem dX1_step_33 : decode cX1_step 33 = .ok (.getfield 276, 3) := dk_180 1 20 (dk_at dksX1_step_1 9 rfl rfl)
theorem dX1_step_36 : decode cX1_step 36 = .ok (.iconst 1, 1) := dk_4 (dk_at dksX1_step_1 12 rfl rfl)
theorem dX1_step_37 : decode cX1_step 37 = .ok (.isub, 1) := dk_100 (dk_at dksX1_step_1 13 rfl rfl)
theorem dX1_step_38 : decode cX1_step 38 = .ok (.invokestatic 18, 3) := dk_184 0 18 (dk_at dksX1_step_1 14 rfl rfl)
theorem dX1_step_41 : decode cX1_step 41 = .ok (.invokestatic 83, 3) := dk_184 0 83 (dk_at dksX1_step_1 17 rfl rfl)
theorem dX1_step_44 : decode cX1_step 44 = .ok (.aload 5, 2) := dk_25 5 (dk_at dksX1_step_1 20 rfl rfl)
theorem dX1_step_46 : decode cX1_step 46 = .ok (.iload_n 3, 1) := dk_29 (dk_at dksX1_step_1 22 rfl rfl)
theorem dX1_step_47 : decode cX1_step 47 = .ok (.invokevirtual 283, 3) := dk_182 1 27 (dk_at dksX1_step_2 0 rfl rfl)
theorem dX1_step_50 : decode cX1_step 50 = .ok (.ireturn, 1) := dk_172 (dk_at dksX1_step_2 3 rfl rfl)
abbrev cX1_strokes : ByteArray := prog_1_method_41_code
def yX1_strokes : MethodName := ⟨RX1, "strokes", "(II)I"⟩
def dkwX1_strokes_1 : List UInt8 := [182, 1, 16, 42, 180, 0, 38, 182, 1, 29, 172]
abbrev dktX1_strokes_1 : List UInt8 := dkwX1_strokes_1 ++ []
def dkwX1_strokes_0 : List UInt8 := [42, 180, 0, 38, 27, 182, 0, 250, 78, 42, 45, 27, 4, 188, 10, 89, 3, 28, 79, 184, 0, 151]
abbrev dktX1_strokes_0 : List UInt8 := dkwX1_strokes_0 ++ dktX1_strokes_1
theorem dksX1_strokes_0 : cX1_strokes.data.toList.drop 0 = dktX1_strokes_0 := by decide +kernel
theorem dksX1_strokes_1 : cX1_strokes.data.toList.drop 22 = dktX1_strokes_1 := dk_seg dksX1_strokes_0 22 rfl rfl
theorem dX1_strokes_0 : decode cX1_strokes 0 = .ok (.aload_n 0, 1) := dk_42 (dk_at dksX1_strokes_0 0 rfl rfl)
theorem dX1_strokes_1 : decode cX1_strokes 1 = .ok (.getfield 38, 3) := dk_180 0 38 (dk_at dksX1_strokes_0 1 rfl rfl)
theorem dX1_strokes_4 : decode cX1_strokes 4 = .ok (.iload_n 1, 1) := dk_27 (dk_at dksX1_strokes_0 4 rfl rfl)
theorem dX1_strokes_5 : decode cX1_strokes 5 = .ok (.invokevirtual 250, 3) := dk_182 0 250 (dk_at dksX1_strokes_0 5 rfl rfl)
theorem dX1_strokes_8 : decode cX1_strokes 8 = .ok (.astore_n 3, 1) := dk_78 (dk_at dksX1_strokes_0 8 rfl rfl)
theorem dX1_strokes_9 : decode cX1_strokes 9 = .ok (.aload_n 0, 1) := dk_42 (dk_at dksX1_strokes_0 9 rfl rfl)
theorem dX1_strokes_10 : decode cX1_strokes 10 = .ok (.aload_n 3, 1) := dk_45 (dk_at dksX1_strokes_0 10 rfl rfl)
theorem dX1_strokes_11 : decode cX1_strokes 11 = .ok (.iload_n 1, 1) := dk_27 (dk_at dksX1_strokes_0 11 rfl rfl)
theorem dX1_strokes_12 : decode cX1_strokes 12 = .ok (.iconst 1, 1) := dk_4 (dk_at dksX1_strokes_0 12 rfl rfl)
theorem dX1_strokes_13 : decode cX1_strokes 13 = .ok (.newarray .int, 2) := dk_188_10 (dk_at dksX1_strokes_0 13 rfl rfl)
theorem dX1_strokes_15 : decode cX1_strokes 15 = .ok (.dup, 1) := dk_89 (dk_at dksX1_strokes_0 15 rfl rfl)
theorem dX1_strokes_16 : decode cX1_strokes 16 = .ok (.iconst 0, 1) := dk_3 (dk_at dksX1_strokes_0 16 rfl rfl)
theorem dX1_strokes_17 : decode cX1_strokes 17 = .ok (.iload_n 2, 1) := dk_28 (dk_at dksX1_strokes_0 17 rfl rfl)
theorem dX1_strokes_18 : decode cX1_strokes 18 = .ok (.iastore, 1) := dk_79 (dk_at dksX1_strokes_0 18 rfl rfl)
theorem dX1_strokes_19 : decode cX1_strokes 19 = .ok (.invokestatic 151, 3) := dk_184 0 151 (dk_at dksX1_strokes_0 19 rfl rfl)
theorem dX1_strokes_22 : decode cX1_strokes 22 = .ok (.invokevirtual 272, 3) := dk_182 1 16 (dk_at dksX1_strokes_1 0 rfl rfl)
theorem dX1_strokes_25 : decode cX1_strokes 25 = .ok (.aload_n 0, 1) := dk_42 (dk_at dksX1_strokes_1 3 rfl rfl)
theorem dX1_strokes_26 : decode cX1_strokes 26 = .ok (.getfield 38, 3) := dk_180 0 38 (dk_at dksX1_strokes_1 4 rfl rfl)
theorem dX1_strokes_29 : decode cX1_strokes 29 = .ok (.invokevirtual 285, 3) := dk_182 1 29 (dk_at dksX1_strokes_1 7 rfl rfl)
theorem dX1_strokes_32 : decode cX1_strokes 32 = .ok (.ireturn, 1) := dk_172 (dk_at dksX1_strokes_1 10 rfl rfl)
abbrev cX1_number : ByteArray := prog_1_method_45_code
def yX1_number : MethodName := ⟨RX1, "number", "(I)I"⟩
def dkwX1_number_7 : List UInt8 := [172]
abbrev dktX1_number_7 : List UInt8 := dkwX1_number_7 ++ []
def dkwX1_number_6 : List UInt8 := [180, 1, 57, 172, 42, 182, 1, 60, 172, 42, 180, 0, 96, 182, 0, 114, 172, 42, 180, 0, 103, 182, 1, 63]
abbrev dktX1_number_6 : List UInt8 := dkwX1_number_6 ++ dktX1_number_7
def dkwX1_number_5 : List UInt8 := [180, 0, 38, 180, 0, 172, 185, 0, 176, 1, 0, 172, 42, 180, 0, 38, 182, 1, 54, 172, 42, 180, 0, 38]
abbrev dktX1_number_5 : List UInt8 := dkwX1_number_5 ++ dktX1_number_6
def dkwX1_number_4 : List UInt8 := [180, 0, 38, 180, 1, 47, 172, 42, 180, 0, 38, 182, 1, 50, 172, 42, 180, 0, 38, 180, 1, 52, 172, 42]
abbrev dktX1_number_4 : List UInt8 := dkwX1_number_4 ++ dktX1_number_5
def dkwX1_number_3 : List UInt8 := [182, 1, 38, 172, 42, 5, 182, 1, 38, 172, 42, 180, 0, 38, 180, 1, 41, 172, 42, 182, 1, 44, 172, 42]
abbrev dktX1_number_3 : List UInt8 := dkwX1_number_3 ++ dktX1_number_4
def dkwX1_number_2 : List UInt8 := [42, 180, 0, 38, 180, 1, 32, 185, 0, 176, 1, 0, 172, 42, 180, 0, 38, 182, 1, 35, 172, 42, 4]
abbrev dktX1_number_2 : List UInt8 := dkwX1_number_2 ++ dktX1_number_3
def dkwX1_number_1 : List UInt8 := [170, 0, 0, 0, 0, 0, 183, 0, 0, 0, 0, 0, 0, 0, 13, 0, 0, 0, 71, 0, 0, 0, 84, 0, 0, 0, 92, 0, 0, 0, 98, 0, 0, 0, 104, 0, 0, 0, 112, 0, 0, 0, 117, 0, 0, 0, 125, 0, 0, 0, 133, 0, 0, 0, 141, 0, 0, 0, 154, 0, 0, 0, 162, 0, 0, 0, 170, 0, 0, 0, 175]
abbrev dktX1_number_1 : List UInt8 := dkwX1_number_1 ++ dktX1_number_2
def dkwX1_number_0 : List UInt8 := [4, 188, 4, 89, 3, 27, 3, 16, 14, 184, 0, 18, 84, 184, 0, 192, 27]
abbrev dktX1_number_0 : List UInt8 := dkwX1_number_0 ++ dktX1_number_1
theorem dksX1_number_0 : cX1_number.data.toList.drop 0 = dktX1_number_0 := by decide +kernel
theorem dksX1_number_1 : cX1_number.data.toList.drop 17 = dktX1_number_1 := dk_seg dksX1_number_0 17 rfl rfl
theorem dksX1_number_2 : cX1_number.data.toList.drop 88 = dktX1_number_2 := dk_seg dksX1_number_1 71 rfl rfl
theorem dksX1_number_3 : cX1_number.data.toList.drop 111 = dktX1_number_3 := dk_seg dksX1_number_2 23 rfl rfl
theorem dksX1_number_4 : cX1_number.data.toList.drop 135 = dktX1_number_4 := dk_seg dksX1_number_3 24 rfl rfl
theorem dksX1_number_5 : cX1_number.data.toList.drop 159 = dktX1_number_5 := dk_seg dksX1_number_4 24 rfl rfl
theorem dksX1_number_6 : cX1_number.data.toList.drop 183 = dktX1_number_6 := dk_seg dksX1_number_5 24 rfl rfl
theorem dksX1_number_7 : cX1_number.data.toList.drop 207 = dktX1_number_7 := dk_seg dksX1_number_6 24 rfl rfl
theorem dX1_number_0 : decode cX1_number 0 = .ok (.iconst 1, 1) := dk_4 (dk_at dksX1_number_0 0 rfl rfl)
theorem dX1_number_1 : decode cX1_number 1 = .ok (.newarray .boolean, 2) := dk_188_4 (dk_at dksX1_number_0 1 rfl rfl)
theorem dX1_number_3 : decode cX1_number 3 = .ok (.dup, 1) := dk_89 (dk_at dksX1_number_0 3 rfl rfl)
theorem dX1_number_4 : decode cX1_number 4 = .ok (.iconst 0, 1) := dk_3 (dk_at dksX1_number_0 4 rfl rfl)
theorem dX1_number_5 : decode cX1_number 5 = .ok (.iload_n 1, 1) := dk_27 (dk_at dksX1_number_0 5 rfl rfl)
theorem dX1_number_6 : decode cX1_number 6 = .ok (.iconst 0, 1) := dk_3 (dk_at dksX1_number_0 6 rfl rfl)
theorem dX1_number_7 : decode cX1_number 7 = .ok (.bipush 14, 2) := dk_16 14 (dk_at dksX1_number_0 7 rfl rfl)
theorem dX1_number_9 : decode cX1_number 9 = .ok (.invokestatic 18, 3) := dk_184 0 18 (dk_at dksX1_number_0 9 rfl rfl)
theorem dX1_number_12 : decode cX1_number 12 = .ok (.bastore, 1) := dk_84 (dk_at dksX1_number_0 12 rfl rfl)
theorem dX1_number_13 : decode cX1_number 13 = .ok (.invokestatic 192, 3) := dk_184 0 192 (dk_at dksX1_number_0 13 rfl rfl)
theorem dX1_number_16 : decode cX1_number 16 = .ok (.iload_n 1, 1) := dk_27 (dk_at dksX1_number_0 16 rfl rfl)
theorem dX1_number_17 : decode cX1_number 17 = .ok (.tableswitch 183 0 13 #[71, 84, 92, 98, 104, 112, 117, 125, 133, 141, 154, 162, 170, 175], 71) := by decide +kernel
theorem dX1_number_88 : decode cX1_number 88 = .ok (.aload_n 0, 1) := dk_42 (dk_at dksX1_number_2 0 rfl rfl)
theorem dX1_number_89 : decode cX1_number 89 = .ok (.getfield 38, 3) := dk_180 0 38 (dk_at dksX1_number_2 1 rfl rfl)
theorem dX1_number_92 : decode cX1_number 92 = .ok (.getfield 288, 3) := dk_180 1 32 (dk_at dksX1_number_2 4 rfl rfl)
theorem dX1_number_95 : decode cX1_number 95 = .ok (.invokeinterface 176 1, 5) := by decide +kernel
theorem dX1_number_100 : decode cX1_number 100 = .ok (.ireturn, 1) := dk_172 (dk_at dksX1_number_2 12 rfl rfl)
theorem dX1_number_101 : decode cX1_number 101 = .ok (.aload_n 0, 1) := dk_42 (dk_at dksX1_number_2 13 rfl rfl)
theorem dX1_number_102 : decode cX1_number 102 = .ok (.getfield 38, 3) := dk_180 0 38 (dk_at dksX1_number_2 14 rfl rfl)
theorem dX1_number_105 : decode cX1_number 105 = .ok (.invokevirtual 291, 3) := dk_182 1 35 (dk_at dksX1_number_2 17 rfl rfl)
theorem dX1_number_108 : decode cX1_number 108 = .ok (.ireturn, 1) := dk_172 (dk_at dksX1_number_2 20 rfl rfl)
theorem dX1_number_109 : decode cX1_number 109 = .ok (.aload_n 0, 1) := dk_42 (dk_at dksX1_number_2 21 rfl rfl)
theorem dX1_number_110 : decode cX1_number 110 = .ok (.iconst 1, 1) := dk_4 (dk_at dksX1_number_2 22 rfl rfl)
theorem dX1_number_111 : decode cX1_number 111 = .ok (.invokevirtual 294, 3) := dk_182 1 38 (dk_at dksX1_number_3 0 rfl rfl)
theorem dX1_number_114 : decode cX1_number 114 = .ok (.ireturn, 1) := dk_172 (dk_at dksX1_number_3 3 rfl rfl)
theorem dX1_number_115 : decode cX1_number 115 = .ok (.aload_n 0, 1) := dk_42 (dk_at dksX1_number_3 4 rfl rfl)
theorem dX1_number_116 : decode cX1_number 116 = .ok (.iconst 2, 1) := dk_5 (dk_at dksX1_number_3 5 rfl rfl)
theorem dX1_number_117 : decode cX1_number 117 = .ok (.invokevirtual 294, 3) := dk_182 1 38 (dk_at dksX1_number_3 6 rfl rfl)
theorem dX1_number_120 : decode cX1_number 120 = .ok (.ireturn, 1) := dk_172 (dk_at dksX1_number_3 9 rfl rfl)
theorem dX1_number_121 : decode cX1_number 121 = .ok (.aload_n 0, 1) := dk_42 (dk_at dksX1_number_3 10 rfl rfl)
theorem dX1_number_122 : decode cX1_number 122 = .ok (.getfield 38, 3) := dk_180 0 38 (dk_at dksX1_number_3 11 rfl rfl)
theorem dX1_number_125 : decode cX1_number 125 = .ok (.getfield 297, 3) := dk_180 1 41 (dk_at dksX1_number_3 14 rfl rfl)
theorem dX1_number_128 : decode cX1_number 128 = .ok (.ireturn, 1) := dk_172 (dk_at dksX1_number_3 17 rfl rfl)
theorem dX1_number_129 : decode cX1_number 129 = .ok (.aload_n 0, 1) := dk_42 (dk_at dksX1_number_3 18 rfl rfl)
theorem dX1_number_130 : decode cX1_number 130 = .ok (.invokevirtual 300, 3) := dk_182 1 44 (dk_at dksX1_number_3 19 rfl rfl)
theorem dX1_number_133 : decode cX1_number 133 = .ok (.ireturn, 1) := dk_172 (dk_at dksX1_number_3 22 rfl rfl)
theorem dX1_number_134 : decode cX1_number 134 = .ok (.aload_n 0, 1) := dk_42 (dk_at dksX1_number_3 23 rfl rfl)
theorem dX1_number_135 : decode cX1_number 135 = .ok (.getfield 38, 3) := dk_180 0 38 (dk_at dksX1_number_4 0 rfl rfl)
theorem dX1_number_138 : decode cX1_number 138 = .ok (.getfield 303, 3) := dk_180 1 47 (dk_at dksX1_number_4 3 rfl rfl)
theorem dX1_number_141 : decode cX1_number 141 = .ok (.ireturn, 1) := dk_172 (dk_at dksX1_number_4 6 rfl rfl)
theorem dX1_number_142 : decode cX1_number 142 = .ok (.aload_n 0, 1) := dk_42 (dk_at dksX1_number_4 7 rfl rfl)
theorem dX1_number_143 : decode cX1_number 143 = .ok (.getfield 38, 3) := dk_180 0 38 (dk_at dksX1_number_4 8 rfl rfl)
theorem dX1_number_146 : decode cX1_number 146 = .ok (.invokevirtual 306, 3) := dk_182 1 50 (dk_at dksX1_number_4 11 rfl rfl)
theorem dX1_number_149 : decode cX1_number 149 = .ok (.ireturn, 1) := dk_172 (dk_at dksX1_number_4 14 rfl rfl)
theorem dX1_number_150 : decode cX1_number 150 = .ok (.aload_n 0, 1) := dk_42 (dk_at dksX1_number_4 15 rfl rfl)
theorem dX1_number_151 : decode cX1_number 151 = .ok (.getfield 38, 3) := dk_180 0 38 (dk_at dksX1_number_4 16 rfl rfl)
theorem dX1_number_154 : decode cX1_number 154 = .ok (.getfield 308, 3) := dk_180 1 52 (dk_at dksX1_number_4 19 rfl rfl)
theorem dX1_number_157 : decode cX1_number 157 = .ok (.ireturn, 1) := dk_172 (dk_at dksX1_number_4 22 rfl rfl)
theorem dX1_number_158 : decode cX1_number 158 = .ok (.aload_n 0, 1) := dk_42 (dk_at dksX1_number_4 23 rfl rfl)
theorem dX1_number_159 : decode cX1_number 159 = .ok (.getfield 38, 3) := dk_180 0 38 (dk_at dksX1_number_5 0 rfl rfl)
theorem dX1_number_162 : decode cX1_number 162 = .ok (.getfield 172, 3) := dk_180 0 172 (dk_at dksX1_number_5 3 rfl rfl)
theorem dX1_number_165 : decode cX1_number 165 = .ok (.invokeinterface 176 1, 5) := by decide +kernel
theorem dX1_number_170 : decode cX1_number 170 = .ok (.ireturn, 1) := dk_172 (dk_at dksX1_number_5 11 rfl rfl)
theorem dX1_number_171 : decode cX1_number 171 = .ok (.aload_n 0, 1) := dk_42 (dk_at dksX1_number_5 12 rfl rfl)
theorem dX1_number_172 : decode cX1_number 172 = .ok (.getfield 38, 3) := dk_180 0 38 (dk_at dksX1_number_5 13 rfl rfl)
theorem dX1_number_175 : decode cX1_number 175 = .ok (.invokevirtual 310, 3) := dk_182 1 54 (dk_at dksX1_number_5 16 rfl rfl)
theorem dX1_number_178 : decode cX1_number 178 = .ok (.ireturn, 1) := dk_172 (dk_at dksX1_number_5 19 rfl rfl)
theorem dX1_number_179 : decode cX1_number 179 = .ok (.aload_n 0, 1) := dk_42 (dk_at dksX1_number_5 20 rfl rfl)
theorem dX1_number_180 : decode cX1_number 180 = .ok (.getfield 38, 3) := dk_180 0 38 (dk_at dksX1_number_5 21 rfl rfl)
theorem dX1_number_183 : decode cX1_number 183 = .ok (.getfield 313, 3) := dk_180 1 57 (dk_at dksX1_number_6 0 rfl rfl)
theorem dX1_number_186 : decode cX1_number 186 = .ok (.ireturn, 1) := dk_172 (dk_at dksX1_number_6 3 rfl rfl)
theorem dX1_number_187 : decode cX1_number 187 = .ok (.aload_n 0, 1) := dk_42 (dk_at dksX1_number_6 4 rfl rfl)
theorem dX1_number_188 : decode cX1_number 188 = .ok (.invokevirtual 316, 3) := dk_182 1 60 (dk_at dksX1_number_6 5 rfl rfl)
theorem dX1_number_191 : decode cX1_number 191 = .ok (.ireturn, 1) := dk_172 (dk_at dksX1_number_6 8 rfl rfl)
theorem dX1_number_192 : decode cX1_number 192 = .ok (.aload_n 0, 1) := dk_42 (dk_at dksX1_number_6 9 rfl rfl)
theorem dX1_number_193 : decode cX1_number 193 = .ok (.getfield 96, 3) := dk_180 0 96 (dk_at dksX1_number_6 10 rfl rfl)
theorem dX1_number_196 : decode cX1_number 196 = .ok (.invokevirtual 114, 3) := dk_182 0 114 (dk_at dksX1_number_6 13 rfl rfl)
theorem dX1_number_199 : decode cX1_number 199 = .ok (.ireturn, 1) := dk_172 (dk_at dksX1_number_6 16 rfl rfl)
theorem dX1_number_200 : decode cX1_number 200 = .ok (.aload_n 0, 1) := dk_42 (dk_at dksX1_number_6 17 rfl rfl)
theorem dX1_number_201 : decode cX1_number 201 = .ok (.getfield 103, 3) := dk_180 0 103 (dk_at dksX1_number_6 18 rfl rfl)
theorem dX1_number_204 : decode cX1_number 204 = .ok (.invokevirtual 319, 3) := dk_182 1 63 (dk_at dksX1_number_6 21 rfl rfl)
theorem dX1_number_207 : decode cX1_number 207 = .ok (.ireturn, 1) := dk_172 (dk_at dksX1_number_7 0 rfl rfl)
abbrev cX1_propsSet : ByteArray := prog_1_method_43_code
def yX1_propsSet : MethodName := ⟨RX1, "propsSet", "()I"⟩
def dkwX1_propsSet_1 : List UInt8 := [180, 0, 38, 28, 182, 1, 4, 96, 60, 132, 2, 1, 167, 255, 226, 27, 172]
abbrev dktX1_propsSet_1 : List UInt8 := dkwX1_propsSet_1 ++ []
def dkwX1_propsSet_0 : List UInt8 := [3, 60, 3, 61, 28, 42, 180, 0, 38, 180, 1, 32, 185, 0, 176, 1, 0, 162, 0, 20, 27, 42]
abbrev dktX1_propsSet_0 : List UInt8 := dkwX1_propsSet_0 ++ dktX1_propsSet_1
theorem dksX1_propsSet_0 : cX1_propsSet.data.toList.drop 0 = dktX1_propsSet_0 := by decide +kernel
theorem dksX1_propsSet_1 : cX1_propsSet.data.toList.drop 22 = dktX1_propsSet_1 := dk_seg dksX1_propsSet_0 22 rfl rfl
theorem dX1_propsSet_0 : decode cX1_propsSet 0 = .ok (.iconst 0, 1) := dk_3 (dk_at dksX1_propsSet_0 0 rfl rfl)
theorem dX1_propsSet_1 : decode cX1_propsSet 1 = .ok (.istore_n 1, 1) := dk_60 (dk_at dksX1_propsSet_0 1 rfl rfl)
theorem dX1_propsSet_2 : decode cX1_propsSet 2 = .ok (.iconst 0, 1) := dk_3 (dk_at dksX1_propsSet_0 2 rfl rfl)
theorem dX1_propsSet_3 : decode cX1_propsSet 3 = .ok (.istore_n 2, 1) := dk_61 (dk_at dksX1_propsSet_0 3 rfl rfl)
theorem dX1_propsSet_4 : decode cX1_propsSet 4 = .ok (.iload_n 2, 1) := dk_28 (dk_at dksX1_propsSet_0 4 rfl rfl)
theorem dX1_propsSet_5 : decode cX1_propsSet 5 = .ok (.aload_n 0, 1) := dk_42 (dk_at dksX1_propsSet_0 5 rfl rfl)
theorem dX1_propsSet_6 : decode cX1_propsSet 6 = .ok (.getfield 38, 3) := dk_180 0 38 (dk_at dksX1_propsSet_0 6 rfl rfl)
theorem dX1_propsSet_9 : decode cX1_propsSet 9 = .ok (.getfield 288, 3) := dk_180 1 32 (dk_at dksX1_propsSet_0 9 rfl rfl)
theorem dX1_propsSet_12 : decode cX1_propsSet 12 = .ok (.invokeinterface 176 1, 5) := by decide +kernel
theorem dX1_propsSet_17 : decode cX1_propsSet 17 = .ok (.if_icmp .ge 20, 3) := dk_162 0 20 (dk_at dksX1_propsSet_0 17 rfl rfl)
theorem dX1_propsSet_20 : decode cX1_propsSet 20 = .ok (.iload_n 1, 1) := dk_27 (dk_at dksX1_propsSet_0 20 rfl rfl)
theorem dX1_propsSet_21 : decode cX1_propsSet 21 = .ok (.aload_n 0, 1) := dk_42 (dk_at dksX1_propsSet_0 21 rfl rfl)
theorem dX1_propsSet_22 : decode cX1_propsSet 22 = .ok (.getfield 38, 3) := dk_180 0 38 (dk_at dksX1_propsSet_1 0 rfl rfl)
theorem dX1_propsSet_25 : decode cX1_propsSet 25 = .ok (.iload_n 2, 1) := dk_28 (dk_at dksX1_propsSet_1 3 rfl rfl)
theorem dX1_propsSet_26 : decode cX1_propsSet 26 = .ok (.invokevirtual 260, 3) := dk_182 1 4 (dk_at dksX1_propsSet_1 4 rfl rfl)
theorem dX1_propsSet_29 : decode cX1_propsSet 29 = .ok (.iadd, 1) := dk_96 (dk_at dksX1_propsSet_1 7 rfl rfl)
theorem dX1_propsSet_30 : decode cX1_propsSet 30 = .ok (.istore_n 1, 1) := dk_60 (dk_at dksX1_propsSet_1 8 rfl rfl)
theorem dX1_propsSet_31 : decode cX1_propsSet 31 = .ok (.iinc 2 1, 3) := dk_132 2 1 (dk_at dksX1_propsSet_1 9 rfl rfl)
theorem dX1_propsSet_34 : decode cX1_propsSet 34 = .ok (.goto (-30), 3) := dk_167 255 226 (dk_at dksX1_propsSet_1 12 rfl rfl)
theorem dX1_propsSet_37 : decode cX1_propsSet 37 = .ok (.iload_n 1, 1) := dk_27 (dk_at dksX1_propsSet_1 15 rfl rfl)
theorem dX1_propsSet_38 : decode cX1_propsSet 38 = .ok (.ireturn, 1) := dk_172 (dk_at dksX1_propsSet_1 16 rfl rfl)
abbrev cX1_nodulesLeft : ByteArray := prog_1_method_44_code
def yX1_nodulesLeft : MethodName := ⟨RX1, "nodulesLeft", "()I"⟩
def dkwX1_nodulesLeft_1 : List UInt8 := [167, 255, 236, 27, 172]
abbrev dktX1_nodulesLeft_1 : List UInt8 := dkwX1_nodulesLeft_1 ++ []
def dkwX1_nodulesLeft_0 : List UInt8 := [3, 60, 3, 61, 28, 16, 64, 162, 0, 20, 27, 42, 180, 0, 38, 28, 182, 0, 207, 96, 60, 132, 2, 1]
abbrev dktX1_nodulesLeft_0 : List UInt8 := dkwX1_nodulesLeft_0 ++ dktX1_nodulesLeft_1
theorem dksX1_nodulesLeft_0 : cX1_nodulesLeft.data.toList.drop 0 = dktX1_nodulesLeft_0 := by decide +kernel
theorem dksX1_nodulesLeft_1 : cX1_nodulesLeft.data.toList.drop 24 = dktX1_nodulesLeft_1 := dk_seg dksX1_nodulesLeft_0 24 rfl rfl
theorem dX1_nodulesLeft_0 : decode cX1_nodulesLeft 0 = .ok (.iconst 0, 1) := dk_3 (dk_at dksX1_nodulesLeft_0 0 rfl rfl)
theorem dX1_nodulesLeft_1 : decode cX1_nodulesLeft 1 = .ok (.istore_n 1, 1) := dk_60 (dk_at dksX1_nodulesLeft_0 1 rfl rfl)
theorem dX1_nodulesLeft_2 : decode cX1_nodulesLeft 2 = .ok (.iconst 0, 1) := dk_3 (dk_at dksX1_nodulesLeft_0 2 rfl rfl)
theorem dX1_nodulesLeft_3 : decode cX1_nodulesLeft 3 = .ok (.istore_n 2, 1) := dk_61 (dk_at dksX1_nodulesLeft_0 3 rfl rfl)
theorem dX1_nodulesLeft_4 : decode cX1_nodulesLeft 4 = .ok (.iload_n 2, 1) := dk_28 (dk_at dksX1_nodulesLeft_0 4 rfl rfl)
theorem dX1_nodulesLeft_5 : decode cX1_nodulesLeft 5 = .ok (.bipush 64, 2) := dk_16 64 (dk_at dksX1_nodulesLeft_0 5 rfl rfl)
theorem dX1_nodulesLeft_7 : decode cX1_nodulesLeft 7 = .ok (.if_icmp .ge 20, 3) := dk_162 0 20 (dk_at dksX1_nodulesLeft_0 7 rfl rfl)
theorem dX1_nodulesLeft_10 : decode cX1_nodulesLeft 10 = .ok (.iload_n 1, 1) := dk_27 (dk_at dksX1_nodulesLeft_0 10 rfl rfl)
theorem dX1_nodulesLeft_11 : decode cX1_nodulesLeft 11 = .ok (.aload_n 0, 1) := dk_42 (dk_at dksX1_nodulesLeft_0 11 rfl rfl)
theorem dX1_nodulesLeft_12 : decode cX1_nodulesLeft 12 = .ok (.getfield 38, 3) := dk_180 0 38 (dk_at dksX1_nodulesLeft_0 12 rfl rfl)
theorem dX1_nodulesLeft_15 : decode cX1_nodulesLeft 15 = .ok (.iload_n 2, 1) := dk_28 (dk_at dksX1_nodulesLeft_0 15 rfl rfl)
theorem dX1_nodulesLeft_16 : decode cX1_nodulesLeft 16 = .ok (.invokevirtual 207, 3) := dk_182 0 207 (dk_at dksX1_nodulesLeft_0 16 rfl rfl)
theorem dX1_nodulesLeft_19 : decode cX1_nodulesLeft 19 = .ok (.iadd, 1) := dk_96 (dk_at dksX1_nodulesLeft_0 19 rfl rfl)
theorem dX1_nodulesLeft_20 : decode cX1_nodulesLeft 20 = .ok (.istore_n 1, 1) := dk_60 (dk_at dksX1_nodulesLeft_0 20 rfl rfl)
theorem dX1_nodulesLeft_21 : decode cX1_nodulesLeft 21 = .ok (.iinc 2 1, 3) := dk_132 2 1 (dk_at dksX1_nodulesLeft_0 21 rfl rfl)
theorem dX1_nodulesLeft_24 : decode cX1_nodulesLeft 24 = .ok (.goto (-20), 3) := dk_167 255 236 (dk_at dksX1_nodulesLeft_1 0 rfl rfl)
theorem dX1_nodulesLeft_27 : decode cX1_nodulesLeft 27 = .ok (.iload_n 1, 1) := dk_27 (dk_at dksX1_nodulesLeft_1 3 rfl rfl)
theorem dX1_nodulesLeft_28 : decode cX1_nodulesLeft 28 = .ok (.ireturn, 1) := dk_172 (dk_at dksX1_nodulesLeft_1 4 rfl rfl)
abbrev cX1_perStroke : ByteArray := prog_1_method_46_code
def yX1_perStroke : MethodName := ⟨RX1, "perStroke", "()D"⟩
def dkwX1_perStroke_1 : List UInt8 := [182, 1, 50, 135, 42, 180, 0, 38, 180, 1, 52, 135, 111, 175]
abbrev dktX1_perStroke_1 : List UInt8 := dkwX1_perStroke_1 ++ []
def dkwX1_perStroke_0 : List UInt8 := [42, 180, 0, 38, 180, 1, 52, 154, 0, 11, 187, 1, 65, 89, 183, 1, 67, 191, 42, 180, 0, 38]
abbrev dktX1_perStroke_0 : List UInt8 := dkwX1_perStroke_0 ++ dktX1_perStroke_1
theorem dksX1_perStroke_0 : cX1_perStroke.data.toList.drop 0 = dktX1_perStroke_0 := by decide +kernel
theorem dksX1_perStroke_1 : cX1_perStroke.data.toList.drop 22 = dktX1_perStroke_1 := dk_seg dksX1_perStroke_0 22 rfl rfl
theorem dX1_perStroke_0 : decode cX1_perStroke 0 = .ok (.aload_n 0, 1) := dk_42 (dk_at dksX1_perStroke_0 0 rfl rfl)
theorem dX1_perStroke_1 : decode cX1_perStroke 1 = .ok (.getfield 38, 3) := dk_180 0 38 (dk_at dksX1_perStroke_0 1 rfl rfl)
theorem dX1_perStroke_4 : decode cX1_perStroke 4 = .ok (.getfield 308, 3) := dk_180 1 52 (dk_at dksX1_perStroke_0 4 rfl rfl)
theorem dX1_perStroke_7 : decode cX1_perStroke 7 = .ok (.ifCond .ne 11, 3) := dk_154 0 11 (dk_at dksX1_perStroke_0 7 rfl rfl)
theorem dX1_perStroke_10 : decode cX1_perStroke 10 = .ok (.new 321, 3) := dk_187 1 65 (dk_at dksX1_perStroke_0 10 rfl rfl)
theorem dX1_perStroke_13 : decode cX1_perStroke 13 = .ok (.dup, 1) := dk_89 (dk_at dksX1_perStroke_0 13 rfl rfl)
theorem dX1_perStroke_14 : decode cX1_perStroke 14 = .ok (.invokespecial 323, 3) := dk_183 1 67 (dk_at dksX1_perStroke_0 14 rfl rfl)
theorem dX1_perStroke_17 : decode cX1_perStroke 17 = .ok (.athrow, 1) := dk_191 (dk_at dksX1_perStroke_0 17 rfl rfl)
theorem dX1_perStroke_18 : decode cX1_perStroke 18 = .ok (.aload_n 0, 1) := dk_42 (dk_at dksX1_perStroke_0 18 rfl rfl)
theorem dX1_perStroke_19 : decode cX1_perStroke 19 = .ok (.getfield 38, 3) := dk_180 0 38 (dk_at dksX1_perStroke_0 19 rfl rfl)
theorem dX1_perStroke_22 : decode cX1_perStroke 22 = .ok (.invokevirtual 306, 3) := dk_182 1 50 (dk_at dksX1_perStroke_1 0 rfl rfl)
theorem dX1_perStroke_25 : decode cX1_perStroke 25 = .ok (.i2d, 1) := dk_135 (dk_at dksX1_perStroke_1 3 rfl rfl)
theorem dX1_perStroke_26 : decode cX1_perStroke 26 = .ok (.aload_n 0, 1) := dk_42 (dk_at dksX1_perStroke_1 4 rfl rfl)
theorem dX1_perStroke_27 : decode cX1_perStroke 27 = .ok (.getfield 38, 3) := dk_180 0 38 (dk_at dksX1_perStroke_1 5 rfl rfl)
theorem dX1_perStroke_30 : decode cX1_perStroke 30 = .ok (.getfield 308, 3) := dk_180 1 52 (dk_at dksX1_perStroke_1 8 rfl rfl)
theorem dX1_perStroke_33 : decode cX1_perStroke 33 = .ok (.i2d, 1) := dk_135 (dk_at dksX1_perStroke_1 11 rfl rfl)
theorem dX1_perStroke_34 : decode cX1_perStroke 34 = .ok (.ddiv, 1) := dk_111 (dk_at dksX1_perStroke_1 12 rfl rfl)
theorem dX1_perStroke_35 : decode cX1_perStroke 35 = .ok (.dreturn, 1) := dk_175 (dk_at dksX1_perStroke_1 13 rfl rfl)
abbrev cX1_feed : ByteArray := prog_1_method_48_code
def yX1_feed : MethodName := ⟨RX1, "feed", "(C)I"⟩
def dkwX1_feed_1 : List UInt8 := [27, 182, 1, 69, 87, 42, 180, 0, 103, 182, 1, 63, 172]
abbrev dktX1_feed_1 : List UInt8 := dkwX1_feed_1 ++ []
def dkwX1_feed_0 : List UInt8 := [42, 180, 0, 103, 182, 1, 63, 16, 60, 162, 0, 7, 4, 167, 0, 4, 3, 184, 0, 232, 42, 180, 0, 103]
abbrev dktX1_feed_0 : List UInt8 := dkwX1_feed_0 ++ dktX1_feed_1
theorem dksX1_feed_0 : cX1_feed.data.toList.drop 0 = dktX1_feed_0 := by decide +kernel
theorem dksX1_feed_1 : cX1_feed.data.toList.drop 24 = dktX1_feed_1 := dk_seg dksX1_feed_0 24 rfl rfl
theorem dX1_feed_0 : decode cX1_feed 0 = .ok (.aload_n 0, 1) := dk_42 (dk_at dksX1_feed_0 0 rfl rfl)
theorem dX1_feed_1 : decode cX1_feed 1 = .ok (.getfield 103, 3) := dk_180 0 103 (dk_at dksX1_feed_0 1 rfl rfl)
theorem dX1_feed_4 : decode cX1_feed 4 = .ok (.invokevirtual 319, 3) := dk_182 1 63 (dk_at dksX1_feed_0 4 rfl rfl)
theorem dX1_feed_7 : decode cX1_feed 7 = .ok (.bipush 60, 2) := dk_16 60 (dk_at dksX1_feed_0 7 rfl rfl)
theorem dX1_feed_9 : decode cX1_feed 9 = .ok (.if_icmp .ge 7, 3) := dk_162 0 7 (dk_at dksX1_feed_0 9 rfl rfl)
theorem dX1_feed_12 : decode cX1_feed 12 = .ok (.iconst 1, 1) := dk_4 (dk_at dksX1_feed_0 12 rfl rfl)
theorem dX1_feed_13 : decode cX1_feed 13 = .ok (.goto 4, 3) := dk_167 0 4 (dk_at dksX1_feed_0 13 rfl rfl)
theorem dX1_feed_16 : decode cX1_feed 16 = .ok (.iconst 0, 1) := dk_3 (dk_at dksX1_feed_0 16 rfl rfl)
theorem dX1_feed_17 : decode cX1_feed 17 = .ok (.invokestatic 232, 3) := dk_184 0 232 (dk_at dksX1_feed_0 17 rfl rfl)
theorem dX1_feed_20 : decode cX1_feed 20 = .ok (.aload_n 0, 1) := dk_42 (dk_at dksX1_feed_0 20 rfl rfl)
theorem dX1_feed_21 : decode cX1_feed 21 = .ok (.getfield 103, 3) := dk_180 0 103 (dk_at dksX1_feed_0 21 rfl rfl)
theorem dX1_feed_24 : decode cX1_feed 24 = .ok (.iload_n 1, 1) := dk_27 (dk_at dksX1_feed_1 0 rfl rfl)
theorem dX1_feed_25 : decode cX1_feed 25 = .ok (.invokevirtual 325, 3) := dk_182 1 69 (dk_at dksX1_feed_1 1 rfl rfl)
theorem dX1_feed_28 : decode cX1_feed 28 = .ok (.pop, 1) := dk_87 (dk_at dksX1_feed_1 4 rfl rfl)
theorem dX1_feed_29 : decode cX1_feed 29 = .ok (.aload_n 0, 1) := dk_42 (dk_at dksX1_feed_1 5 rfl rfl)
theorem dX1_feed_30 : decode cX1_feed 30 = .ok (.getfield 103, 3) := dk_180 0 103 (dk_at dksX1_feed_1 6 rfl rfl)
theorem dX1_feed_33 : decode cX1_feed 33 = .ok (.invokevirtual 319, 3) := dk_182 1 63 (dk_at dksX1_feed_1 9 rfl rfl)
theorem dX1_feed_36 : decode cX1_feed 36 = .ok (.ireturn, 1) := dk_172 (dk_at dksX1_feed_1 12 rfl rfl)
abbrev cX1_read : ByteArray := prog_1_method_51_code
def yX1_read : MethodName := ⟨RX1, "read", "()I"⟩
def dkwX1_read_2 : List UInt8 := [180, 0, 145, 45, 180, 0, 146, 182, 0, 147, 191, 42, 44, 182, 0, 142, 43, 185, 0, 176, 1, 0, 172]
abbrev dktX1_read_2 : List UInt8 := dkwX1_read_2 ++ []
def dkwX1_read_1 : List UInt8 := [187, 0, 43, 89, 42, 180, 0, 38, 183, 0, 135, 77, 43, 44, 184, 1, 110, 167, 0, 17, 78, 42, 45]
abbrev dktX1_read_1 : List UInt8 := dkwX1_read_1 ++ dktX1_read_2
def dkwX1_read_0 : List UInt8 := [42, 182, 1, 107, 76, 4, 188, 4, 89, 3, 43, 198, 0, 7, 4, 167, 0, 4, 3, 84, 184, 0, 192]
abbrev dktX1_read_0 : List UInt8 := dkwX1_read_0 ++ dktX1_read_1
theorem dksX1_read_0 : cX1_read.data.toList.drop 0 = dktX1_read_0 := by decide +kernel
theorem dksX1_read_1 : cX1_read.data.toList.drop 23 = dktX1_read_1 := dk_seg dksX1_read_0 23 rfl rfl
theorem dksX1_read_2 : cX1_read.data.toList.drop 46 = dktX1_read_2 := dk_seg dksX1_read_1 23 rfl rfl
theorem dX1_read_0 : decode cX1_read 0 = .ok (.aload_n 0, 1) := dk_42 (dk_at dksX1_read_0 0 rfl rfl)
theorem dX1_read_1 : decode cX1_read 1 = .ok (.invokevirtual 363, 3) := dk_182 1 107 (dk_at dksX1_read_0 1 rfl rfl)
theorem dX1_read_4 : decode cX1_read 4 = .ok (.astore_n 1, 1) := dk_76 (dk_at dksX1_read_0 4 rfl rfl)
theorem dX1_read_5 : decode cX1_read 5 = .ok (.iconst 1, 1) := dk_4 (dk_at dksX1_read_0 5 rfl rfl)
theorem dX1_read_6 : decode cX1_read 6 = .ok (.newarray .boolean, 2) := dk_188_4 (dk_at dksX1_read_0 6 rfl rfl)
theorem dX1_read_8 : decode cX1_read 8 = .ok (.dup, 1) := dk_89 (dk_at dksX1_read_0 8 rfl rfl)
theorem dX1_read_9 : decode cX1_read 9 = .ok (.iconst 0, 1) := dk_3 (dk_at dksX1_read_0 9 rfl rfl)
theorem dX1_read_10 : decode cX1_read 10 = .ok (.aload_n 1, 1) := dk_43 (dk_at dksX1_read_0 10 rfl rfl)
theorem dX1_read_11 : decode cX1_read 11 = .ok (.ifnull 7, 3) := dk_198 0 7 (dk_at dksX1_read_0 11 rfl rfl)
theorem dX1_read_14 : decode cX1_read 14 = .ok (.iconst 1, 1) := dk_4 (dk_at dksX1_read_0 14 rfl rfl)
theorem dX1_read_15 : decode cX1_read 15 = .ok (.goto 4, 3) := dk_167 0 4 (dk_at dksX1_read_0 15 rfl rfl)
theorem dX1_read_18 : decode cX1_read 18 = .ok (.iconst 0, 1) := dk_3 (dk_at dksX1_read_0 18 rfl rfl)
theorem dX1_read_19 : decode cX1_read 19 = .ok (.bastore, 1) := dk_84 (dk_at dksX1_read_0 19 rfl rfl)
theorem dX1_read_20 : decode cX1_read 20 = .ok (.invokestatic 192, 3) := dk_184 0 192 (dk_at dksX1_read_0 20 rfl rfl)
theorem dX1_read_23 : decode cX1_read 23 = .ok (.new 43, 3) := dk_187 0 43 (dk_at dksX1_read_1 0 rfl rfl)
theorem dX1_read_26 : decode cX1_read 26 = .ok (.dup, 1) := dk_89 (dk_at dksX1_read_1 3 rfl rfl)
theorem dX1_read_27 : decode cX1_read 27 = .ok (.aload_n 0, 1) := dk_42 (dk_at dksX1_read_1 4 rfl rfl)
theorem dX1_read_28 : decode cX1_read 28 = .ok (.getfield 38, 3) := dk_180 0 38 (dk_at dksX1_read_1 5 rfl rfl)
theorem dX1_read_31 : decode cX1_read 31 = .ok (.invokespecial 135, 3) := dk_183 0 135 (dk_at dksX1_read_1 8 rfl rfl)
theorem dX1_read_34 : decode cX1_read 34 = .ok (.astore_n 2, 1) := dk_77 (dk_at dksX1_read_1 11 rfl rfl)
theorem dX1_read_35 : decode cX1_read 35 = .ok (.aload_n 1, 1) := dk_43 (dk_at dksX1_read_1 12 rfl rfl)
theorem dX1_read_36 : decode cX1_read 36 = .ok (.aload_n 2, 1) := dk_44 (dk_at dksX1_read_1 13 rfl rfl)
theorem dX1_read_37 : decode cX1_read 37 = .ok (.invokestatic 366, 3) := dk_184 1 110 (dk_at dksX1_read_1 14 rfl rfl)
theorem dX1_read_40 : decode cX1_read 40 = .ok (.goto 17, 3) := dk_167 0 17 (dk_at dksX1_read_1 17 rfl rfl)
theorem dX1_read_43 : decode cX1_read 43 = .ok (.astore_n 3, 1) := dk_78 (dk_at dksX1_read_1 20 rfl rfl)
theorem dX1_read_44 : decode cX1_read 44 = .ok (.aload_n 0, 1) := dk_42 (dk_at dksX1_read_1 21 rfl rfl)
theorem dX1_read_45 : decode cX1_read 45 = .ok (.aload_n 3, 1) := dk_45 (dk_at dksX1_read_1 22 rfl rfl)
theorem dX1_read_46 : decode cX1_read 46 = .ok (.getfield 145, 3) := dk_180 0 145 (dk_at dksX1_read_2 0 rfl rfl)
theorem dX1_read_49 : decode cX1_read 49 = .ok (.aload_n 3, 1) := dk_45 (dk_at dksX1_read_2 3 rfl rfl)
theorem dX1_read_50 : decode cX1_read 50 = .ok (.getfield 146, 3) := dk_180 0 146 (dk_at dksX1_read_2 4 rfl rfl)
theorem dX1_read_53 : decode cX1_read 53 = .ok (.invokevirtual 147, 3) := dk_182 0 147 (dk_at dksX1_read_2 7 rfl rfl)
theorem dX1_read_56 : decode cX1_read 56 = .ok (.athrow, 1) := dk_191 (dk_at dksX1_read_2 10 rfl rfl)
theorem dX1_read_57 : decode cX1_read 57 = .ok (.aload_n 0, 1) := dk_42 (dk_at dksX1_read_2 11 rfl rfl)
theorem dX1_read_58 : decode cX1_read 58 = .ok (.aload_n 2, 1) := dk_44 (dk_at dksX1_read_2 12 rfl rfl)
theorem dX1_read_59 : decode cX1_read 59 = .ok (.invokevirtual 142, 3) := dk_182 0 142 (dk_at dksX1_read_2 13 rfl rfl)
theorem dX1_read_62 : decode cX1_read 62 = .ok (.aload_n 1, 1) := dk_43 (dk_at dksX1_read_2 16 rfl rfl)
theorem dX1_read_63 : decode cX1_read 63 = .ok (.invokeinterface 176 1, 5) := by decide +kernel
theorem dX1_read_68 : decode cX1_read 68 = .ok (.ireturn, 1) := dk_172 (dk_at dksX1_read_2 22 rfl rfl)
abbrev cX1_taken : ByteArray := prog_1_method_49_code
def yX1_taken : MethodName := ⟨RX1, "taken", "()Ljava/util/List;"⟩
def dkwX1_taken_2 : List UInt8 := [3, 182, 1, 82, 45, 191]
abbrev dktX1_taken_2 : List UInt8 := dkwX1_taken_2 ++ []
def dkwX1_taken_1 : List UInt8 := [43, 180, 1, 87, 181, 0, 107, 1, 77, 42, 180, 0, 103, 3, 182, 1, 82, 44, 176, 78, 42, 180, 0, 103]
abbrev dktX1_taken_1 : List UInt8 := dkwX1_taken_1 ++ dktX1_taken_2
def dkwX1_taken_0 : List UInt8 := [187, 1, 73, 89, 42, 183, 1, 75, 182, 1, 78, 76, 42, 180, 0, 103, 3, 182, 1, 82, 43, 176, 76, 42]
abbrev dktX1_taken_0 : List UInt8 := dkwX1_taken_0 ++ dktX1_taken_1
theorem dksX1_taken_0 : cX1_taken.data.toList.drop 0 = dktX1_taken_0 := by decide +kernel
theorem dksX1_taken_1 : cX1_taken.data.toList.drop 24 = dktX1_taken_1 := dk_seg dksX1_taken_0 24 rfl rfl
theorem dksX1_taken_2 : cX1_taken.data.toList.drop 48 = dktX1_taken_2 := dk_seg dksX1_taken_1 24 rfl rfl
theorem dX1_taken_0 : decode cX1_taken 0 = .ok (.new 329, 3) := dk_187 1 73 (dk_at dksX1_taken_0 0 rfl rfl)
theorem dX1_taken_3 : decode cX1_taken 3 = .ok (.dup, 1) := dk_89 (dk_at dksX1_taken_0 3 rfl rfl)
theorem dX1_taken_4 : decode cX1_taken 4 = .ok (.aload_n 0, 1) := dk_42 (dk_at dksX1_taken_0 4 rfl rfl)
theorem dX1_taken_5 : decode cX1_taken 5 = .ok (.invokespecial 331, 3) := dk_183 1 75 (dk_at dksX1_taken_0 5 rfl rfl)
theorem dX1_taken_8 : decode cX1_taken 8 = .ok (.invokevirtual 334, 3) := dk_182 1 78 (dk_at dksX1_taken_0 8 rfl rfl)
theorem dX1_taken_11 : decode cX1_taken 11 = .ok (.astore_n 1, 1) := dk_76 (dk_at dksX1_taken_0 11 rfl rfl)
theorem dX1_taken_12 : decode cX1_taken 12 = .ok (.aload_n 0, 1) := dk_42 (dk_at dksX1_taken_0 12 rfl rfl)
theorem dX1_taken_13 : decode cX1_taken 13 = .ok (.getfield 103, 3) := dk_180 0 103 (dk_at dksX1_taken_0 13 rfl rfl)
theorem dX1_taken_16 : decode cX1_taken 16 = .ok (.iconst 0, 1) := dk_3 (dk_at dksX1_taken_0 16 rfl rfl)
theorem dX1_taken_17 : decode cX1_taken 17 = .ok (.invokevirtual 338, 3) := dk_182 1 82 (dk_at dksX1_taken_0 17 rfl rfl)
theorem dX1_taken_20 : decode cX1_taken 20 = .ok (.aload_n 1, 1) := dk_43 (dk_at dksX1_taken_0 20 rfl rfl)
theorem dX1_taken_21 : decode cX1_taken 21 = .ok (.areturn, 1) := dk_176 (dk_at dksX1_taken_0 21 rfl rfl)
theorem dX1_taken_22 : decode cX1_taken 22 = .ok (.astore_n 1, 1) := dk_76 (dk_at dksX1_taken_0 22 rfl rfl)
theorem dX1_taken_23 : decode cX1_taken 23 = .ok (.aload_n 0, 1) := dk_42 (dk_at dksX1_taken_0 23 rfl rfl)
theorem dX1_taken_24 : decode cX1_taken 24 = .ok (.aload_n 1, 1) := dk_43 (dk_at dksX1_taken_1 0 rfl rfl)
theorem dX1_taken_25 : decode cX1_taken 25 = .ok (.getfield 343, 3) := dk_180 1 87 (dk_at dksX1_taken_1 1 rfl rfl)
theorem dX1_taken_28 : decode cX1_taken 28 = .ok (.putfield 107, 3) := dk_181 0 107 (dk_at dksX1_taken_1 4 rfl rfl)
theorem dX1_taken_31 : decode cX1_taken 31 = .ok (.aconst_null, 1) := dk_1 (dk_at dksX1_taken_1 7 rfl rfl)
theorem dX1_taken_32 : decode cX1_taken 32 = .ok (.astore_n 2, 1) := dk_77 (dk_at dksX1_taken_1 8 rfl rfl)
theorem dX1_taken_33 : decode cX1_taken 33 = .ok (.aload_n 0, 1) := dk_42 (dk_at dksX1_taken_1 9 rfl rfl)
theorem dX1_taken_34 : decode cX1_taken 34 = .ok (.getfield 103, 3) := dk_180 0 103 (dk_at dksX1_taken_1 10 rfl rfl)
theorem dX1_taken_37 : decode cX1_taken 37 = .ok (.iconst 0, 1) := dk_3 (dk_at dksX1_taken_1 13 rfl rfl)
theorem dX1_taken_38 : decode cX1_taken 38 = .ok (.invokevirtual 338, 3) := dk_182 1 82 (dk_at dksX1_taken_1 14 rfl rfl)
theorem dX1_taken_41 : decode cX1_taken 41 = .ok (.aload_n 2, 1) := dk_44 (dk_at dksX1_taken_1 17 rfl rfl)
theorem dX1_taken_42 : decode cX1_taken 42 = .ok (.areturn, 1) := dk_176 (dk_at dksX1_taken_1 18 rfl rfl)
theorem dX1_taken_43 : decode cX1_taken 43 = .ok (.astore_n 3, 1) := dk_78 (dk_at dksX1_taken_1 19 rfl rfl)
theorem dX1_taken_44 : decode cX1_taken 44 = .ok (.aload_n 0, 1) := dk_42 (dk_at dksX1_taken_1 20 rfl rfl)
theorem dX1_taken_45 : decode cX1_taken 45 = .ok (.getfield 103, 3) := dk_180 0 103 (dk_at dksX1_taken_1 21 rfl rfl)
theorem dX1_taken_48 : decode cX1_taken 48 = .ok (.iconst 0, 1) := dk_3 (dk_at dksX1_taken_2 0 rfl rfl)
theorem dX1_taken_49 : decode cX1_taken 49 = .ok (.invokevirtual 338, 3) := dk_182 1 82 (dk_at dksX1_taken_2 1 rfl rfl)
theorem dX1_taken_52 : decode cX1_taken 52 = .ok (.aload_n 3, 1) := dk_45 (dk_at dksX1_taken_2 4 rfl rfl)
theorem dX1_taken_53 : decode cX1_taken 53 = .ok (.athrow, 1) := dk_191 (dk_at dksX1_taken_2 5 rfl rfl)
abbrev cX1_doAll : ByteArray := prog_1_method_50_code
def yX1_doAll : MethodName := ⟨RX1, "doAll", "(Ljava/util/List;LFlintMine$Mine;)V"⟩
def dkwX1_doAll_2 : List UInt8 := [28, 183, 0, 28, 191, 132, 2, 1, 167, 255, 209, 177]
abbrev dktX1_doAll_2 : List UInt8 := dkwX1_doAll_2 ++ []
def dkwX1_doAll_1 : List UInt8 := [192, 1, 103, 58, 4, 25, 4, 43, 182, 1, 105, 54, 5, 167, 0, 16, 58, 5, 187, 0, 26, 89, 16, 20]
abbrev dktX1_doAll_1 : List UInt8 := dkwX1_doAll_1 ++ dktX1_doAll_2
def dkwX1_doAll_0 : List UInt8 := [3, 61, 42, 185, 1, 90, 1, 0, 78, 45, 185, 1, 94, 1, 0, 153, 0, 44, 45, 185, 1, 100, 1, 0]
abbrev dktX1_doAll_0 : List UInt8 := dkwX1_doAll_0 ++ dktX1_doAll_1
theorem dksX1_doAll_0 : cX1_doAll.data.toList.drop 0 = dktX1_doAll_0 := by decide +kernel
theorem dksX1_doAll_1 : cX1_doAll.data.toList.drop 24 = dktX1_doAll_1 := dk_seg dksX1_doAll_0 24 rfl rfl
theorem dksX1_doAll_2 : cX1_doAll.data.toList.drop 48 = dktX1_doAll_2 := dk_seg dksX1_doAll_1 24 rfl rfl
theorem dX1_doAll_0 : decode cX1_doAll 0 = .ok (.iconst 0, 1) := dk_3 (dk_at dksX1_doAll_0 0 rfl rfl)
theorem dX1_doAll_1 : decode cX1_doAll 1 = .ok (.istore_n 2, 1) := dk_61 (dk_at dksX1_doAll_0 1 rfl rfl)
theorem dX1_doAll_2 : decode cX1_doAll 2 = .ok (.aload_n 0, 1) := dk_42 (dk_at dksX1_doAll_0 2 rfl rfl)
theorem dX1_doAll_3 : decode cX1_doAll 3 = .ok (.invokeinterface 346 1, 5) := by decide +kernel
theorem dX1_doAll_8 : decode cX1_doAll 8 = .ok (.astore_n 3, 1) := dk_78 (dk_at dksX1_doAll_0 8 rfl rfl)
theorem dX1_doAll_9 : decode cX1_doAll 9 = .ok (.aload_n 3, 1) := dk_45 (dk_at dksX1_doAll_0 9 rfl rfl)
theorem dX1_doAll_10 : decode cX1_doAll 10 = .ok (.invokeinterface 350 1, 5) := by decide +kernel
theorem dX1_doAll_15 : decode cX1_doAll 15 = .ok (.ifCond .eq 44, 3) := dk_153 0 44 (dk_at dksX1_doAll_0 15 rfl rfl)
theorem dX1_doAll_18 : decode cX1_doAll 18 = .ok (.aload_n 3, 1) := dk_45 (dk_at dksX1_doAll_0 18 rfl rfl)
theorem dX1_doAll_19 : decode cX1_doAll 19 = .ok (.invokeinterface 356 1, 5) := by decide +kernel
theorem dX1_doAll_24 : decode cX1_doAll 24 = .ok (.checkcast 359, 3) := dk_192 1 103 (dk_at dksX1_doAll_1 0 rfl rfl)
theorem dX1_doAll_27 : decode cX1_doAll 27 = .ok (.astore 4, 2) := dk_58 4 (dk_at dksX1_doAll_1 3 rfl rfl)
theorem dX1_doAll_29 : decode cX1_doAll 29 = .ok (.aload 4, 2) := dk_25 4 (dk_at dksX1_doAll_1 5 rfl rfl)
theorem dX1_doAll_31 : decode cX1_doAll 31 = .ok (.aload_n 1, 1) := dk_43 (dk_at dksX1_doAll_1 7 rfl rfl)
theorem dX1_doAll_32 : decode cX1_doAll 32 = .ok (.invokevirtual 361, 3) := dk_182 1 105 (dk_at dksX1_doAll_1 8 rfl rfl)
theorem dX1_doAll_35 : decode cX1_doAll 35 = .ok (.istore 5, 2) := dk_54 5 (dk_at dksX1_doAll_1 11 rfl rfl)
theorem dX1_doAll_37 : decode cX1_doAll 37 = .ok (.goto 16, 3) := dk_167 0 16 (dk_at dksX1_doAll_1 13 rfl rfl)
theorem dX1_doAll_40 : decode cX1_doAll 40 = .ok (.astore 5, 2) := dk_58 5 (dk_at dksX1_doAll_1 16 rfl rfl)
theorem dX1_doAll_42 : decode cX1_doAll 42 = .ok (.new 26, 3) := dk_187 0 26 (dk_at dksX1_doAll_1 18 rfl rfl)
theorem dX1_doAll_45 : decode cX1_doAll 45 = .ok (.dup, 1) := dk_89 (dk_at dksX1_doAll_1 21 rfl rfl)
theorem dX1_doAll_46 : decode cX1_doAll 46 = .ok (.bipush 20, 2) := dk_16 20 (dk_at dksX1_doAll_1 22 rfl rfl)
theorem dX1_doAll_48 : decode cX1_doAll 48 = .ok (.iload_n 2, 1) := dk_28 (dk_at dksX1_doAll_2 0 rfl rfl)
theorem dX1_doAll_49 : decode cX1_doAll 49 = .ok (.invokespecial 28, 3) := dk_183 0 28 (dk_at dksX1_doAll_2 1 rfl rfl)
theorem dX1_doAll_52 : decode cX1_doAll 52 = .ok (.athrow, 1) := dk_191 (dk_at dksX1_doAll_2 4 rfl rfl)
theorem dX1_doAll_53 : decode cX1_doAll 53 = .ok (.iinc 2 1, 3) := dk_132 2 1 (dk_at dksX1_doAll_2 5 rfl rfl)
theorem dX1_doAll_56 : decode cX1_doAll 56 = .ok (.goto (-47), 3) := dk_167 255 209 (dk_at dksX1_doAll_2 8 rfl rfl)
theorem dX1_doAll_59 : decode cX1_doAll 59 = .ok (.return_, 1) := dk_177 (dk_at dksX1_doAll_2 11 rfl rfl)
abbrev cX1_faultPosition : ByteArray := prog_1_method_52_code
def yX1_faultPosition : MethodName := ⟨RX1, "faultPosition", "()I"⟩
def dkwX1_faultPosition_0 : List UInt8 := [42, 180, 0, 107, 2, 159, 0, 7, 4, 167, 0, 4, 3, 184, 0, 83, 42, 180, 0, 107, 172]
abbrev dktX1_faultPosition_0 : List UInt8 := dkwX1_faultPosition_0 ++ []
theorem dksX1_faultPosition_0 : cX1_faultPosition.data.toList.drop 0 = dktX1_faultPosition_0 := by decide +kernel
theorem dX1_faultPosition_0 : decode cX1_faultPosition 0 = .ok (.aload_n 0, 1) := dk_42 (dk_at dksX1_faultPosition_0 0 rfl rfl)
theorem dX1_faultPosition_1 : decode cX1_faultPosition 1 = .ok (.getfield 107, 3) := dk_180 0 107 (dk_at dksX1_faultPosition_0 1 rfl rfl)
theorem dX1_faultPosition_4 : decode cX1_faultPosition 4 = .ok (.iconst (-1), 1) := dk_2 (dk_at dksX1_faultPosition_0 4 rfl rfl)
theorem dX1_faultPosition_5 : decode cX1_faultPosition 5 = .ok (.if_icmp .eq 7, 3) := dk_159 0 7 (dk_at dksX1_faultPosition_0 5 rfl rfl)
theorem dX1_faultPosition_8 : decode cX1_faultPosition 8 = .ok (.iconst 1, 1) := dk_4 (dk_at dksX1_faultPosition_0 8 rfl rfl)
theorem dX1_faultPosition_9 : decode cX1_faultPosition 9 = .ok (.goto 4, 3) := dk_167 0 4 (dk_at dksX1_faultPosition_0 9 rfl rfl)
theorem dX1_faultPosition_12 : decode cX1_faultPosition 12 = .ok (.iconst 0, 1) := dk_3 (dk_at dksX1_faultPosition_0 12 rfl rfl)
theorem dX1_faultPosition_13 : decode cX1_faultPosition 13 = .ok (.invokestatic 83, 3) := dk_184 0 83 (dk_at dksX1_faultPosition_0 13 rfl rfl)
theorem dX1_faultPosition_16 : decode cX1_faultPosition 16 = .ok (.aload_n 0, 1) := dk_42 (dk_at dksX1_faultPosition_0 16 rfl rfl)
theorem dX1_faultPosition_17 : decode cX1_faultPosition 17 = .ok (.getfield 107, 3) := dk_180 0 107 (dk_at dksX1_faultPosition_0 17 rfl rfl)
theorem dX1_faultPosition_20 : decode cX1_faultPosition 20 = .ok (.ireturn, 1) := dk_172 (dk_at dksX1_faultPosition_0 20 rfl rfl)
abbrev cX1_refusal : ByteArray := prog_1_method_53_code
def yX1_refusal : MethodName := ⟨RX1, "refusal", "(Z)I"⟩
def dkwX1_refusal_1 : List UInt8 := [167, 0, 7, 42, 180, 0, 129, 172]
abbrev dktX1_refusal_1 : List UInt8 := dkwX1_refusal_1 ++ []
def dkwX1_refusal_0 : List UInt8 := [42, 180, 0, 126, 153, 0, 7, 4, 167, 0, 4, 3, 184, 0, 83, 27, 153, 0, 10, 42, 180, 0, 126]
abbrev dktX1_refusal_0 : List UInt8 := dkwX1_refusal_0 ++ dktX1_refusal_1
theorem dksX1_refusal_0 : cX1_refusal.data.toList.drop 0 = dktX1_refusal_0 := by decide +kernel
theorem dksX1_refusal_1 : cX1_refusal.data.toList.drop 23 = dktX1_refusal_1 := dk_seg dksX1_refusal_0 23 rfl rfl
theorem dX1_refusal_0 : decode cX1_refusal 0 = .ok (.aload_n 0, 1) := dk_42 (dk_at dksX1_refusal_0 0 rfl rfl)
theorem dX1_refusal_1 : decode cX1_refusal 1 = .ok (.getfield 126, 3) := dk_180 0 126 (dk_at dksX1_refusal_0 1 rfl rfl)
theorem dX1_refusal_4 : decode cX1_refusal 4 = .ok (.ifCond .eq 7, 3) := dk_153 0 7 (dk_at dksX1_refusal_0 4 rfl rfl)
theorem dX1_refusal_7 : decode cX1_refusal 7 = .ok (.iconst 1, 1) := dk_4 (dk_at dksX1_refusal_0 7 rfl rfl)
theorem dX1_refusal_8 : decode cX1_refusal 8 = .ok (.goto 4, 3) := dk_167 0 4 (dk_at dksX1_refusal_0 8 rfl rfl)
theorem dX1_refusal_11 : decode cX1_refusal 11 = .ok (.iconst 0, 1) := dk_3 (dk_at dksX1_refusal_0 11 rfl rfl)
theorem dX1_refusal_12 : decode cX1_refusal 12 = .ok (.invokestatic 83, 3) := dk_184 0 83 (dk_at dksX1_refusal_0 12 rfl rfl)
theorem dX1_refusal_15 : decode cX1_refusal 15 = .ok (.iload_n 1, 1) := dk_27 (dk_at dksX1_refusal_0 15 rfl rfl)
theorem dX1_refusal_16 : decode cX1_refusal 16 = .ok (.ifCond .eq 10, 3) := dk_153 0 10 (dk_at dksX1_refusal_0 16 rfl rfl)
theorem dX1_refusal_19 : decode cX1_refusal 19 = .ok (.aload_n 0, 1) := dk_42 (dk_at dksX1_refusal_0 19 rfl rfl)
theorem dX1_refusal_20 : decode cX1_refusal 20 = .ok (.getfield 126, 3) := dk_180 0 126 (dk_at dksX1_refusal_0 20 rfl rfl)
theorem dX1_refusal_23 : decode cX1_refusal 23 = .ok (.goto 7, 3) := dk_167 0 7 (dk_at dksX1_refusal_1 0 rfl rfl)
theorem dX1_refusal_26 : decode cX1_refusal 26 = .ok (.aload_n 0, 1) := dk_42 (dk_at dksX1_refusal_1 3 rfl rfl)
theorem dX1_refusal_27 : decode cX1_refusal 27 = .ok (.getfield 129, 3) := dk_180 0 129 (dk_at dksX1_refusal_1 4 rfl rfl)
theorem dX1_refusal_30 : decode cX1_refusal 30 = .ok (.ireturn, 1) := dk_172 (dk_at dksX1_refusal_1 7 rfl rfl)
abbrev cX1_undo : ByteArray := prog_1_method_54_code
def yX1_undo : MethodName := ⟨RX1, "undo", "()I"⟩
def dkwX1_undo_1 : List UInt8 := [182, 1, 117, 192, 0, 43, 181, 0, 38, 42, 180, 0, 96, 182, 0, 114, 172]
abbrev dktX1_undo_1 : List UInt8 := dkwX1_undo_1 ++ []
def dkwX1_undo_0 : List UInt8 := [42, 180, 0, 96, 182, 1, 114, 154, 0, 7, 4, 167, 0, 4, 3, 184, 0, 232, 42, 42, 180, 0, 96]
abbrev dktX1_undo_0 : List UInt8 := dkwX1_undo_0 ++ dktX1_undo_1
theorem dksX1_undo_0 : cX1_undo.data.toList.drop 0 = dktX1_undo_0 := by decide +kernel
theorem dksX1_undo_1 : cX1_undo.data.toList.drop 23 = dktX1_undo_1 := dk_seg dksX1_undo_0 23 rfl rfl
theorem dX1_undo_0 : decode cX1_undo 0 = .ok (.aload_n 0, 1) := dk_42 (dk_at dksX1_undo_0 0 rfl rfl)
theorem dX1_undo_1 : decode cX1_undo 1 = .ok (.getfield 96, 3) := dk_180 0 96 (dk_at dksX1_undo_0 1 rfl rfl)
theorem dX1_undo_4 : decode cX1_undo 4 = .ok (.invokevirtual 370, 3) := dk_182 1 114 (dk_at dksX1_undo_0 4 rfl rfl)
theorem dX1_undo_7 : decode cX1_undo 7 = .ok (.ifCond .ne 7, 3) := dk_154 0 7 (dk_at dksX1_undo_0 7 rfl rfl)
theorem dX1_undo_10 : decode cX1_undo 10 = .ok (.iconst 1, 1) := dk_4 (dk_at dksX1_undo_0 10 rfl rfl)
theorem dX1_undo_11 : decode cX1_undo 11 = .ok (.goto 4, 3) := dk_167 0 4 (dk_at dksX1_undo_0 11 rfl rfl)
theorem dX1_undo_14 : decode cX1_undo 14 = .ok (.iconst 0, 1) := dk_3 (dk_at dksX1_undo_0 14 rfl rfl)
theorem dX1_undo_15 : decode cX1_undo 15 = .ok (.invokestatic 232, 3) := dk_184 0 232 (dk_at dksX1_undo_0 15 rfl rfl)
theorem dX1_undo_18 : decode cX1_undo 18 = .ok (.aload_n 0, 1) := dk_42 (dk_at dksX1_undo_0 18 rfl rfl)
theorem dX1_undo_19 : decode cX1_undo 19 = .ok (.aload_n 0, 1) := dk_42 (dk_at dksX1_undo_0 19 rfl rfl)
theorem dX1_undo_20 : decode cX1_undo 20 = .ok (.getfield 96, 3) := dk_180 0 96 (dk_at dksX1_undo_0 20 rfl rfl)
theorem dX1_undo_23 : decode cX1_undo 23 = .ok (.invokevirtual 373, 3) := dk_182 1 117 (dk_at dksX1_undo_1 0 rfl rfl)
theorem dX1_undo_26 : decode cX1_undo 26 = .ok (.checkcast 43, 3) := dk_192 0 43 (dk_at dksX1_undo_1 3 rfl rfl)
theorem dX1_undo_29 : decode cX1_undo 29 = .ok (.putfield 38, 3) := dk_181 0 38 (dk_at dksX1_undo_1 6 rfl rfl)
theorem dX1_undo_32 : decode cX1_undo 32 = .ok (.aload_n 0, 1) := dk_42 (dk_at dksX1_undo_1 9 rfl rfl)
theorem dX1_undo_33 : decode cX1_undo 33 = .ok (.getfield 96, 3) := dk_180 0 96 (dk_at dksX1_undo_1 10 rfl rfl)
theorem dX1_undo_36 : decode cX1_undo 36 = .ok (.invokevirtual 114, 3) := dk_182 0 114 (dk_at dksX1_undo_1 13 rfl rfl)
theorem dX1_undo_39 : decode cX1_undo 39 = .ok (.ireturn, 1) := dk_172 (dk_at dksX1_undo_1 16 rfl rfl)
abbrev cX1_restoreSnapshot : ByteArray := prog_1_method_56_code
def yX1_restoreSnapshot : MethodName := ⟨RX1, "restoreSnapshot", "()I"⟩
def dkwX1_restoreSnapshot_2 : List UInt8 := [185, 0, 176, 1, 0, 172]
abbrev dktX1_restoreSnapshot_2 : List UInt8 := dkwX1_restoreSnapshot_2 ++ []
def dkwX1_restoreSnapshot_1 : List UInt8 := [183, 0, 135, 181, 0, 38, 42, 180, 0, 96, 182, 1, 123, 42, 180, 0, 38, 180, 1, 32]
abbrev dktX1_restoreSnapshot_1 : List UInt8 := dkwX1_restoreSnapshot_1 ++ dktX1_restoreSnapshot_2
def dkwX1_restoreSnapshot_0 : List UInt8 := [42, 180, 1, 120, 198, 0, 7, 4, 167, 0, 4, 3, 184, 0, 232, 42, 187, 0, 43, 89, 42, 180, 1, 120]
abbrev dktX1_restoreSnapshot_0 : List UInt8 := dkwX1_restoreSnapshot_0 ++ dktX1_restoreSnapshot_1
theorem dksX1_restoreSnapshot_0 : cX1_restoreSnapshot.data.toList.drop 0 = dktX1_restoreSnapshot_0 := by decide +kernel
theorem dksX1_restoreSnapshot_1 : cX1_restoreSnapshot.data.toList.drop 24 = dktX1_restoreSnapshot_1 := dk_seg dksX1_restoreSnapshot_0 24 rfl rfl
theorem dksX1_restoreSnapshot_2 : cX1_restoreSnapshot.data.toList.drop 44 = dktX1_restoreSnapshot_2 := dk_seg dksX1_restoreSnapshot_1 20 rfl rfl
theorem dX1_restoreSnapshot_0 : decode cX1_restoreSnapshot 0 = .ok (.aload_n 0, 1) := dk_42 (dk_at dksX1_restoreSnapshot_0 0 rfl rfl)
theorem dX1_restoreSnapshot_1 : decode cX1_restoreSnapshot 1 = .ok (.getfield 376, 3) := dk_180 1 120 (dk_at dksX1_restoreSnapshot_0 1 rfl rfl)
theorem dX1_restoreSnapshot_4 : decode cX1_restoreSnapshot 4 = .ok (.ifnull 7, 3) := dk_198 0 7 (dk_at dksX1_restoreSnapshot_0 4 rfl rfl)
theorem dX1_restoreSnapshot_7 : decode cX1_restoreSnapshot 7 = .ok (.iconst 1, 1) := dk_4 (dk_at dksX1_restoreSnapshot_0 7 rfl rfl)
theorem dX1_restoreSnapshot_8 : decode cX1_restoreSnapshot 8 = .ok (.goto 4, 3) := dk_167 0 4 (dk_at dksX1_restoreSnapshot_0 8 rfl rfl)
theorem dX1_restoreSnapshot_11 : decode cX1_restoreSnapshot 11 = .ok (.iconst 0, 1) := dk_3 (dk_at dksX1_restoreSnapshot_0 11 rfl rfl)
theorem dX1_restoreSnapshot_12 : decode cX1_restoreSnapshot 12 = .ok (.invokestatic 232, 3) := dk_184 0 232 (dk_at dksX1_restoreSnapshot_0 12 rfl rfl)
theorem dX1_restoreSnapshot_15 : decode cX1_restoreSnapshot 15 = .ok (.aload_n 0, 1) := dk_42 (dk_at dksX1_restoreSnapshot_0 15 rfl rfl)
theorem dX1_restoreSnapshot_16 : decode cX1_restoreSnapshot 16 = .ok (.new 43, 3) := dk_187 0 43 (dk_at dksX1_restoreSnapshot_0 16 rfl rfl)
theorem dX1_restoreSnapshot_19 : decode cX1_restoreSnapshot 19 = .ok (.dup, 1) := dk_89 (dk_at dksX1_restoreSnapshot_0 19 rfl rfl)
theorem dX1_restoreSnapshot_20 : decode cX1_restoreSnapshot 20 = .ok (.aload_n 0, 1) := dk_42 (dk_at dksX1_restoreSnapshot_0 20 rfl rfl)
theorem dX1_restoreSnapshot_21 : decode cX1_restoreSnapshot 21 = .ok (.getfield 376, 3) := dk_180 1 120 (dk_at dksX1_restoreSnapshot_0 21 rfl rfl)
theorem dX1_restoreSnapshot_24 : decode cX1_restoreSnapshot 24 = .ok (.invokespecial 135, 3) := dk_183 0 135 (dk_at dksX1_restoreSnapshot_1 0 rfl rfl)
theorem dX1_restoreSnapshot_27 : decode cX1_restoreSnapshot 27 = .ok (.putfield 38, 3) := dk_181 0 38 (dk_at dksX1_restoreSnapshot_1 3 rfl rfl)
theorem dX1_restoreSnapshot_30 : decode cX1_restoreSnapshot 30 = .ok (.aload_n 0, 1) := dk_42 (dk_at dksX1_restoreSnapshot_1 6 rfl rfl)
theorem dX1_restoreSnapshot_31 : decode cX1_restoreSnapshot 31 = .ok (.getfield 96, 3) := dk_180 0 96 (dk_at dksX1_restoreSnapshot_1 7 rfl rfl)
theorem dX1_restoreSnapshot_34 : decode cX1_restoreSnapshot 34 = .ok (.invokevirtual 379, 3) := dk_182 1 123 (dk_at dksX1_restoreSnapshot_1 10 rfl rfl)
theorem dX1_restoreSnapshot_37 : decode cX1_restoreSnapshot 37 = .ok (.aload_n 0, 1) := dk_42 (dk_at dksX1_restoreSnapshot_1 13 rfl rfl)
theorem dX1_restoreSnapshot_38 : decode cX1_restoreSnapshot 38 = .ok (.getfield 38, 3) := dk_180 0 38 (dk_at dksX1_restoreSnapshot_1 14 rfl rfl)
theorem dX1_restoreSnapshot_41 : decode cX1_restoreSnapshot 41 = .ok (.getfield 288, 3) := dk_180 1 32 (dk_at dksX1_restoreSnapshot_1 17 rfl rfl)
theorem dX1_restoreSnapshot_44 : decode cX1_restoreSnapshot 44 = .ok (.invokeinterface 176 1, 5) := by decide +kernel
theorem dX1_restoreSnapshot_49 : decode cX1_restoreSnapshot 49 = .ok (.ireturn, 1) := dk_172 (dk_at dksX1_restoreSnapshot_2 5 rfl rfl)
theorem q78 : (Jvm.Cond.initialized "FlintMine") ∈ lw_all := lw_g (lw_at lw_m1 1 rfl) rfl
theorem q124 : (Jvm.Cond.instantiable "FlintMine" (9 : Nat)) ∈ lw_all := lw_g (lw_at lw_m1 47 rfl) rfl
theorem q126 : (Jvm.Cond.instanceMethod ({ cls := "FlintMine", name := "<init>", desc := "()V" } : Jvm.MethodName)) ∈ lw_all := lw_g (lw_at lw_m1 49 rfl) rfl
theorem q127 : (Jvm.Cond.code ({ cls := "FlintMine", name := "<init>", desc := "()V" } : Jvm.MethodName) prog_1_method_14_code (1 : Nat) (Option.none : Option Jvm.ClassFile.FieldType)) ∈ lw_all := lw_g (lw_at lw_m1 50 rfl) rfl
theorem q128 : (Jvm.Cond.classLink "FlintMine" (43 : Nat) "FlintMine$Mine") ∈ lw_all := lw_g (lw_at lw_m1 51 rfl) rfl
theorem q130 : (Jvm.Cond.methodLink "FlintMine" (110 : Nat) ({ cls := "FlintMine$Mine", name := "<init>", desc := "()V" } : Jvm.MethodName)) ∈ lw_all := lw_g (lw_at lw_m1 53 rfl) rfl
theorem q177 : (Jvm.Cond.fieldLinkNest "FlintMine" (204 : Nat) "FlintMine$Chalk" "hardness" "I" "FlintMine") ∈ lw_tbl := lw_at lw_m1 100 rfl
theorem q186 : (Jvm.Cond.fieldLinkNest "FlintMine" (196 : Nat) "FlintMine$Mine" "ground" "[LFlintMine$Ground;" "FlintMine") ∈ lw_tbl := lw_at lw_m1 109 rfl
theorem q188 : (Jvm.Cond.fieldLinkNest "FlintMine" (288 : Nat) "FlintMine$Mine" "shafts" "Ljava/util/List;" "FlintMine") ∈ lw_tbl := lw_at lw_m1 111 rfl
theorem q190 : (Jvm.Cond.fieldLinkNest "FlintMine" (172 : Nat) "FlintMine$Mine" "picks" "Ljava/util/List;" "FlintMine") ∈ lw_tbl := lw_at lw_m1 113 rfl
theorem q192 : (Jvm.Cond.fieldLinkNest "FlintMine" (313 : Nat) "FlintMine$Mine" "roof" "I" "FlintMine") ∈ lw_tbl := lw_at lw_m1 115 rfl
theorem q194 : (Jvm.Cond.fieldLinkNest "FlintMine" (297 : Nat) "FlintMine$Mine" "props" "I" "FlintMine") ∈ lw_tbl := lw_at lw_m1 117 rfl
theorem q196 : (Jvm.Cond.fieldLinkNest "FlintMine" (303 : Nat) "FlintMine$Mine" "rubble" "I" "FlintMine") ∈ lw_tbl := lw_at lw_m1 119 rfl
theorem q198 : (Jvm.Cond.fieldLinkNest "FlintMine" (308 : Nat) "FlintMine$Mine" "strokes" "I" "FlintMine") ∈ lw_tbl := lw_at lw_m1 121 rfl
theorem q214 : (Jvm.Cond.methodLink "FlintMine" (111 : Nat) ({ cls := "FlintMine", name := "<init>", desc := "(LFlintMine$Mine;)V" } : Jvm.MethodName)) ∈ lw_all := lw_g (lw_at lw_m1 137 rfl) rfl
theorem q215 : (Jvm.Cond.instanceMethod ({ cls := "FlintMine", name := "<init>", desc := "(LFlintMine$Mine;)V" } : Jvm.MethodName)) ∈ lw_all := lw_g (lw_at lw_m1 138 rfl) rfl
theorem q216 : (Jvm.Cond.code ({ cls := "FlintMine", name := "<init>", desc := "(LFlintMine$Mine;)V" } : Jvm.MethodName) prog_1_method_13_code (2 : Nat) (Option.none : Option Jvm.ClassFile.FieldType)) ∈ lw_all := lw_g (lw_at lw_m1 139 rfl) rfl
theorem q217 : (Jvm.Cond.methodLink "FlintMine" (90 : Nat) ({ cls := "java/lang/Object", name := "<init>", desc := "()V" } : Jvm.MethodName)) ∈ lw_all := lw_g (lw_at lw_m1 140 rfl) rfl
theorem q218 : (Jvm.Cond.classLink "FlintMine" (93 : Nat) "java/util/ArrayDeque") ∈ lw_all := lw_g (lw_at lw_m1 141 rfl) rfl
theorem q220 : (Jvm.Cond.methodLink "FlintMine" (95 : Nat) ({ cls := "java/util/ArrayDeque", name := "<init>", desc := "()V" } : Jvm.MethodName)) ∈ lw_all := lw_g (lw_at lw_m1 143 rfl) rfl
theorem q237 : (Jvm.Cond.classLink "FlintMine" (100 : Nat) "java/lang/StringBuilder") ∈ lw_all := lw_g (lw_at lw_m1 160 rfl) rfl
theorem q239 : (Jvm.Cond.methodLink "FlintMine" (102 : Nat) ({ cls := "java/lang/StringBuilder", name := "<init>", desc := "()V" } : Jvm.MethodName)) ∈ lw_all := lw_g (lw_at lw_m1 162 rfl) rfl
theorem q270 : (Jvm.Cond.fieldLink "FlintMine" (35 : Nat) "FlintMine" "far" "[I") ∈ lw_all := lw_g (lw_at lw_m1 193 rfl) rfl
theorem q271 : (Jvm.Cond.fieldLink "FlintMine" (48 : Nat) "FlintMine" "queue" "[I") ∈ lw_all := lw_g (lw_at lw_m1 194 rfl) rfl
theorem q272 : (Jvm.Cond.fieldLink "FlintMine" (38 : Nat) "FlintMine" "mine" "LFlintMine$Mine;") ∈ lw_all := lw_g (lw_at lw_m1 195 rfl) rfl
theorem q273 : (Jvm.Cond.fieldLink "FlintMine" (96 : Nat) "FlintMine" "past" "Ljava/util/ArrayDeque;") ∈ lw_all := lw_g (lw_at lw_m1 196 rfl) rfl
theorem q275 : (Jvm.Cond.fieldLink "FlintMine" (103 : Nat) "FlintMine" "input" "Ljava/lang/StringBuilder;") ∈ lw_all := lw_g (lw_at lw_m1 198 rfl) rfl
theorem q276 : (Jvm.Cond.fieldLink "FlintMine" (107 : Nat) "FlintMine" "fault" "I") ∈ lw_all := lw_g (lw_at lw_m1 199 rfl) rfl
theorem q277 : (Jvm.Cond.fieldLink "FlintMine" (126 : Nat) "FlintMine" "reason" "I") ∈ lw_all := lw_g (lw_at lw_m1 200 rfl) rfl
theorem q278 : (Jvm.Cond.fieldLink "FlintMine" (129 : Nat) "FlintMine" "detail" "I") ∈ lw_all := lw_g (lw_at lw_m1 201 rfl) rfl
theorem q279 : (Jvm.Cond.fieldLink "FlintMine" (376 : Nat) "FlintMine" "saved" "LFlintMine$Mine;") ∈ lw_all := lw_g (lw_at lw_m1 202 rfl) rfl
theorem q280 : (Jvm.Cond.laysFinal "FlintMine" "FlintMine" "far" "[I") ∈ lw_all := lw_g (lw_at lw_m1 203 rfl) rfl
theorem q281 : (Jvm.Cond.soleField "FlintMine" "far") ∈ lw_all := lw_g (lw_at lw_m1 204 rfl) rfl
theorem q282 : (Jvm.Cond.laysFinal "FlintMine" "FlintMine" "queue" "[I") ∈ lw_all := lw_g (lw_at lw_m1 205 rfl) rfl
theorem q283 : (Jvm.Cond.soleField "FlintMine" "queue") ∈ lw_all := lw_g (lw_at lw_m1 206 rfl) rfl
theorem q284 : (Jvm.Cond.lays "FlintMine" "FlintMine" "mine" "LFlintMine$Mine;") ∈ lw_all := lw_g (lw_at lw_m1 207 rfl) rfl
theorem q285 : (Jvm.Cond.soleField "FlintMine" "mine") ∈ lw_all := lw_g (lw_at lw_m1 208 rfl) rfl
theorem q286 : (Jvm.Cond.laysFinal "FlintMine" "FlintMine" "past" "Ljava/util/ArrayDeque;") ∈ lw_all := lw_g (lw_at lw_m1 209 rfl) rfl
theorem q287 : (Jvm.Cond.soleField "FlintMine" "past") ∈ lw_all := lw_g (lw_at lw_m1 210 rfl) rfl
theorem q288 : (Jvm.Cond.laysFinal "FlintMine" "FlintMine" "input" "Ljava/lang/StringBuilder;") ∈ lw_all := lw_g (lw_at lw_m1 211 rfl) rfl
theorem q289 : (Jvm.Cond.soleField "FlintMine" "input") ∈ lw_all := lw_g (lw_at lw_m1 212 rfl) rfl
theorem q290 : (Jvm.Cond.lays "FlintMine" "FlintMine" "fault" "I") ∈ lw_all := lw_g (lw_at lw_m1 213 rfl) rfl
theorem q291 : (Jvm.Cond.soleField "FlintMine" "fault") ∈ lw_all := lw_g (lw_at lw_m1 214 rfl) rfl
theorem q292 : (Jvm.Cond.lays "FlintMine" "FlintMine" "reason" "I") ∈ lw_all := lw_g (lw_at lw_m1 215 rfl) rfl
theorem q293 : (Jvm.Cond.soleField "FlintMine" "reason") ∈ lw_all := lw_g (lw_at lw_m1 216 rfl) rfl
theorem q294 : (Jvm.Cond.lays "FlintMine" "FlintMine" "detail" "I") ∈ lw_all := lw_g (lw_at lw_m1 217 rfl) rfl
theorem q295 : (Jvm.Cond.soleField "FlintMine" "detail") ∈ lw_all := lw_g (lw_at lw_m1 218 rfl) rfl
theorem q296 : (Jvm.Cond.lays "FlintMine" "FlintMine" "saved" "LFlintMine$Mine;") ∈ lw_all := lw_g (lw_at lw_m1 219 rfl) rfl
theorem q297 : (Jvm.Cond.soleField "FlintMine" "saved") ∈ lw_all := lw_g (lw_at lw_m1 220 rfl) rfl
theorem q298 : (Jvm.Cond.superclass "FlintMine" "java/lang/Object") ∈ lw_all := lw_g (lw_at lw_m1 221 rfl) rfl
theorem q300 : (Jvm.Cond.instanceMethod ({ cls := "FlintMine", name := "longest", desc := "()I" } : Jvm.MethodName)) ∈ lw_all := lw_g (lw_at lw_m1 223 rfl) rfl
theorem q301 : (Jvm.Cond.selects "FlintMine" ({ cls := "FlintMine", name := "longest", desc := "()I" } : Jvm.MethodName) ({ cls := "FlintMine", name := "longest", desc := "()I" } : Jvm.MethodName)) ∈ lw_all := lw_g (lw_at lw_m1 224 rfl) rfl
theorem q302 : (Jvm.Cond.code ({ cls := "FlintMine", name := "longest", desc := "()I" } : Jvm.MethodName) prog_1_method_26_code (1 : Nat) (Option.some Jvm.ClassFile.FieldType.int)) ∈ lw_all := lw_g (lw_at lw_m1 225 rfl) rfl
theorem q303 : (Jvm.Cond.methodLink "FlintMine" (226 : Nat) ({ cls := "FlintMine$Mine", name := "longest", desc := "()I" } : Jvm.MethodName)) ∈ lw_all := lw_g (lw_at lw_m1 226 rfl) rfl
theorem q337 : (Jvm.Cond.static ({ cls := "FlintMine", name := "beside", desc := "(II)I" } : Jvm.MethodName)) ∈ lw_all := lw_g (lw_at lw_m2 20 rfl) rfl
theorem q338 : (Jvm.Cond.code ({ cls := "FlintMine", name := "beside", desc := "(II)I" } : Jvm.MethodName) prog_1_method_8_code (2 : Nat) (Option.some Jvm.ClassFile.FieldType.int)) ∈ lw_all := lw_g (lw_at lw_m2 21 rfl) rfl
theorem q339 : (Jvm.Cond.fieldLink "FlintMine" (31 : Nat) "FlintMine" "BESIDE" "[I") ∈ lw_all := lw_g (lw_at lw_m2 22 rfl) rfl
theorem q340 : (Jvm.Cond.laysStatic "FlintMine" "BESIDE" "[I") ∈ lw_tbl := lw_at lw_m2 23 rfl
theorem q345 : (Jvm.Cond.instanceMethod ({ cls := "FlintMine", name := "chalk", desc := "()F" } : Jvm.MethodName)) ∈ lw_all := lw_g (lw_at lw_m2 28 rfl) rfl
theorem q346 : (Jvm.Cond.selects "FlintMine" ({ cls := "FlintMine", name := "chalk", desc := "()F" } : Jvm.MethodName) ({ cls := "FlintMine", name := "chalk", desc := "()F" } : Jvm.MethodName)) ∈ lw_all := lw_g (lw_at lw_m2 29 rfl) rfl
theorem q347 : (Jvm.Cond.code ({ cls := "FlintMine", name := "chalk", desc := "()F" } : Jvm.MethodName) prog_1_method_47_code (1 : Nat) (Option.some Jvm.ClassFile.FieldType.float)) ∈ lw_all := lw_g (lw_at lw_m2 30 rfl) rfl
theorem q348 : (Jvm.Cond.methodLink "FlintMine" (294 : Nat) ({ cls := "FlintMine", name := "cells", desc := "(I)I" } : Jvm.MethodName)) ∈ lw_all := lw_g (lw_at lw_m2 31 rfl) rfl
theorem q349 : (Jvm.Cond.privateMethod ({ cls := "FlintMine", name := "cells", desc := "(I)I" } : Jvm.MethodName)) ∈ lw_tbl := lw_at lw_m2 32 rfl
theorem q350 : (Jvm.Cond.instanceMethod ({ cls := "FlintMine", name := "cells", desc := "(I)I" } : Jvm.MethodName)) ∈ lw_all := lw_g (lw_at lw_m2 33 rfl) rfl
theorem q351 : (Jvm.Cond.code ({ cls := "FlintMine", name := "cells", desc := "(I)I" } : Jvm.MethodName) prog_1_method_42_code (4 : Nat) (Option.some Jvm.ClassFile.FieldType.int)) ∈ lw_all := lw_g (lw_at lw_m2 34 rfl) rfl
theorem q352 : (Jvm.Cond.methodLink "FlintMine" (200 : Nat) ({ cls := "FlintMine", name := "kind", desc := "(LFlintMine$Ground;)I" } : Jvm.MethodName)) ∈ lw_all := lw_g (lw_at lw_m2 35 rfl) rfl
theorem q353 : (Jvm.Cond.static ({ cls := "FlintMine", name := "kind", desc := "(LFlintMine$Ground;)I" } : Jvm.MethodName)) ∈ lw_all := lw_g (lw_at lw_m2 36 rfl) rfl
theorem q354 : (Jvm.Cond.code ({ cls := "FlintMine", name := "kind", desc := "(LFlintMine$Ground;)I" } : Jvm.MethodName) prog_1_method_23_code (1 : Nat) (Option.some Jvm.ClassFile.FieldType.int)) ∈ lw_all := lw_g (lw_at lw_m2 37 rfl) rfl
theorem q355 : (Jvm.Cond.classLink "FlintMine" (188 : Nat) "FlintMine$Chalk") ∈ lw_all := lw_g (lw_at lw_m2 38 rfl) rfl
theorem q356 : (Jvm.Cond.classLink "FlintMine" (190 : Nat) "FlintMine$Open") ∈ lw_all := lw_g (lw_at lw_m2 39 rfl) rfl
theorem q357 : (Jvm.Cond.constantFloat "FlintMine" (324 : Nat) (1115684864 : UInt32)) ∈ lw_all := lw_g (lw_at lw_m2 40 rfl) rfl
theorem q359 : (Jvm.Cond.instanceMethod ({ cls := "FlintMine", name := "saveSnapshot", desc := "()I" } : Jvm.MethodName)) ∈ lw_all := lw_g (lw_at lw_m2 42 rfl) rfl
theorem q360 : (Jvm.Cond.selects "FlintMine" ({ cls := "FlintMine", name := "saveSnapshot", desc := "()I" } : Jvm.MethodName) ({ cls := "FlintMine", name := "saveSnapshot", desc := "()I" } : Jvm.MethodName)) ∈ lw_all := lw_g (lw_at lw_m2 43 rfl) rfl
theorem q361 : (Jvm.Cond.code ({ cls := "FlintMine", name := "saveSnapshot", desc := "()I" } : Jvm.MethodName) prog_1_method_55_code (1 : Nat) (Option.some Jvm.ClassFile.FieldType.int)) ∈ lw_all := lw_g (lw_at lw_m2 44 rfl) rfl
theorem q362 : (Jvm.Cond.methodLink "FlintMine" (135 : Nat) ({ cls := "FlintMine$Mine", name := "<init>", desc := "(LFlintMine$Mine;)V" } : Jvm.MethodName)) ∈ lw_all := lw_g (lw_at lw_m2 45 rfl) rfl
theorem q527 : (Jvm.Cond.selects "FlintMine" ({ cls := "java/lang/Object", name := "getClass", desc := "()Ljava/lang/Class;" } : Jvm.MethodName) ({ cls := "java/lang/Object", name := "getClass", desc := "()Ljava/lang/Class;" } : Jvm.MethodName)) ∈ lw_all := lw_g (lw_at lw_m2 210 rfl) rfl
theorem q575 : (Jvm.Cond.interfaceEntry "FlintMine" (176 : Nat)) ∈ lw_tbl := lw_at lw_m3 18 rfl
theorem q576 : (Jvm.Cond.methodLink "FlintMine" (176 : Nat) ({ cls := "java/util/List", name := "size", desc := "()I" } : Jvm.MethodName)) ∈ lw_all := lw_g (lw_at lw_m3 19 rfl) rfl
theorem q622 : (Jvm.Cond.instanceMethod ({ cls := "FlintMine", name := "rock", desc := "(III)I" } : Jvm.MethodName)) ∈ lw_all := lw_g (lw_at lw_m3 65 rfl) rfl
theorem q623 : (Jvm.Cond.selects "FlintMine" ({ cls := "FlintMine", name := "rock", desc := "(III)I" } : Jvm.MethodName) ({ cls := "FlintMine", name := "rock", desc := "(III)I" } : Jvm.MethodName)) ∈ lw_all := lw_g (lw_at lw_m3 66 rfl) rfl
theorem q624 : (Jvm.Cond.code ({ cls := "FlintMine", name := "rock", desc := "(III)I" } : Jvm.MethodName) prog_1_method_18_code (5 : Nat) (Option.some Jvm.ClassFile.FieldType.int)) ∈ lw_all := lw_g (lw_at lw_m3 67 rfl) rfl
theorem q625 : (Jvm.Cond.methodLink "FlintMine" (151 : Nat) ({ cls := "FlintMine", name := "cellOf", desc := "([I)I" } : Jvm.MethodName)) ∈ lw_all := lw_g (lw_at lw_m3 68 rfl) rfl
theorem q626 : (Jvm.Cond.static ({ cls := "FlintMine", name := "cellOf", desc := "([I)I" } : Jvm.MethodName)) ∈ lw_all := lw_g (lw_at lw_m3 69 rfl) rfl
theorem q627 : (Jvm.Cond.code ({ cls := "FlintMine", name := "cellOf", desc := "([I)I" } : Jvm.MethodName) prog_1_method_6_code (5 : Nat) (Option.some Jvm.ClassFile.FieldType.int)) ∈ lw_all := lw_g (lw_at lw_m3 70 rfl) rfl
theorem q628 : (Jvm.Cond.methodLink "FlintMine" (18 : Nat) ({ cls := "FlintMine", name := "inRange", desc := "(III)Z" } : Jvm.MethodName)) ∈ lw_all := lw_g (lw_at lw_m3 71 rfl) rfl
theorem q629 : (Jvm.Cond.static ({ cls := "FlintMine", name := "inRange", desc := "(III)Z" } : Jvm.MethodName)) ∈ lw_all := lw_g (lw_at lw_m3 72 rfl) rfl
theorem q630 : (Jvm.Cond.code ({ cls := "FlintMine", name := "inRange", desc := "(III)Z" } : Jvm.MethodName) prog_1_method_1_code (3 : Nat) (Option.some Jvm.ClassFile.FieldType.boolean)) ∈ lw_all := lw_g (lw_at lw_m3 73 rfl) rfl
theorem q631 : (Jvm.Cond.methodLink "FlintMine" (22 : Nat) ({ cls := "FlintMine", name := "requireIndex", desc := "(Z)V" } : Jvm.MethodName)) ∈ lw_all := lw_g (lw_at lw_m3 74 rfl) rfl
theorem q632 : (Jvm.Cond.static ({ cls := "FlintMine", name := "requireIndex", desc := "(Z)V" } : Jvm.MethodName)) ∈ lw_all := lw_g (lw_at lw_m3 75 rfl) rfl
theorem q633 : (Jvm.Cond.code ({ cls := "FlintMine", name := "requireIndex", desc := "(Z)V" } : Jvm.MethodName) prog_1_method_3_code (1 : Nat) (Option.none : Option Jvm.ClassFile.FieldType)) ∈ lw_all := lw_g (lw_at lw_m3 76 rfl) rfl
theorem q634 : (Jvm.Cond.classLink "FlintMine" (7 : Nat) "java/lang/IndexOutOfBoundsException") ∈ lw_all := lw_g (lw_at lw_m3 77 rfl) rfl
theorem q643 : (Jvm.Cond.methodLink "FlintMine" (9 : Nat) ({ cls := "java/lang/IndexOutOfBoundsException", name := "<init>", desc := "()V" } : Jvm.MethodName)) ∈ lw_all := lw_g (lw_at lw_m3 86 rfl) rfl
theorem q649 : (Jvm.Cond.fieldLink "FlintMine" (155 : Nat) "FlintMine$Act" "ROCK" "LFlintMine$Act;") ∈ lw_all := lw_g (lw_at lw_m3 92 rfl) rfl
theorem q651 : (Jvm.Cond.methodLink "FlintMine" (159 : Nat) ({ cls := "FlintMine", name := "change", desc := "(LFlintMine$Act;[I)I" } : Jvm.MethodName)) ∈ lw_all := lw_g (lw_at lw_m3 94 rfl) rfl
theorem q652 : (Jvm.Cond.privateMethod ({ cls := "FlintMine", name := "change", desc := "(LFlintMine$Act;[I)I" } : Jvm.MethodName)) ∈ lw_tbl := lw_at lw_m3 95 rfl
theorem q653 : (Jvm.Cond.instanceMethod ({ cls := "FlintMine", name := "change", desc := "(LFlintMine$Act;[I)I" } : Jvm.MethodName)) ∈ lw_all := lw_g (lw_at lw_m3 96 rfl) rfl
theorem q654 : (Jvm.Cond.codeWith ({ cls := "FlintMine", name := "change", desc := "(LFlintMine$Act;[I)I" } : Jvm.MethodName) prog_1_method_17_code (5 : Nat) (Option.some Jvm.ClassFile.FieldType.int) [((12 : Nat), (27 : Nat), (28 : Nat), (26 : Nat))]) ∈ lw_all := lw_g (lw_at lw_m3 97 rfl) rfl
theorem q655 : (Jvm.Cond.classLink "FlintMine" (26 : Nat) "FlintMine$Refusal") ∈ lw_all := lw_g (lw_at lw_m3 98 rfl) rfl
theorem q656 : (Jvm.Cond.methodLink "FlintMine" (136 : Nat) ({ cls := "FlintMine$Act", name := "done", desc := "(LFlintMine$Mine;[I)I" } : Jvm.MethodName)) ∈ lw_all := lw_g (lw_at lw_m3 99 rfl) rfl
theorem q664 : (Jvm.Cond.static ({ cls := "FlintMine", name := "require", desc := "([Z)V" } : Jvm.MethodName)) ∈ lw_all := lw_g (lw_at lw_m3 107 rfl) rfl
theorem q665 : (Jvm.Cond.code ({ cls := "FlintMine", name := "require", desc := "([Z)V" } : Jvm.MethodName) prog_1_method_2_code (5 : Nat) (Option.none : Option Jvm.ClassFile.FieldType)) ∈ lw_all := lw_g (lw_at lw_m3 108 rfl) rfl
theorem q666 : (Jvm.Cond.classLink "FlintMine" (1 : Nat) "java/lang/IllegalArgumentException") ∈ lw_all := lw_g (lw_at lw_m3 109 rfl) rfl
theorem q675 : (Jvm.Cond.methodLink "FlintMine" (3 : Nat) ({ cls := "java/lang/IllegalArgumentException", name := "<init>", desc := "()V" } : Jvm.MethodName)) ∈ lw_all := lw_g (lw_at lw_m3 118 rfl) rfl
theorem q711 : (Jvm.Cond.fieldLinkNest "FlintMine" (145 : Nat) "FlintMine$Refusal" "reason" "I" "FlintMine") ∈ lw_tbl := lw_at lw_m3 154 rfl
theorem q713 : (Jvm.Cond.fieldLinkNest "FlintMine" (146 : Nat) "FlintMine$Refusal" "detail" "I" "FlintMine") ∈ lw_tbl := lw_at lw_m3 156 rfl
theorem q735 : (Jvm.Cond.static ({ cls := "FlintMine", name := "allow", desc := "(ZII)V" } : Jvm.MethodName)) ∈ lw_all := lw_g (lw_at lw_m3 178 rfl) rfl
theorem q736 : (Jvm.Cond.code ({ cls := "FlintMine", name := "allow", desc := "(ZII)V" } : Jvm.MethodName) prog_1_method_7_code (3 : Nat) (Option.none : Option Jvm.ClassFile.FieldType)) ∈ lw_all := lw_g (lw_at lw_m3 179 rfl) rfl
theorem q737 : (Jvm.Cond.methodLink "FlintMine" (28 : Nat) ({ cls := "FlintMine$Refusal", name := "<init>", desc := "(II)V" } : Jvm.MethodName)) ∈ lw_all := lw_g (lw_at lw_m3 180 rfl) rfl
theorem q814 : (Jvm.Cond.fieldLinkNest "FlintMine" (219 : Nat) "FlintMine$Open" "isPropped" "Z" "FlintMine") ∈ lw_tbl := lw_at lw_m4 17 rfl
theorem q887 : (Jvm.Cond.fieldLinkNest "FlintMine" (253 : Nat) "FlintMine$Shaft" "cell" "I" "FlintMine") ∈ lw_tbl := lw_at lw_m4 90 rfl
theorem q890 : (Jvm.Cond.fieldLinkNest "FlintMine" (257 : Nat) "FlintMine$Shaft" "won" "I" "FlintMine") ∈ lw_tbl := lw_at lw_m4 93 rfl
theorem q892 : (Jvm.Cond.fieldLinkNest "FlintMine" (77 : Nat) "FlintMine$Shaft" "isClosed" "Z" "FlintMine") ∈ lw_tbl := lw_at lw_m4 95 rfl
theorem q975 : (Jvm.Cond.methodLink "FlintMine" (142 : Nat) ({ cls := "FlintMine", name := "replace", desc := "(LFlintMine$Mine;)V" } : Jvm.MethodName)) ∈ lw_all := lw_g (lw_at lw_m4 178 rfl) rfl
theorem q976 : (Jvm.Cond.privateMethod ({ cls := "FlintMine", name := "replace", desc := "(LFlintMine$Mine;)V" } : Jvm.MethodName)) ∈ lw_tbl := lw_at lw_m4 179 rfl
theorem q977 : (Jvm.Cond.instanceMethod ({ cls := "FlintMine", name := "replace", desc := "(LFlintMine$Mine;)V" } : Jvm.MethodName)) ∈ lw_all := lw_g (lw_at lw_m4 180 rfl) rfl
theorem q978 : (Jvm.Cond.code ({ cls := "FlintMine", name := "replace", desc := "(LFlintMine$Mine;)V" } : Jvm.MethodName) prog_1_method_15_code (3 : Nat) (Option.none : Option Jvm.ClassFile.FieldType)) ∈ lw_all := lw_g (lw_at lw_m4 181 rfl) rfl
theorem q979 : (Jvm.Cond.methodLink "FlintMine" (114 : Nat) ({ cls := "java/util/ArrayDeque", name := "size", desc := "()I" } : Jvm.MethodName)) ∈ lw_all := lw_g (lw_at lw_m4 182 rfl) rfl
theorem q986 : (Jvm.Cond.methodLink "FlintMine" (118 : Nat) ({ cls := "java/util/ArrayDeque", name := "removeLast", desc := "()Ljava/lang/Object;" } : Jvm.MethodName)) ∈ lw_all := lw_g (lw_at lw_m4 189 rfl) rfl
theorem q1002 : (Jvm.Cond.methodLink "FlintMine" (122 : Nat) ({ cls := "java/util/ArrayDeque", name := "push", desc := "(Ljava/lang/Object;)V" } : Jvm.MethodName)) ∈ lw_all := lw_g (lw_at lw_m4 205 rfl) rfl
theorem q1038 : (Jvm.Cond.methodLink "FlintMine" (147 : Nat) ({ cls := "FlintMine", name := "refuse", desc := "(II)Ljava/lang/UnsupportedOperationException;" } : Jvm.MethodName)) ∈ lw_all := lw_g (lw_at lw_m5 1 rfl) rfl
theorem q1039 : (Jvm.Cond.privateMethod ({ cls := "FlintMine", name := "refuse", desc := "(II)Ljava/lang/UnsupportedOperationException;" } : Jvm.MethodName)) ∈ lw_tbl := lw_at lw_m5 2 rfl
theorem q1040 : (Jvm.Cond.instanceMethod ({ cls := "FlintMine", name := "refuse", desc := "(II)Ljava/lang/UnsupportedOperationException;" } : Jvm.MethodName)) ∈ lw_all := lw_g (lw_at lw_m5 3 rfl) rfl
theorem q1041 : (Jvm.Cond.code ({ cls := "FlintMine", name := "refuse", desc := "(II)Ljava/lang/UnsupportedOperationException;" } : Jvm.MethodName) prog_1_method_16_code (3 : Nat) (Option.some (Jvm.ClassFile.FieldType.object "java/lang/UnsupportedOperationException"))) ∈ lw_all := lw_g (lw_at lw_m5 4 rfl) rfl
theorem q1042 : (Jvm.Cond.classLink "FlintMine" (132 : Nat) "java/lang/UnsupportedOperationException") ∈ lw_all := lw_g (lw_at lw_m5 5 rfl) rfl
theorem q1051 : (Jvm.Cond.methodLink "FlintMine" (134 : Nat) ({ cls := "java/lang/UnsupportedOperationException", name := "<init>", desc := "()V" } : Jvm.MethodName)) ∈ lw_all := lw_g (lw_at lw_m5 14 rfl) rfl
theorem q1061 : (Jvm.Cond.instanceMethod ({ cls := "FlintMine", name := "roof", desc := "(I)I" } : Jvm.MethodName)) ∈ lw_all := lw_g (lw_at lw_m5 24 rfl) rfl
theorem q1062 : (Jvm.Cond.selects "FlintMine" ({ cls := "FlintMine", name := "roof", desc := "(I)I" } : Jvm.MethodName) ({ cls := "FlintMine", name := "roof", desc := "(I)I" } : Jvm.MethodName)) ∈ lw_all := lw_g (lw_at lw_m5 25 rfl) rfl
theorem q1063 : (Jvm.Cond.code ({ cls := "FlintMine", name := "roof", desc := "(I)I" } : Jvm.MethodName) prog_1_method_19_code (2 : Nat) (Option.some Jvm.ClassFile.FieldType.int)) ∈ lw_all := lw_g (lw_at lw_m5 26 rfl) rfl
theorem q1064 : (Jvm.Cond.fieldLink "FlintMine" (163 : Nat) "FlintMine$Act" "ROOF" "LFlintMine$Act;") ∈ lw_all := lw_g (lw_at lw_m5 27 rfl) rfl
theorem q1070 : (Jvm.Cond.instanceMethod ({ cls := "FlintMine", name := "props", desc := "(I)I" } : Jvm.MethodName)) ∈ lw_all := lw_g (lw_at lw_m5 33 rfl) rfl
theorem q1071 : (Jvm.Cond.selects "FlintMine" ({ cls := "FlintMine", name := "props", desc := "(I)I" } : Jvm.MethodName) ({ cls := "FlintMine", name := "props", desc := "(I)I" } : Jvm.MethodName)) ∈ lw_all := lw_g (lw_at lw_m5 34 rfl) rfl
theorem q1072 : (Jvm.Cond.code ({ cls := "FlintMine", name := "props", desc := "(I)I" } : Jvm.MethodName) prog_1_method_20_code (2 : Nat) (Option.some Jvm.ClassFile.FieldType.int)) ∈ lw_all := lw_g (lw_at lw_m5 35 rfl) rfl
theorem q1073 : (Jvm.Cond.fieldLink "FlintMine" (166 : Nat) "FlintMine$Act" "PROPS" "LFlintMine$Act;") ∈ lw_all := lw_g (lw_at lw_m5 36 rfl) rfl
theorem q1079 : (Jvm.Cond.instanceMethod ({ cls := "FlintMine", name := "pick", desc := "(I)I" } : Jvm.MethodName)) ∈ lw_all := lw_g (lw_at lw_m5 42 rfl) rfl
theorem q1080 : (Jvm.Cond.selects "FlintMine" ({ cls := "FlintMine", name := "pick", desc := "(I)I" } : Jvm.MethodName) ({ cls := "FlintMine", name := "pick", desc := "(I)I" } : Jvm.MethodName)) ∈ lw_all := lw_g (lw_at lw_m5 43 rfl) rfl
theorem q1081 : (Jvm.Cond.code ({ cls := "FlintMine", name := "pick", desc := "(I)I" } : Jvm.MethodName) prog_1_method_21_code (2 : Nat) (Option.some Jvm.ClassFile.FieldType.int)) ∈ lw_all := lw_g (lw_at lw_m5 44 rfl) rfl
theorem q1082 : (Jvm.Cond.fieldLink "FlintMine" (169 : Nat) "FlintMine$Act" "PICK" "LFlintMine$Act;") ∈ lw_all := lw_g (lw_at lw_m5 45 rfl) rfl
theorem q1088 : (Jvm.Cond.instanceMethod ({ cls := "FlintMine", name := "edge", desc := "(I)I" } : Jvm.MethodName)) ∈ lw_all := lw_g (lw_at lw_m5 51 rfl) rfl
theorem q1089 : (Jvm.Cond.selects "FlintMine" ({ cls := "FlintMine", name := "edge", desc := "(I)I" } : Jvm.MethodName) ({ cls := "FlintMine", name := "edge", desc := "(I)I" } : Jvm.MethodName)) ∈ lw_all := lw_g (lw_at lw_m5 52 rfl) rfl
theorem q1090 : (Jvm.Cond.code ({ cls := "FlintMine", name := "edge", desc := "(I)I" } : Jvm.MethodName) prog_1_method_22_code (2 : Nat) (Option.some Jvm.ClassFile.FieldType.int)) ∈ lw_all := lw_g (lw_at lw_m5 53 rfl) rfl
theorem q1091 : (Jvm.Cond.interfaceEntry "FlintMine" (179 : Nat)) ∈ lw_tbl := lw_at lw_m5 54 rfl
theorem q1092 : (Jvm.Cond.methodLink "FlintMine" (179 : Nat) ({ cls := "java/util/List", name := "get", desc := "(I)Ljava/lang/Object;" } : Jvm.MethodName)) ∈ lw_all := lw_g (lw_at lw_m5 55 rfl) rfl
theorem q1093 : (Jvm.Cond.classLink "FlintMine" (183 : Nat) "java/lang/Integer") ∈ lw_all := lw_g (lw_at lw_m5 56 rfl) rfl
theorem q1094 : (Jvm.Cond.methodLink "FlintMine" (185 : Nat) ({ cls := "java/lang/Integer", name := "intValue", desc := "()I" } : Jvm.MethodName)) ∈ lw_all := lw_g (lw_at lw_m5 57 rfl) rfl
theorem q1099 : (Jvm.Cond.instanceMethod ({ cls := "FlintMine", name := "cell", desc := "(II)I" } : Jvm.MethodName)) ∈ lw_all := lw_g (lw_at lw_m5 62 rfl) rfl
theorem q1100 : (Jvm.Cond.selects "FlintMine" ({ cls := "FlintMine", name := "cell", desc := "(II)I" } : Jvm.MethodName) ({ cls := "FlintMine", name := "cell", desc := "(II)I" } : Jvm.MethodName)) ∈ lw_all := lw_g (lw_at lw_m5 63 rfl) rfl
theorem q1101 : (Jvm.Cond.code ({ cls := "FlintMine", name := "cell", desc := "(II)I" } : Jvm.MethodName) prog_1_method_24_code (6 : Nat) (Option.some Jvm.ClassFile.FieldType.int)) ∈ lw_all := lw_g (lw_at lw_m5 64 rfl) rfl
theorem q1102 : (Jvm.Cond.methodLink "FlintMine" (192 : Nat) ({ cls := "FlintMine", name := "require", desc := "([Z)V" } : Jvm.MethodName)) ∈ lw_all := lw_g (lw_at lw_m5 65 rfl) rfl
theorem q1103 : (Jvm.Cond.methodLink "FlintMine" (207 : Nat) ({ cls := "FlintMine$Mine", name := "nodules", desc := "(I)I" } : Jvm.MethodName)) ∈ lw_all := lw_g (lw_at lw_m5 66 rfl) rfl
theorem q1107 : (Jvm.Cond.methodLink "FlintMine" (211 : Nat) ({ cls := "FlintMine$Mine", name := "strokes", desc := "(I)I" } : Jvm.MethodName)) ∈ lw_all := lw_g (lw_at lw_m5 70 rfl) rfl
theorem q1111 : (Jvm.Cond.interfaceEntry "FlintMine" (214 : Nat)) ∈ lw_tbl := lw_at lw_m5 74 rfl
theorem q1112 : (Jvm.Cond.methodLink "FlintMine" (214 : Nat) ({ cls := "FlintMine$Ground", name := "shaft", desc := "()I" } : Jvm.MethodName)) ∈ lw_all := lw_g (lw_at lw_m5 75 rfl) rfl
theorem q1134 : (Jvm.Cond.instanceMethod ({ cls := "FlintMine", name := "span", desc := "(IZ)I" } : Jvm.MethodName)) ∈ lw_all := lw_g (lw_at lw_m5 97 rfl) rfl
theorem q1135 : (Jvm.Cond.selects "FlintMine" ({ cls := "FlintMine", name := "span", desc := "(IZ)I" } : Jvm.MethodName) ({ cls := "FlintMine", name := "span", desc := "(IZ)I" } : Jvm.MethodName)) ∈ lw_all := lw_g (lw_at lw_m5 98 rfl) rfl
theorem q1136 : (Jvm.Cond.code ({ cls := "FlintMine", name := "span", desc := "(IZ)I" } : Jvm.MethodName) prog_1_method_25_code (3 : Nat) (Option.some Jvm.ClassFile.FieldType.int)) ∈ lw_all := lw_g (lw_at lw_m5 99 rfl) rfl
theorem q1137 : (Jvm.Cond.methodLink "FlintMine" (222 : Nat) ({ cls := "FlintMine$Mine", name := "span", desc := "(IZ)I" } : Jvm.MethodName)) ∈ lw_all := lw_g (lw_at lw_m5 100 rfl) rfl
theorem q1143 : (Jvm.Cond.instanceMethod ({ cls := "FlintMine", name := "knock", desc := "(I)I" } : Jvm.MethodName)) ∈ lw_all := lw_g (lw_at lw_m5 106 rfl) rfl
theorem q1144 : (Jvm.Cond.selects "FlintMine" ({ cls := "FlintMine", name := "knock", desc := "(I)I" } : Jvm.MethodName) ({ cls := "FlintMine", name := "knock", desc := "(I)I" } : Jvm.MethodName)) ∈ lw_all := lw_g (lw_at lw_m5 107 rfl) rfl
theorem q1145 : (Jvm.Cond.code ({ cls := "FlintMine", name := "knock", desc := "(I)I" } : Jvm.MethodName) prog_1_method_27_code (5 : Nat) (Option.some Jvm.ClassFile.FieldType.int)) ∈ lw_all := lw_g (lw_at lw_m5 108 rfl) rfl
theorem q1146 : (Jvm.Cond.methodLink "FlintMine" (229 : Nat) ({ cls := "FlintMine$Mine", name := "met", desc := "(II)I" } : Jvm.MethodName)) ∈ lw_all := lw_g (lw_at lw_m5 109 rfl) rfl
theorem q1147 : (Jvm.Cond.methodLink "FlintMine" (232 : Nat) ({ cls := "FlintMine", name := "requireState", desc := "(Z)V" } : Jvm.MethodName)) ∈ lw_all := lw_g (lw_at lw_m5 110 rfl) rfl
theorem q1148 : (Jvm.Cond.static ({ cls := "FlintMine", name := "requireState", desc := "(Z)V" } : Jvm.MethodName)) ∈ lw_all := lw_g (lw_at lw_m5 111 rfl) rfl
theorem q1149 : (Jvm.Cond.code ({ cls := "FlintMine", name := "requireState", desc := "(Z)V" } : Jvm.MethodName) prog_1_method_4_code (1 : Nat) (Option.none : Option Jvm.ClassFile.FieldType)) ∈ lw_all := lw_g (lw_at lw_m5 112 rfl) rfl
theorem q1150 : (Jvm.Cond.classLink "FlintMine" (10 : Nat) "java/lang/IllegalStateException") ∈ lw_all := lw_g (lw_at lw_m5 113 rfl) rfl
theorem q1151 : (Jvm.Cond.methodLink "FlintMine" (12 : Nat) ({ cls := "java/lang/IllegalStateException", name := "<init>", desc := "()V" } : Jvm.MethodName)) ∈ lw_all := lw_g (lw_at lw_m5 114 rfl) rfl
theorem q1155 : (Jvm.Cond.methodLink "FlintMine" (51 : Nat) ({ cls := "FlintMine", name := "beside", desc := "(II)I" } : Jvm.MethodName)) ∈ lw_all := lw_g (lw_at lw_m5 118 rfl) rfl
theorem q1160 : (Jvm.Cond.instanceMethod ({ cls := "FlintMine", name := "sink", desc := "(I)I" } : Jvm.MethodName)) ∈ lw_all := lw_g (lw_at lw_m5 123 rfl) rfl
theorem q1161 : (Jvm.Cond.selects "FlintMine" ({ cls := "FlintMine", name := "sink", desc := "(I)I" } : Jvm.MethodName) ({ cls := "FlintMine", name := "sink", desc := "(I)I" } : Jvm.MethodName)) ∈ lw_all := lw_g (lw_at lw_m5 124 rfl) rfl
theorem q1162 : (Jvm.Cond.code ({ cls := "FlintMine", name := "sink", desc := "(I)I" } : Jvm.MethodName) prog_1_method_28_code (2 : Nat) (Option.some Jvm.ClassFile.FieldType.int)) ∈ lw_all := lw_g (lw_at lw_m5 125 rfl) rfl
theorem q1163 : (Jvm.Cond.fieldLink "FlintMine" (235 : Nat) "FlintMine$Act" "SINK" "LFlintMine$Act;") ∈ lw_all := lw_g (lw_at lw_m5 126 rfl) rfl
theorem q1169 : (Jvm.Cond.instanceMethod ({ cls := "FlintMine", name := "dig", desc := "(IIZ)I" } : Jvm.MethodName)) ∈ lw_all := lw_g (lw_at lw_m5 132 rfl) rfl
theorem q1170 : (Jvm.Cond.selects "FlintMine" ({ cls := "FlintMine", name := "dig", desc := "(IIZ)I" } : Jvm.MethodName) ({ cls := "FlintMine", name := "dig", desc := "(IIZ)I" } : Jvm.MethodName)) ∈ lw_all := lw_g (lw_at lw_m5 133 rfl) rfl
theorem q1171 : (Jvm.Cond.code ({ cls := "FlintMine", name := "dig", desc := "(IIZ)I" } : Jvm.MethodName) prog_1_method_29_code (4 : Nat) (Option.some Jvm.ClassFile.FieldType.int)) ∈ lw_all := lw_g (lw_at lw_m5 134 rfl) rfl
theorem q1172 : (Jvm.Cond.fieldLink "FlintMine" (238 : Nat) "FlintMine$Act" "DIG" "LFlintMine$Act;") ∈ lw_all := lw_g (lw_at lw_m5 135 rfl) rfl
theorem q1178 : (Jvm.Cond.instanceMethod ({ cls := "FlintMine", name := "prop", desc := "(I)I" } : Jvm.MethodName)) ∈ lw_all := lw_g (lw_at lw_m5 141 rfl) rfl
theorem q1179 : (Jvm.Cond.selects "FlintMine" ({ cls := "FlintMine", name := "prop", desc := "(I)I" } : Jvm.MethodName) ({ cls := "FlintMine", name := "prop", desc := "(I)I" } : Jvm.MethodName)) ∈ lw_all := lw_g (lw_at lw_m5 142 rfl) rfl
theorem q1180 : (Jvm.Cond.code ({ cls := "FlintMine", name := "prop", desc := "(I)I" } : Jvm.MethodName) prog_1_method_30_code (2 : Nat) (Option.some Jvm.ClassFile.FieldType.int)) ∈ lw_all := lw_g (lw_at lw_m5 143 rfl) rfl
theorem q1181 : (Jvm.Cond.fieldLink "FlintMine" (241 : Nat) "FlintMine$Act" "PROP" "LFlintMine$Act;") ∈ lw_all := lw_g (lw_at lw_m5 144 rfl) rfl
theorem q1187 : (Jvm.Cond.instanceMethod ({ cls := "FlintMine", name := "unprop", desc := "(I)I" } : Jvm.MethodName)) ∈ lw_all := lw_g (lw_at lw_m5 150 rfl) rfl
theorem q1188 : (Jvm.Cond.selects "FlintMine" ({ cls := "FlintMine", name := "unprop", desc := "(I)I" } : Jvm.MethodName) ({ cls := "FlintMine", name := "unprop", desc := "(I)I" } : Jvm.MethodName)) ∈ lw_all := lw_g (lw_at lw_m5 151 rfl) rfl
theorem q1189 : (Jvm.Cond.code ({ cls := "FlintMine", name := "unprop", desc := "(I)I" } : Jvm.MethodName) prog_1_method_31_code (2 : Nat) (Option.some Jvm.ClassFile.FieldType.int)) ∈ lw_all := lw_g (lw_at lw_m5 152 rfl) rfl
theorem q1190 : (Jvm.Cond.fieldLink "FlintMine" (244 : Nat) "FlintMine$Act" "UNPROP" "LFlintMine$Act;") ∈ lw_all := lw_g (lw_at lw_m5 153 rfl) rfl
theorem q1196 : (Jvm.Cond.instanceMethod ({ cls := "FlintMine", name := "close", desc := "(I)I" } : Jvm.MethodName)) ∈ lw_all := lw_g (lw_at lw_m5 159 rfl) rfl
theorem q1197 : (Jvm.Cond.selects "FlintMine" ({ cls := "FlintMine", name := "close", desc := "(I)I" } : Jvm.MethodName) ({ cls := "FlintMine", name := "close", desc := "(I)I" } : Jvm.MethodName)) ∈ lw_all := lw_g (lw_at lw_m5 160 rfl) rfl
theorem q1198 : (Jvm.Cond.code ({ cls := "FlintMine", name := "close", desc := "(I)I" } : Jvm.MethodName) prog_1_method_32_code (2 : Nat) (Option.some Jvm.ClassFile.FieldType.int)) ∈ lw_all := lw_g (lw_at lw_m5 161 rfl) rfl
theorem q1199 : (Jvm.Cond.fieldLink "FlintMine" (247 : Nat) "FlintMine$Act" "CLOSE" "LFlintMine$Act;") ∈ lw_all := lw_g (lw_at lw_m5 162 rfl) rfl
theorem q1205 : (Jvm.Cond.instanceMethod ({ cls := "FlintMine", name := "shaft", desc := "(II)I" } : Jvm.MethodName)) ∈ lw_all := lw_g (lw_at lw_m5 168 rfl) rfl
theorem q1206 : (Jvm.Cond.selects "FlintMine" ({ cls := "FlintMine", name := "shaft", desc := "(II)I" } : Jvm.MethodName) ({ cls := "FlintMine", name := "shaft", desc := "(II)I" } : Jvm.MethodName)) ∈ lw_all := lw_g (lw_at lw_m5 169 rfl) rfl
theorem q1207 : (Jvm.Cond.code ({ cls := "FlintMine", name := "shaft", desc := "(II)I" } : Jvm.MethodName) prog_1_method_34_code (4 : Nat) (Option.some Jvm.ClassFile.FieldType.int)) ∈ lw_all := lw_g (lw_at lw_m5 170 rfl) rfl
theorem q1208 : (Jvm.Cond.methodLink "FlintMine" (250 : Nat) ({ cls := "FlintMine$Mine", name := "shaft", desc := "(I)LFlintMine$Shaft;" } : Jvm.MethodName)) ∈ lw_all := lw_g (lw_at lw_m5 171 rfl) rfl
theorem q1209 : (Jvm.Cond.methodLink "FlintMine" (254 : Nat) ({ cls := "FlintMine$Mine", name := "openCells", desc := "(I)I" } : Jvm.MethodName)) ∈ lw_all := lw_g (lw_at lw_m5 172 rfl) rfl
theorem q1210 : (Jvm.Cond.methodLink "FlintMine" (260 : Nat) ({ cls := "FlintMine$Mine", name := "propsOf", desc := "(I)I" } : Jvm.MethodName)) ∈ lw_all := lw_g (lw_at lw_m5 173 rfl) rfl
theorem q1211 : (Jvm.Cond.methodLink "FlintMine" (263 : Nat) ({ cls := "FlintMine", name := "reached", desc := "(I)I" } : Jvm.MethodName)) ∈ lw_all := lw_g (lw_at lw_m5 174 rfl) rfl
theorem q1212 : (Jvm.Cond.privateMethod ({ cls := "FlintMine", name := "reached", desc := "(I)I" } : Jvm.MethodName)) ∈ lw_tbl := lw_at lw_m5 175 rfl
theorem q1213 : (Jvm.Cond.instanceMethod ({ cls := "FlintMine", name := "reached", desc := "(I)I" } : Jvm.MethodName)) ∈ lw_all := lw_g (lw_at lw_m5 176 rfl) rfl
theorem q1214 : (Jvm.Cond.code ({ cls := "FlintMine", name := "reached", desc := "(I)I" } : Jvm.MethodName) prog_1_method_33_code (4 : Nat) (Option.some Jvm.ClassFile.FieldType.int)) ∈ lw_all := lw_g (lw_at lw_m5 177 rfl) rfl
theorem q1215 : (Jvm.Cond.methodLink "FlintMine" (86 : Nat) ({ cls := "FlintMine", name := "trail", desc := "(II)LFlintMine$Trail;" } : Jvm.MethodName)) ∈ lw_all := lw_g (lw_at lw_m5 178 rfl) rfl
theorem q1216 : (Jvm.Cond.privateMethod ({ cls := "FlintMine", name := "trail", desc := "(II)LFlintMine$Trail;" } : Jvm.MethodName)) ∈ lw_tbl := lw_at lw_m5 179 rfl
theorem q1217 : (Jvm.Cond.instanceMethod ({ cls := "FlintMine", name := "trail", desc := "(II)LFlintMine$Trail;" } : Jvm.MethodName)) ∈ lw_all := lw_g (lw_at lw_m5 180 rfl) rfl
theorem q1218 : (Jvm.Cond.code ({ cls := "FlintMine", name := "trail", desc := "(II)LFlintMine$Trail;" } : Jvm.MethodName) prog_1_method_10_code (6 : Nat) (Option.some (Jvm.ClassFile.FieldType.object "FlintMine$Trail"))) ∈ lw_all := lw_g (lw_at lw_m5 181 rfl) rfl
theorem q1219 : (Jvm.Cond.methodLink "FlintMine" (55 : Nat) ({ cls := "FlintMine", name := "measure", desc := "(II)V" } : Jvm.MethodName)) ∈ lw_all := lw_g (lw_at lw_m5 182 rfl) rfl
theorem q1220 : (Jvm.Cond.privateMethod ({ cls := "FlintMine", name := "measure", desc := "(II)V" } : Jvm.MethodName)) ∈ lw_tbl := lw_at lw_m5 183 rfl
theorem q1221 : (Jvm.Cond.instanceMethod ({ cls := "FlintMine", name := "measure", desc := "(II)V" } : Jvm.MethodName)) ∈ lw_all := lw_g (lw_at lw_m5 184 rfl) rfl
theorem q1222 : (Jvm.Cond.code ({ cls := "FlintMine", name := "measure", desc := "(II)V" } : Jvm.MethodName) prog_1_method_9_code (7 : Nat) (Option.none : Option Jvm.ClassFile.FieldType)) ∈ lw_all := lw_g (lw_at lw_m5 185 rfl) rfl
theorem q1223 : (Jvm.Cond.methodLink "FlintMine" (42 : Nat) ({ cls := "FlintMine$Mine", name := "isPassable", desc := "(II)Z" } : Jvm.MethodName)) ∈ lw_all := lw_g (lw_at lw_m5 186 rfl) rfl
theorem q1227 : (Jvm.Cond.methodLink "FlintMine" (58 : Nat) ({ cls := "FlintMine$Mine", name := "isNextTo", desc := "(II)Z" } : Jvm.MethodName)) ∈ lw_all := lw_g (lw_at lw_m5 190 rfl) rfl
theorem q1228 : (Jvm.Cond.classLink "FlintMine" (61 : Nat) "FlintMine$Trail") ∈ lw_all := lw_g (lw_at lw_m5 191 rfl) rfl
theorem q1230 : (Jvm.Cond.methodLink "FlintMine" (63 : Nat) ({ cls := "FlintMine$Trail", name := "<init>", desc := "(I)V" } : Jvm.MethodName)) ∈ lw_all := lw_g (lw_at lw_m5 193 rfl) rfl
theorem q1238 : (Jvm.Cond.fieldLinkNest "FlintMine" (70 : Nat) "FlintMine$Trail" "cell" "I" "FlintMine") ∈ lw_tbl := lw_at lw_m5 201 rfl
theorem q1241 : (Jvm.Cond.fieldLinkNest "FlintMine" (276 : Nat) "FlintMine$Trail" "length" "I" "FlintMine") ∈ lw_tbl := lw_at lw_m5 204 rfl
theorem q1249 : (Jvm.Cond.methodLink "FlintMine" (66 : Nat) ({ cls := "FlintMine", name := "goOn", desc := "(LFlintMine$Trail;)LFlintMine$Trail;" } : Jvm.MethodName)) ∈ lw_all := lw_g (lw_at lw_m5 212 rfl) rfl
theorem q1250 : (Jvm.Cond.privateMethod ({ cls := "FlintMine", name := "goOn", desc := "(LFlintMine$Trail;)LFlintMine$Trail;" } : Jvm.MethodName)) ∈ lw_tbl := lw_at lw_m5 213 rfl
theorem q1251 : (Jvm.Cond.instanceMethod ({ cls := "FlintMine", name := "goOn", desc := "(LFlintMine$Trail;)LFlintMine$Trail;" } : Jvm.MethodName)) ∈ lw_all := lw_g (lw_at lw_m5 214 rfl) rfl
theorem q1252 : (Jvm.Cond.code ({ cls := "FlintMine", name := "goOn", desc := "(LFlintMine$Trail;)LFlintMine$Trail;" } : Jvm.MethodName) prog_1_method_11_code (5 : Nat) (Option.some (Jvm.ClassFile.FieldType.object "FlintMine$Trail"))) ∈ lw_all := lw_g (lw_at lw_m5 215 rfl) rfl
theorem q1253 : (Jvm.Cond.methodLink "FlintMine" (74 : Nat) ({ cls := "FlintMine$Trail", name := "<init>", desc := "(ILFlintMine$Trail;)V" } : Jvm.MethodName)) ∈ lw_all := lw_g (lw_at lw_m5 216 rfl) rfl
theorem q1261 : (Jvm.Cond.instanceMethod ({ cls := "FlintMine", name := "best", desc := "(I)I" } : Jvm.MethodName)) ∈ lw_all := lw_g (lw_at lw_m5 224 rfl) rfl
theorem q1262 : (Jvm.Cond.selects "FlintMine" ({ cls := "FlintMine", name := "best", desc := "(I)I" } : Jvm.MethodName) ({ cls := "FlintMine", name := "best", desc := "(I)I" } : Jvm.MethodName)) ∈ lw_all := lw_g (lw_at lw_m5 225 rfl) rfl
theorem q1263 : (Jvm.Cond.code ({ cls := "FlintMine", name := "best", desc := "(I)I" } : Jvm.MethodName) prog_1_method_36_code (5 : Nat) (Option.some Jvm.ClassFile.FieldType.int)) ∈ lw_all := lw_g (lw_at lw_m5 226 rfl) rfl
theorem q1264 : (Jvm.Cond.methodLink "FlintMine" (266 : Nat) ({ cls := "FlintMine$Mine", name := "canDig", desc := "(II)Z" } : Jvm.MethodName)) ∈ lw_all := lw_g (lw_at lw_m5 227 rfl) rfl
theorem q1269 : (Jvm.Cond.methodLink "FlintMine" (269 : Nat) ({ cls := "FlintMine", name := "isBetter", desc := "(II)Z" } : Jvm.MethodName)) ∈ lw_all := lw_g (lw_at lw_m5 232 rfl) rfl
theorem q1270 : (Jvm.Cond.privateMethod ({ cls := "FlintMine", name := "isBetter", desc := "(II)Z" } : Jvm.MethodName)) ∈ lw_tbl := lw_at lw_m5 233 rfl
theorem q1271 : (Jvm.Cond.instanceMethod ({ cls := "FlintMine", name := "isBetter", desc := "(II)Z" } : Jvm.MethodName)) ∈ lw_all := lw_g (lw_at lw_m5 234 rfl) rfl
theorem q1272 : (Jvm.Cond.code ({ cls := "FlintMine", name := "isBetter", desc := "(II)Z" } : Jvm.MethodName) prog_1_method_35_code (4 : Nat) (Option.some Jvm.ClassFile.FieldType.boolean)) ∈ lw_all := lw_g (lw_at lw_m5 235 rfl) rfl
theorem q1273 : (Jvm.Cond.methodLink "FlintMine" (83 : Nat) ({ cls := "FlintMine", name := "requireElement", desc := "(Z)V" } : Jvm.MethodName)) ∈ lw_all := lw_g (lw_at lw_m5 236 rfl) rfl
theorem q1274 : (Jvm.Cond.static ({ cls := "FlintMine", name := "requireElement", desc := "(Z)V" } : Jvm.MethodName)) ∈ lw_all := lw_g (lw_at lw_m5 237 rfl) rfl
theorem q1275 : (Jvm.Cond.code ({ cls := "FlintMine", name := "requireElement", desc := "(Z)V" } : Jvm.MethodName) prog_1_method_5_code (1 : Nat) (Option.none : Option Jvm.ClassFile.FieldType)) ∈ lw_all := lw_g (lw_at lw_m5 238 rfl) rfl
theorem q1276 : (Jvm.Cond.classLink "FlintMine" (13 : Nat) "java/util/NoSuchElementException") ∈ lw_all := lw_g (lw_at lw_m5 239 rfl) rfl
theorem q1277 : (Jvm.Cond.methodLink "FlintMine" (15 : Nat) ({ cls := "java/util/NoSuchElementException", name := "<init>", desc := "()V" } : Jvm.MethodName)) ∈ lw_all := lw_g (lw_at lw_m6 0 rfl) rfl
theorem q1282 : (Jvm.Cond.instanceMethod ({ cls := "FlintMine", name := "way", desc := "(II)I" } : Jvm.MethodName)) ∈ lw_all := lw_g (lw_at lw_m6 5 rfl) rfl
theorem q1283 : (Jvm.Cond.selects "FlintMine" ({ cls := "FlintMine", name := "way", desc := "(II)I" } : Jvm.MethodName) ({ cls := "FlintMine", name := "way", desc := "(II)I" } : Jvm.MethodName)) ∈ lw_all := lw_g (lw_at lw_m6 6 rfl) rfl
theorem q1284 : (Jvm.Cond.code ({ cls := "FlintMine", name := "way", desc := "(II)I" } : Jvm.MethodName) prog_1_method_37_code (4 : Nat) (Option.some Jvm.ClassFile.FieldType.int)) ∈ lw_all := lw_g (lw_at lw_m6 7 rfl) rfl
theorem q1285 : (Jvm.Cond.methodLink "FlintMine" (272 : Nat) ({ cls := "FlintMine", name := "way", desc := "(LFlintMine$Shaft;II)LFlintMine$Trail;" } : Jvm.MethodName)) ∈ lw_all := lw_g (lw_at lw_m6 8 rfl) rfl
theorem q1286 : (Jvm.Cond.privateMethod ({ cls := "FlintMine", name := "way", desc := "(LFlintMine$Shaft;II)LFlintMine$Trail;" } : Jvm.MethodName)) ∈ lw_tbl := lw_at lw_m6 9 rfl
theorem q1287 : (Jvm.Cond.instanceMethod ({ cls := "FlintMine", name := "way", desc := "(LFlintMine$Shaft;II)LFlintMine$Trail;" } : Jvm.MethodName)) ∈ lw_all := lw_g (lw_at lw_m6 10 rfl) rfl
theorem q1288 : (Jvm.Cond.code ({ cls := "FlintMine", name := "way", desc := "(LFlintMine$Shaft;II)LFlintMine$Trail;" } : Jvm.MethodName) prog_1_method_12_code (5 : Nat) (Option.some (Jvm.ClassFile.FieldType.object "FlintMine$Trail"))) ∈ lw_all := lw_g (lw_at lw_m6 11 rfl) rfl
theorem q1293 : (Jvm.Cond.instanceMethod ({ cls := "FlintMine", name := "wayAgain", desc := "(II)I" } : Jvm.MethodName)) ∈ lw_all := lw_g (lw_at lw_m6 16 rfl) rfl
theorem q1294 : (Jvm.Cond.selects "FlintMine" ({ cls := "FlintMine", name := "wayAgain", desc := "(II)I" } : Jvm.MethodName) ({ cls := "FlintMine", name := "wayAgain", desc := "(II)I" } : Jvm.MethodName)) ∈ lw_all := lw_g (lw_at lw_m6 17 rfl) rfl
theorem q1295 : (Jvm.Cond.code ({ cls := "FlintMine", name := "wayAgain", desc := "(II)I" } : Jvm.MethodName) prog_1_method_39_code (10 : Nat) (Option.some Jvm.ClassFile.FieldType.int)) ∈ lw_all := lw_g (lw_at lw_m6 18 rfl) rfl
theorem q1296 : (Jvm.Cond.methodLink "FlintMine" (279 : Nat) ({ cls := "FlintMine", name := "spread", desc := "(IJ)J" } : Jvm.MethodName)) ∈ lw_all := lw_g (lw_at lw_m6 19 rfl) rfl
theorem q1297 : (Jvm.Cond.privateMethod ({ cls := "FlintMine", name := "spread", desc := "(IJ)J" } : Jvm.MethodName)) ∈ lw_tbl := lw_at lw_m6 20 rfl
theorem q1298 : (Jvm.Cond.instanceMethod ({ cls := "FlintMine", name := "spread", desc := "(IJ)J" } : Jvm.MethodName)) ∈ lw_all := lw_g (lw_at lw_m6 21 rfl) rfl
theorem q1299 : (Jvm.Cond.code ({ cls := "FlintMine", name := "spread", desc := "(IJ)J" } : Jvm.MethodName) prog_1_method_38_code (10 : Nat) (Option.some Jvm.ClassFile.FieldType.long)) ∈ lw_all := lw_g (lw_at lw_m6 22 rfl) rfl
theorem q1304 : (Jvm.Cond.instanceMethod ({ cls := "FlintMine", name := "step", desc := "(III)I" } : Jvm.MethodName)) ∈ lw_all := lw_g (lw_at lw_m6 27 rfl) rfl
theorem q1305 : (Jvm.Cond.selects "FlintMine" ({ cls := "FlintMine", name := "step", desc := "(III)I" } : Jvm.MethodName) ({ cls := "FlintMine", name := "step", desc := "(III)I" } : Jvm.MethodName)) ∈ lw_all := lw_g (lw_at lw_m6 28 rfl) rfl
theorem q1306 : (Jvm.Cond.code ({ cls := "FlintMine", name := "step", desc := "(III)I" } : Jvm.MethodName) prog_1_method_40_code (6 : Nat) (Option.some Jvm.ClassFile.FieldType.int)) ∈ lw_all := lw_g (lw_at lw_m6 29 rfl) rfl
theorem q1307 : (Jvm.Cond.methodLink "FlintMine" (283 : Nat) ({ cls := "FlintMine$Trail", name := "cell", desc := "(I)I" } : Jvm.MethodName)) ∈ lw_all := lw_g (lw_at lw_m6 30 rfl) rfl
theorem q1316 : (Jvm.Cond.instanceMethod ({ cls := "FlintMine", name := "strokes", desc := "(II)I" } : Jvm.MethodName)) ∈ lw_all := lw_g (lw_at lw_m6 39 rfl) rfl
theorem q1317 : (Jvm.Cond.selects "FlintMine" ({ cls := "FlintMine", name := "strokes", desc := "(II)I" } : Jvm.MethodName) ({ cls := "FlintMine", name := "strokes", desc := "(II)I" } : Jvm.MethodName)) ∈ lw_all := lw_g (lw_at lw_m6 40 rfl) rfl
theorem q1318 : (Jvm.Cond.code ({ cls := "FlintMine", name := "strokes", desc := "(II)I" } : Jvm.MethodName) prog_1_method_41_code (4 : Nat) (Option.some Jvm.ClassFile.FieldType.int)) ∈ lw_all := lw_g (lw_at lw_m6 41 rfl) rfl
theorem q1319 : (Jvm.Cond.methodLink "FlintMine" (285 : Nat) ({ cls := "FlintMine$Trail", name := "strokes", desc := "(LFlintMine$Mine;)I" } : Jvm.MethodName)) ∈ lw_all := lw_g (lw_at lw_m6 42 rfl) rfl
theorem q1329 : (Jvm.Cond.instanceMethod ({ cls := "FlintMine", name := "number", desc := "(I)I" } : Jvm.MethodName)) ∈ lw_all := lw_g (lw_at lw_m6 52 rfl) rfl
theorem q1330 : (Jvm.Cond.selects "FlintMine" ({ cls := "FlintMine", name := "number", desc := "(I)I" } : Jvm.MethodName) ({ cls := "FlintMine", name := "number", desc := "(I)I" } : Jvm.MethodName)) ∈ lw_all := lw_g (lw_at lw_m6 53 rfl) rfl
theorem q1331 : (Jvm.Cond.code ({ cls := "FlintMine", name := "number", desc := "(I)I" } : Jvm.MethodName) prog_1_method_45_code (2 : Nat) (Option.some Jvm.ClassFile.FieldType.int)) ∈ lw_all := lw_g (lw_at lw_m6 54 rfl) rfl
theorem q1332 : (Jvm.Cond.methodLink "FlintMine" (291 : Nat) ({ cls := "FlintMine$Mine", name := "shaftsClosed", desc := "()I" } : Jvm.MethodName)) ∈ lw_all := lw_g (lw_at lw_m6 55 rfl) rfl
theorem q1336 : (Jvm.Cond.methodLink "FlintMine" (300 : Nat) ({ cls := "FlintMine", name := "propsSet", desc := "()I" } : Jvm.MethodName)) ∈ lw_all := lw_g (lw_at lw_m6 59 rfl) rfl
theorem q1337 : (Jvm.Cond.privateMethod ({ cls := "FlintMine", name := "propsSet", desc := "()I" } : Jvm.MethodName)) ∈ lw_tbl := lw_at lw_m6 60 rfl
theorem q1338 : (Jvm.Cond.instanceMethod ({ cls := "FlintMine", name := "propsSet", desc := "()I" } : Jvm.MethodName)) ∈ lw_all := lw_g (lw_at lw_m6 61 rfl) rfl
theorem q1339 : (Jvm.Cond.code ({ cls := "FlintMine", name := "propsSet", desc := "()I" } : Jvm.MethodName) prog_1_method_43_code (3 : Nat) (Option.some Jvm.ClassFile.FieldType.int)) ∈ lw_all := lw_g (lw_at lw_m6 62 rfl) rfl
theorem q1340 : (Jvm.Cond.methodLink "FlintMine" (306 : Nat) ({ cls := "FlintMine$Mine", name := "won", desc := "()I" } : Jvm.MethodName)) ∈ lw_all := lw_g (lw_at lw_m6 63 rfl) rfl
theorem q1344 : (Jvm.Cond.methodLink "FlintMine" (310 : Nat) ({ cls := "FlintMine$Mine", name := "edges", desc := "()I" } : Jvm.MethodName)) ∈ lw_all := lw_g (lw_at lw_m6 67 rfl) rfl
theorem q1348 : (Jvm.Cond.methodLink "FlintMine" (316 : Nat) ({ cls := "FlintMine", name := "nodulesLeft", desc := "()I" } : Jvm.MethodName)) ∈ lw_all := lw_g (lw_at lw_m6 71 rfl) rfl
theorem q1349 : (Jvm.Cond.privateMethod ({ cls := "FlintMine", name := "nodulesLeft", desc := "()I" } : Jvm.MethodName)) ∈ lw_tbl := lw_at lw_m6 72 rfl
theorem q1350 : (Jvm.Cond.instanceMethod ({ cls := "FlintMine", name := "nodulesLeft", desc := "()I" } : Jvm.MethodName)) ∈ lw_all := lw_g (lw_at lw_m6 73 rfl) rfl
theorem q1351 : (Jvm.Cond.code ({ cls := "FlintMine", name := "nodulesLeft", desc := "()I" } : Jvm.MethodName) prog_1_method_44_code (3 : Nat) (Option.some Jvm.ClassFile.FieldType.int)) ∈ lw_all := lw_g (lw_at lw_m6 74 rfl) rfl
theorem q1352 : (Jvm.Cond.methodLink "FlintMine" (319 : Nat) ({ cls := "java/lang/StringBuilder", name := "length", desc := "()I" } : Jvm.MethodName)) ∈ lw_all := lw_g (lw_at lw_m6 75 rfl) rfl
theorem q1377 : (Jvm.Cond.instanceMethod ({ cls := "FlintMine", name := "perStroke", desc := "()D" } : Jvm.MethodName)) ∈ lw_all := lw_g (lw_at lw_m6 100 rfl) rfl
theorem q1378 : (Jvm.Cond.selects "FlintMine" ({ cls := "FlintMine", name := "perStroke", desc := "()D" } : Jvm.MethodName) ({ cls := "FlintMine", name := "perStroke", desc := "()D" } : Jvm.MethodName)) ∈ lw_all := lw_g (lw_at lw_m6 101 rfl) rfl
theorem q1379 : (Jvm.Cond.code ({ cls := "FlintMine", name := "perStroke", desc := "()D" } : Jvm.MethodName) prog_1_method_46_code (1 : Nat) (Option.some Jvm.ClassFile.FieldType.double)) ∈ lw_all := lw_g (lw_at lw_m6 102 rfl) rfl
theorem q1380 : (Jvm.Cond.classLink "FlintMine" (321 : Nat) "java/lang/ArithmeticException") ∈ lw_all := lw_g (lw_at lw_m6 103 rfl) rfl
theorem q1381 : (Jvm.Cond.methodLink "FlintMine" (323 : Nat) ({ cls := "java/lang/ArithmeticException", name := "<init>", desc := "()V" } : Jvm.MethodName)) ∈ lw_all := lw_g (lw_at lw_m6 104 rfl) rfl
theorem q1389 : (Jvm.Cond.instanceMethod ({ cls := "FlintMine", name := "feed", desc := "(C)I" } : Jvm.MethodName)) ∈ lw_all := lw_g (lw_at lw_m6 112 rfl) rfl
theorem q1390 : (Jvm.Cond.selects "FlintMine" ({ cls := "FlintMine", name := "feed", desc := "(C)I" } : Jvm.MethodName) ({ cls := "FlintMine", name := "feed", desc := "(C)I" } : Jvm.MethodName)) ∈ lw_all := lw_g (lw_at lw_m6 113 rfl) rfl
theorem q1391 : (Jvm.Cond.code ({ cls := "FlintMine", name := "feed", desc := "(C)I" } : Jvm.MethodName) prog_1_method_48_code (2 : Nat) (Option.some Jvm.ClassFile.FieldType.int)) ∈ lw_all := lw_g (lw_at lw_m6 114 rfl) rfl
theorem q1392 : (Jvm.Cond.methodLink "FlintMine" (325 : Nat) ({ cls := "java/lang/StringBuilder", name := "append", desc := "(C)Ljava/lang/StringBuilder;" } : Jvm.MethodName)) ∈ lw_all := lw_g (lw_at lw_m6 115 rfl) rfl
theorem q1474 : (Jvm.Cond.instanceMethod ({ cls := "FlintMine", name := "read", desc := "()I" } : Jvm.MethodName)) ∈ lw_all := lw_g (lw_at lw_m6 197 rfl) rfl
theorem q1475 : (Jvm.Cond.selects "FlintMine" ({ cls := "FlintMine", name := "read", desc := "()I" } : Jvm.MethodName) ({ cls := "FlintMine", name := "read", desc := "()I" } : Jvm.MethodName)) ∈ lw_all := lw_g (lw_at lw_m6 198 rfl) rfl
theorem q1476 : (Jvm.Cond.codeWith ({ cls := "FlintMine", name := "read", desc := "()I" } : Jvm.MethodName) prog_1_method_51_code (4 : Nat) (Option.some Jvm.ClassFile.FieldType.int) [((35 : Nat), (40 : Nat), (43 : Nat), (26 : Nat))]) ∈ lw_all := lw_g (lw_at lw_m6 199 rfl) rfl
theorem q1477 : (Jvm.Cond.methodLink "FlintMine" (363 : Nat) ({ cls := "FlintMine", name := "taken", desc := "()Ljava/util/List;" } : Jvm.MethodName)) ∈ lw_all := lw_g (lw_at lw_m6 200 rfl) rfl
theorem q1478 : (Jvm.Cond.privateMethod ({ cls := "FlintMine", name := "taken", desc := "()Ljava/util/List;" } : Jvm.MethodName)) ∈ lw_tbl := lw_at lw_m6 201 rfl
theorem q1479 : (Jvm.Cond.instanceMethod ({ cls := "FlintMine", name := "taken", desc := "()Ljava/util/List;" } : Jvm.MethodName)) ∈ lw_all := lw_g (lw_at lw_m6 202 rfl) rfl
theorem q1480 : (Jvm.Cond.codeWith ({ cls := "FlintMine", name := "taken", desc := "()Ljava/util/List;" } : Jvm.MethodName) prog_1_method_49_code (4 : Nat) (Option.some (Jvm.ClassFile.FieldType.object "java/util/List")) [((0 : Nat), (12 : Nat), (22 : Nat), (341 : Nat)), ((0 : Nat), (12 : Nat), (43 : Nat), (0 : Nat)), ((22 : Nat), (33 : Nat), (43 : Nat), (0 : Nat))]) ∈ lw_all := lw_g (lw_at lw_m6 203 rfl) rfl
theorem q1481 : (Jvm.Cond.classLink "FlintMine" (341 : Nat) "FlintMine$FaultException") ∈ lw_all := lw_g (lw_at lw_m6 204 rfl) rfl
theorem q1482 : (Jvm.Cond.classLink "FlintMine" (329 : Nat) "FlintMine$Parser") ∈ lw_all := lw_g (lw_at lw_m6 205 rfl) rfl
theorem q1484 : (Jvm.Cond.methodLinkNest "FlintMine" (331 : Nat) ({ cls := "FlintMine$Parser", name := "<init>", desc := "(LFlintMine;)V" } : Jvm.MethodName) "FlintMine") ∈ lw_tbl := lw_at lw_m6 207 rfl
theorem q1495 : (Jvm.Cond.methodLink "FlintMine" (334 : Nat) ({ cls := "FlintMine$Parser", name := "text", desc := "()Ljava/util/List;" } : Jvm.MethodName)) ∈ lw_all := lw_g (lw_at lw_m6 218 rfl) rfl
theorem q1614 : (Jvm.Cond.fieldLinkNest "FlintMine" (343 : Nat) "FlintMine$FaultException" "position" "I" "FlintMine") ∈ lw_tbl := lw_at lw_m7 97 rfl
theorem q1649 : (Jvm.Cond.methodLink "FlintMine" (338 : Nat) ({ cls := "java/lang/StringBuilder", name := "setLength", desc := "(I)V" } : Jvm.MethodName)) ∈ lw_all := lw_g (lw_at lw_m7 132 rfl) rfl
theorem q1809 : (Jvm.Cond.methodLink "FlintMine" (366 : Nat) ({ cls := "FlintMine", name := "doAll", desc := "(Ljava/util/List;LFlintMine$Mine;)V" } : Jvm.MethodName)) ∈ lw_all := lw_g (lw_at lw_m8 52 rfl) rfl
theorem q1810 : (Jvm.Cond.static ({ cls := "FlintMine", name := "doAll", desc := "(Ljava/util/List;LFlintMine$Mine;)V" } : Jvm.MethodName)) ∈ lw_all := lw_g (lw_at lw_m8 53 rfl) rfl
theorem q1811 : (Jvm.Cond.codeWith ({ cls := "FlintMine", name := "doAll", desc := "(Ljava/util/List;LFlintMine$Mine;)V" } : Jvm.MethodName) prog_1_method_50_code (6 : Nat) (Option.none : Option Jvm.ClassFile.FieldType) [((29 : Nat), (37 : Nat), (40 : Nat), (7 : Nat)), ((29 : Nat), (37 : Nat), (40 : Nat), (1 : Nat))]) ∈ lw_all := lw_g (lw_at lw_m8 54 rfl) rfl
theorem q1812 : (Jvm.Cond.interfaceEntry "FlintMine" (346 : Nat)) ∈ lw_tbl := lw_at lw_m8 55 rfl
theorem q1813 : (Jvm.Cond.methodLink "FlintMine" (346 : Nat) ({ cls := "java/util/List", name := "iterator", desc := "()Ljava/util/Iterator;" } : Jvm.MethodName)) ∈ lw_all := lw_g (lw_at lw_m8 56 rfl) rfl
theorem q1814 : (Jvm.Cond.interfaceEntry "FlintMine" (350 : Nat)) ∈ lw_tbl := lw_at lw_m8 57 rfl
theorem q1815 : (Jvm.Cond.methodLink "FlintMine" (350 : Nat) ({ cls := "java/util/Iterator", name := "hasNext", desc := "()Z" } : Jvm.MethodName)) ∈ lw_all := lw_g (lw_at lw_m8 58 rfl) rfl
theorem q1816 : (Jvm.Cond.interfaceEntry "FlintMine" (356 : Nat)) ∈ lw_tbl := lw_at lw_m8 59 rfl
theorem q1817 : (Jvm.Cond.methodLink "FlintMine" (356 : Nat) ({ cls := "java/util/Iterator", name := "next", desc := "()Ljava/lang/Object;" } : Jvm.MethodName)) ∈ lw_all := lw_g (lw_at lw_m8 60 rfl) rfl
theorem q1818 : (Jvm.Cond.classLink "FlintMine" (359 : Nat) "FlintMine$Command") ∈ lw_all := lw_g (lw_at lw_m8 61 rfl) rfl
theorem q1819 : (Jvm.Cond.methodLink "FlintMine" (361 : Nat) ({ cls := "FlintMine$Command", name := "done", desc := "(LFlintMine$Mine;)I" } : Jvm.MethodName)) ∈ lw_all := lw_g (lw_at lw_m8 62 rfl) rfl
theorem q1828 : (Jvm.Cond.instanceMethod ({ cls := "FlintMine", name := "faultPosition", desc := "()I" } : Jvm.MethodName)) ∈ lw_all := lw_g (lw_at lw_m8 71 rfl) rfl
theorem q1829 : (Jvm.Cond.selects "FlintMine" ({ cls := "FlintMine", name := "faultPosition", desc := "()I" } : Jvm.MethodName) ({ cls := "FlintMine", name := "faultPosition", desc := "()I" } : Jvm.MethodName)) ∈ lw_all := lw_g (lw_at lw_m8 72 rfl) rfl
theorem q1830 : (Jvm.Cond.code ({ cls := "FlintMine", name := "faultPosition", desc := "()I" } : Jvm.MethodName) prog_1_method_52_code (1 : Nat) (Option.some Jvm.ClassFile.FieldType.int)) ∈ lw_all := lw_g (lw_at lw_m8 73 rfl) rfl
theorem q1835 : (Jvm.Cond.instanceMethod ({ cls := "FlintMine", name := "refusal", desc := "(Z)I" } : Jvm.MethodName)) ∈ lw_all := lw_g (lw_at lw_m8 78 rfl) rfl
theorem q1836 : (Jvm.Cond.selects "FlintMine" ({ cls := "FlintMine", name := "refusal", desc := "(Z)I" } : Jvm.MethodName) ({ cls := "FlintMine", name := "refusal", desc := "(Z)I" } : Jvm.MethodName)) ∈ lw_all := lw_g (lw_at lw_m8 79 rfl) rfl
theorem q1837 : (Jvm.Cond.code ({ cls := "FlintMine", name := "refusal", desc := "(Z)I" } : Jvm.MethodName) prog_1_method_53_code (2 : Nat) (Option.some Jvm.ClassFile.FieldType.int)) ∈ lw_all := lw_g (lw_at lw_m8 80 rfl) rfl
theorem q1842 : (Jvm.Cond.instanceMethod ({ cls := "FlintMine", name := "undo", desc := "()I" } : Jvm.MethodName)) ∈ lw_all := lw_g (lw_at lw_m8 85 rfl) rfl
theorem q1843 : (Jvm.Cond.selects "FlintMine" ({ cls := "FlintMine", name := "undo", desc := "()I" } : Jvm.MethodName) ({ cls := "FlintMine", name := "undo", desc := "()I" } : Jvm.MethodName)) ∈ lw_all := lw_g (lw_at lw_m8 86 rfl) rfl
theorem q1844 : (Jvm.Cond.code ({ cls := "FlintMine", name := "undo", desc := "()I" } : Jvm.MethodName) prog_1_method_54_code (1 : Nat) (Option.some Jvm.ClassFile.FieldType.int)) ∈ lw_all := lw_g (lw_at lw_m8 87 rfl) rfl
theorem q1845 : (Jvm.Cond.methodLink "FlintMine" (370 : Nat) ({ cls := "java/util/ArrayDeque", name := "isEmpty", desc := "()Z" } : Jvm.MethodName)) ∈ lw_all := lw_g (lw_at lw_m8 88 rfl) rfl
theorem q1849 : (Jvm.Cond.methodLink "FlintMine" (373 : Nat) ({ cls := "java/util/ArrayDeque", name := "pop", desc := "()Ljava/lang/Object;" } : Jvm.MethodName)) ∈ lw_all := lw_g (lw_at lw_m8 92 rfl) rfl
theorem q1868 : (Jvm.Cond.instanceMethod ({ cls := "FlintMine", name := "restoreSnapshot", desc := "()I" } : Jvm.MethodName)) ∈ lw_all := lw_g (lw_at lw_m8 111 rfl) rfl
theorem q1869 : (Jvm.Cond.selects "FlintMine" ({ cls := "FlintMine", name := "restoreSnapshot", desc := "()I" } : Jvm.MethodName) ({ cls := "FlintMine", name := "restoreSnapshot", desc := "()I" } : Jvm.MethodName)) ∈ lw_all := lw_g (lw_at lw_m8 112 rfl) rfl
theorem q1870 : (Jvm.Cond.code ({ cls := "FlintMine", name := "restoreSnapshot", desc := "()I" } : Jvm.MethodName) prog_1_method_56_code (1 : Nat) (Option.some Jvm.ClassFile.FieldType.int)) ∈ lw_all := lw_g (lw_at lw_m8 113 rfl) rfl
theorem q1871 : (Jvm.Cond.methodLink "FlintMine" (379 : Nat) ({ cls := "java/util/ArrayDeque", name := "clear", desc := "()V" } : Jvm.MethodName)) ∈ lw_all := lw_g (lw_at lw_m8 114 rfl) rfl
theorem q2293 : (Jvm.Cond.castable "FlintMine" "java/lang/Object") ∈ lw_tbl := lw_at lw_m10 56 rfl
theorem in_X1 : ∀ w ∈ wsX10, w ∈ lw_all := lw_in wsX10 [280, 282, 284, 286, 288, 290, 292, 294, 296] (by decide +kernel) (by decide +kernel)
/-! FlintMine$Mine -/
set_option maxRecDepth 100000
def RX2 : String := "FlintMine$Mine"
def TX2 : u_T := fun k => match k with
  | 0 => ("FlintMine$Mine", "ground", "[LFlintMine$Ground;", true)
  | 1 => ("FlintMine$Mine", "shafts", "Ljava/util/List;", true)
  | 2 => ("FlintMine$Mine", "picks", "Ljava/util/List;", true)
  | 3 => ("FlintMine$Mine", "roof", "I", false)
  | 4 => ("FlintMine$Mine", "props", "I", false)
  | 5 => ("FlintMine$Mine", "rubble", "I", false)
  | _ => ("FlintMine$Mine", "strokes", "I", false)
def tyX2 : Nat → FieldType := fun k => match k with
  | 0 => .array (.object "FlintMine$Ground")
  | 1 => .object "java/util/List"
  | 2 => .object "java/util/List"
  | 3 => .int
  | 4 => .int
  | 5 => .int
  | _ => .int
abbrev wsX20 : List Cond := u_ws RX2 TX2 7
theorem nmX2 : ∀ a, a < 7 → ∀ b, b < 7 → a ≠ b → (TX2 a).2.1 ≠ (TX2 b).2.1 := by decide +kernel
theorem tyX2_ok : ∀ k, k < 7 → parseFieldDescriptor (TX2 k).2.2.1 = some (tyX2 k) := by decide +kernel
abbrev cX2_init : ByteArray := prog_17_method_1_code
def yX2_init : MethodName := ⟨RX2, "<init>", "()V"⟩
def dkwX2_init_2 : List UInt8 := [3, 61, 28, 16, 64, 162, 0, 16, 42, 180, 0, 11, 28, 43, 83, 132, 2, 1, 167, 255, 240, 177]
abbrev dktX2_init_2 : List UInt8 := dkwX2_init_2 ++ []
def dkwX2_init_1 : List UInt8 := [42, 187, 0, 17, 89, 183, 0, 19, 181, 0, 24, 42, 6, 181, 0, 27, 187, 0, 31, 89, 183, 0, 33, 76]
abbrev dktX2_init_1 : List UInt8 := dkwX2_init_1 ++ dktX2_init_2
def dkwX2_init_0 : List UInt8 := [42, 183, 0, 3, 42, 16, 64, 189, 0, 9, 181, 0, 11, 42, 187, 0, 17, 89, 183, 0, 19, 181, 0, 20]
abbrev dktX2_init_0 : List UInt8 := dkwX2_init_0 ++ dktX2_init_1
theorem dksX2_init_0 : cX2_init.data.toList.drop 0 = dktX2_init_0 := by decide +kernel
theorem dksX2_init_1 : cX2_init.data.toList.drop 24 = dktX2_init_1 := dk_seg dksX2_init_0 24 rfl rfl
theorem dksX2_init_2 : cX2_init.data.toList.drop 48 = dktX2_init_2 := dk_seg dksX2_init_1 24 rfl rfl
theorem dX2_init_0 : decode cX2_init 0 = .ok (.aload_n 0, 1) := dk_42 (dk_at dksX2_init_0 0 rfl rfl)
theorem dX2_init_1 : decode cX2_init 1 = .ok (.invokespecial 3, 3) := dk_183 0 3 (dk_at dksX2_init_0 1 rfl rfl)
theorem dX2_init_4 : decode cX2_init 4 = .ok (.aload_n 0, 1) := dk_42 (dk_at dksX2_init_0 4 rfl rfl)
theorem dX2_init_5 : decode cX2_init 5 = .ok (.bipush 64, 2) := dk_16 64 (dk_at dksX2_init_0 5 rfl rfl)
theorem dX2_init_7 : decode cX2_init 7 = .ok (.anewarray 9, 3) := dk_189 0 9 (dk_at dksX2_init_0 7 rfl rfl)
theorem dX2_init_10 : decode cX2_init 10 = .ok (.putfield 11, 3) := dk_181 0 11 (dk_at dksX2_init_0 10 rfl rfl)
theorem dX2_init_13 : decode cX2_init 13 = .ok (.aload_n 0, 1) := dk_42 (dk_at dksX2_init_0 13 rfl rfl)
theorem dX2_init_14 : decode cX2_init 14 = .ok (.new 17, 3) := dk_187 0 17 (dk_at dksX2_init_0 14 rfl rfl)
theorem dX2_init_17 : decode cX2_init 17 = .ok (.dup, 1) := dk_89 (dk_at dksX2_init_0 17 rfl rfl)
theorem dX2_init_18 : decode cX2_init 18 = .ok (.invokespecial 19, 3) := dk_183 0 19 (dk_at dksX2_init_0 18 rfl rfl)
theorem dX2_init_21 : decode cX2_init 21 = .ok (.putfield 20, 3) := dk_181 0 20 (dk_at dksX2_init_0 21 rfl rfl)
theorem dX2_init_24 : decode cX2_init 24 = .ok (.aload_n 0, 1) := dk_42 (dk_at dksX2_init_1 0 rfl rfl)
theorem dX2_init_25 : decode cX2_init 25 = .ok (.new 17, 3) := dk_187 0 17 (dk_at dksX2_init_1 1 rfl rfl)
theorem dX2_init_28 : decode cX2_init 28 = .ok (.dup, 1) := dk_89 (dk_at dksX2_init_1 4 rfl rfl)
theorem dX2_init_29 : decode cX2_init 29 = .ok (.invokespecial 19, 3) := dk_183 0 19 (dk_at dksX2_init_1 5 rfl rfl)
theorem dX2_init_32 : decode cX2_init 32 = .ok (.putfield 24, 3) := dk_181 0 24 (dk_at dksX2_init_1 8 rfl rfl)
theorem dX2_init_35 : decode cX2_init 35 = .ok (.aload_n 0, 1) := dk_42 (dk_at dksX2_init_1 11 rfl rfl)
theorem dX2_init_36 : decode cX2_init 36 = .ok (.iconst 3, 1) := dk_6 (dk_at dksX2_init_1 12 rfl rfl)
theorem dX2_init_37 : decode cX2_init 37 = .ok (.putfield 27, 3) := dk_181 0 27 (dk_at dksX2_init_1 13 rfl rfl)
theorem dX2_init_40 : decode cX2_init 40 = .ok (.new 31, 3) := dk_187 0 31 (dk_at dksX2_init_1 16 rfl rfl)
theorem dX2_init_43 : decode cX2_init 43 = .ok (.dup, 1) := dk_89 (dk_at dksX2_init_1 19 rfl rfl)
theorem dX2_init_44 : decode cX2_init 44 = .ok (.invokespecial 33, 3) := dk_183 0 33 (dk_at dksX2_init_1 20 rfl rfl)
theorem dX2_init_47 : decode cX2_init 47 = .ok (.astore_n 1, 1) := dk_76 (dk_at dksX2_init_1 23 rfl rfl)
theorem dX2_init_48 : decode cX2_init 48 = .ok (.iconst 0, 1) := dk_3 (dk_at dksX2_init_2 0 rfl rfl)
theorem dX2_init_49 : decode cX2_init 49 = .ok (.istore_n 2, 1) := dk_61 (dk_at dksX2_init_2 1 rfl rfl)
theorem dX2_init_50 : decode cX2_init 50 = .ok (.iload_n 2, 1) := dk_28 (dk_at dksX2_init_2 2 rfl rfl)
theorem dX2_init_51 : decode cX2_init 51 = .ok (.bipush 64, 2) := dk_16 64 (dk_at dksX2_init_2 3 rfl rfl)
theorem dX2_init_53 : decode cX2_init 53 = .ok (.if_icmp .ge 16, 3) := dk_162 0 16 (dk_at dksX2_init_2 5 rfl rfl)
theorem dX2_init_56 : decode cX2_init 56 = .ok (.aload_n 0, 1) := dk_42 (dk_at dksX2_init_2 8 rfl rfl)
theorem dX2_init_57 : decode cX2_init 57 = .ok (.getfield 11, 3) := dk_180 0 11 (dk_at dksX2_init_2 9 rfl rfl)
theorem dX2_init_60 : decode cX2_init 60 = .ok (.iload_n 2, 1) := dk_28 (dk_at dksX2_init_2 12 rfl rfl)
theorem dX2_init_61 : decode cX2_init 61 = .ok (.aload_n 1, 1) := dk_43 (dk_at dksX2_init_2 13 rfl rfl)
theorem dX2_init_62 : decode cX2_init 62 = .ok (.aastore, 1) := dk_83 (dk_at dksX2_init_2 14 rfl rfl)
theorem dX2_init_63 : decode cX2_init 63 = .ok (.iinc 2 1, 3) := dk_132 2 1 (dk_at dksX2_init_2 15 rfl rfl)
theorem dX2_init_66 : decode cX2_init 66 = .ok (.goto (-16), 3) := dk_167 255 240 (dk_at dksX2_init_2 18 rfl rfl)
theorem dX2_init_69 : decode cX2_init 69 = .ok (.return_, 1) := dk_177 (dk_at dksX2_init_2 21 rfl rfl)
abbrev cX2_longest : ByteArray := prog_17_method_12_code
def yX2_longest : MethodName := ⟨RX2, "longest", "()I"⟩
def dkwX2_longest_1 : List UInt8 := [184, 0, 120, 184, 0, 120, 60, 132, 2, 1, 167, 255, 227, 27, 172]
abbrev dktX2_longest_1 : List UInt8 := dkwX2_longest_1 ++ []
def dkwX2_longest_0 : List UInt8 := [3, 60, 3, 61, 28, 16, 64, 162, 0, 29, 27, 42, 28, 4, 182, 0, 125, 42, 28, 3, 182, 0, 125]
abbrev dktX2_longest_0 : List UInt8 := dkwX2_longest_0 ++ dktX2_longest_1
theorem dksX2_longest_0 : cX2_longest.data.toList.drop 0 = dktX2_longest_0 := by decide +kernel
theorem dksX2_longest_1 : cX2_longest.data.toList.drop 23 = dktX2_longest_1 := dk_seg dksX2_longest_0 23 rfl rfl
theorem dX2_longest_0 : decode cX2_longest 0 = .ok (.iconst 0, 1) := dk_3 (dk_at dksX2_longest_0 0 rfl rfl)
theorem dX2_longest_1 : decode cX2_longest 1 = .ok (.istore_n 1, 1) := dk_60 (dk_at dksX2_longest_0 1 rfl rfl)
theorem dX2_longest_2 : decode cX2_longest 2 = .ok (.iconst 0, 1) := dk_3 (dk_at dksX2_longest_0 2 rfl rfl)
theorem dX2_longest_3 : decode cX2_longest 3 = .ok (.istore_n 2, 1) := dk_61 (dk_at dksX2_longest_0 3 rfl rfl)
theorem dX2_longest_4 : decode cX2_longest 4 = .ok (.iload_n 2, 1) := dk_28 (dk_at dksX2_longest_0 4 rfl rfl)
theorem dX2_longest_5 : decode cX2_longest 5 = .ok (.bipush 64, 2) := dk_16 64 (dk_at dksX2_longest_0 5 rfl rfl)
theorem dX2_longest_7 : decode cX2_longest 7 = .ok (.if_icmp .ge 29, 3) := dk_162 0 29 (dk_at dksX2_longest_0 7 rfl rfl)
theorem dX2_longest_10 : decode cX2_longest 10 = .ok (.iload_n 1, 1) := dk_27 (dk_at dksX2_longest_0 10 rfl rfl)
theorem dX2_longest_11 : decode cX2_longest 11 = .ok (.aload_n 0, 1) := dk_42 (dk_at dksX2_longest_0 11 rfl rfl)
theorem dX2_longest_12 : decode cX2_longest 12 = .ok (.iload_n 2, 1) := dk_28 (dk_at dksX2_longest_0 12 rfl rfl)
theorem dX2_longest_13 : decode cX2_longest 13 = .ok (.iconst 1, 1) := dk_4 (dk_at dksX2_longest_0 13 rfl rfl)
theorem dX2_longest_14 : decode cX2_longest 14 = .ok (.invokevirtual 125, 3) := dk_182 0 125 (dk_at dksX2_longest_0 14 rfl rfl)
theorem dX2_longest_17 : decode cX2_longest 17 = .ok (.aload_n 0, 1) := dk_42 (dk_at dksX2_longest_0 17 rfl rfl)
theorem dX2_longest_18 : decode cX2_longest 18 = .ok (.iload_n 2, 1) := dk_28 (dk_at dksX2_longest_0 18 rfl rfl)
theorem dX2_longest_19 : decode cX2_longest 19 = .ok (.iconst 0, 1) := dk_3 (dk_at dksX2_longest_0 19 rfl rfl)
theorem dX2_longest_20 : decode cX2_longest 20 = .ok (.invokevirtual 125, 3) := dk_182 0 125 (dk_at dksX2_longest_0 20 rfl rfl)
theorem dX2_longest_23 : decode cX2_longest 23 = .ok (.invokestatic 120, 3) := dk_184 0 120 (dk_at dksX2_longest_1 0 rfl rfl)
theorem dX2_longest_26 : decode cX2_longest 26 = .ok (.invokestatic 120, 3) := dk_184 0 120 (dk_at dksX2_longest_1 3 rfl rfl)
theorem dX2_longest_29 : decode cX2_longest 29 = .ok (.istore_n 1, 1) := dk_60 (dk_at dksX2_longest_1 6 rfl rfl)
theorem dX2_longest_30 : decode cX2_longest 30 = .ok (.iinc 2 1, 3) := dk_132 2 1 (dk_at dksX2_longest_1 7 rfl rfl)
theorem dX2_longest_33 : decode cX2_longest 33 = .ok (.goto (-29), 3) := dk_167 255 227 (dk_at dksX2_longest_1 10 rfl rfl)
theorem dX2_longest_36 : decode cX2_longest 36 = .ok (.iload_n 1, 1) := dk_27 (dk_at dksX2_longest_1 13 rfl rfl)
theorem dX2_longest_37 : decode cX2_longest 37 = .ok (.ireturn, 1) := dk_172 (dk_at dksX2_longest_1 14 rfl rfl)
abbrev cX2_span : ByteArray := prog_17_method_10_code
def yX2_span : MethodName := ⟨RX2, "span", "(IZ)I"⟩
def dkwX2_span_1 : List UInt8 := [172]
abbrev dktX2_span_1 : List UInt8 := dkwX2_span_1 ++ []
def dkwX2_span_0 : List UInt8 := [42, 180, 0, 11, 27, 50, 185, 0, 110, 1, 0, 153, 0, 12, 42, 27, 28, 182, 0, 116, 167, 0, 4, 3]
abbrev dktX2_span_0 : List UInt8 := dkwX2_span_0 ++ dktX2_span_1
theorem dksX2_span_0 : cX2_span.data.toList.drop 0 = dktX2_span_0 := by decide +kernel
theorem dksX2_span_1 : cX2_span.data.toList.drop 24 = dktX2_span_1 := dk_seg dksX2_span_0 24 rfl rfl
theorem dX2_span_0 : decode cX2_span 0 = .ok (.aload_n 0, 1) := dk_42 (dk_at dksX2_span_0 0 rfl rfl)
theorem dX2_span_1 : decode cX2_span 1 = .ok (.getfield 11, 3) := dk_180 0 11 (dk_at dksX2_span_0 1 rfl rfl)
theorem dX2_span_4 : decode cX2_span 4 = .ok (.iload_n 1, 1) := dk_27 (dk_at dksX2_span_0 4 rfl rfl)
theorem dX2_span_5 : decode cX2_span 5 = .ok (.aaload, 1) := dk_50 (dk_at dksX2_span_0 5 rfl rfl)
theorem dX2_span_6 : decode cX2_span 6 = .ok (.invokeinterface 110 1, 5) := by decide +kernel
theorem dX2_span_11 : decode cX2_span 11 = .ok (.ifCond .eq 12, 3) := dk_153 0 12 (dk_at dksX2_span_0 11 rfl rfl)
theorem dX2_span_14 : decode cX2_span 14 = .ok (.aload_n 0, 1) := dk_42 (dk_at dksX2_span_0 14 rfl rfl)
theorem dX2_span_15 : decode cX2_span 15 = .ok (.iload_n 1, 1) := dk_27 (dk_at dksX2_span_0 15 rfl rfl)
theorem dX2_span_16 : decode cX2_span 16 = .ok (.iload_n 2, 1) := dk_28 (dk_at dksX2_span_0 16 rfl rfl)
theorem dX2_span_17 : decode cX2_span 17 = .ok (.invokevirtual 116, 3) := dk_182 0 116 (dk_at dksX2_span_0 17 rfl rfl)
theorem dX2_span_20 : decode cX2_span 20 = .ok (.goto 4, 3) := dk_167 0 4 (dk_at dksX2_span_0 20 rfl rfl)
theorem dX2_span_23 : decode cX2_span 23 = .ok (.iconst 0, 1) := dk_3 (dk_at dksX2_span_0 23 rfl rfl)
theorem dX2_span_24 : decode cX2_span 24 = .ok (.ireturn, 1) := dk_172 (dk_at dksX2_span_1 0 rfl rfl)
abbrev cX2_spanIf : ByteArray := prog_17_method_9_code
def yX2_spanIf : MethodName := ⟨RX2, "spanIf", "(IZ)I"⟩
def dkwX2_spanIf_1 : List UInt8 := [182, 0, 113, 42, 27, 5, 182, 0, 113, 96, 96, 172]
abbrev dktX2_spanIf_1 : List UInt8 := dkwX2_spanIf_1 ++ []
def dkwX2_spanIf_0 : List UInt8 := [4, 28, 153, 0, 19, 42, 27, 3, 182, 0, 113, 42, 27, 6, 182, 0, 113, 96, 167, 0, 16, 42, 27, 4]
abbrev dktX2_spanIf_0 : List UInt8 := dkwX2_spanIf_0 ++ dktX2_spanIf_1
theorem dksX2_spanIf_0 : cX2_spanIf.data.toList.drop 0 = dktX2_spanIf_0 := by decide +kernel
theorem dksX2_spanIf_1 : cX2_spanIf.data.toList.drop 24 = dktX2_spanIf_1 := dk_seg dksX2_spanIf_0 24 rfl rfl
theorem dX2_spanIf_0 : decode cX2_spanIf 0 = .ok (.iconst 1, 1) := dk_4 (dk_at dksX2_spanIf_0 0 rfl rfl)
theorem dX2_spanIf_1 : decode cX2_spanIf 1 = .ok (.iload_n 2, 1) := dk_28 (dk_at dksX2_spanIf_0 1 rfl rfl)
theorem dX2_spanIf_2 : decode cX2_spanIf 2 = .ok (.ifCond .eq 19, 3) := dk_153 0 19 (dk_at dksX2_spanIf_0 2 rfl rfl)
theorem dX2_spanIf_5 : decode cX2_spanIf 5 = .ok (.aload_n 0, 1) := dk_42 (dk_at dksX2_spanIf_0 5 rfl rfl)
theorem dX2_spanIf_6 : decode cX2_spanIf 6 = .ok (.iload_n 1, 1) := dk_27 (dk_at dksX2_spanIf_0 6 rfl rfl)
theorem dX2_spanIf_7 : decode cX2_spanIf 7 = .ok (.iconst 0, 1) := dk_3 (dk_at dksX2_spanIf_0 7 rfl rfl)
theorem dX2_spanIf_8 : decode cX2_spanIf 8 = .ok (.invokevirtual 113, 3) := dk_182 0 113 (dk_at dksX2_spanIf_0 8 rfl rfl)
theorem dX2_spanIf_11 : decode cX2_spanIf 11 = .ok (.aload_n 0, 1) := dk_42 (dk_at dksX2_spanIf_0 11 rfl rfl)
theorem dX2_spanIf_12 : decode cX2_spanIf 12 = .ok (.iload_n 1, 1) := dk_27 (dk_at dksX2_spanIf_0 12 rfl rfl)
theorem dX2_spanIf_13 : decode cX2_spanIf 13 = .ok (.iconst 3, 1) := dk_6 (dk_at dksX2_spanIf_0 13 rfl rfl)
theorem dX2_spanIf_14 : decode cX2_spanIf 14 = .ok (.invokevirtual 113, 3) := dk_182 0 113 (dk_at dksX2_spanIf_0 14 rfl rfl)
theorem dX2_spanIf_17 : decode cX2_spanIf 17 = .ok (.iadd, 1) := dk_96 (dk_at dksX2_spanIf_0 17 rfl rfl)
theorem dX2_spanIf_18 : decode cX2_spanIf 18 = .ok (.goto 16, 3) := dk_167 0 16 (dk_at dksX2_spanIf_0 18 rfl rfl)
theorem dX2_spanIf_21 : decode cX2_spanIf 21 = .ok (.aload_n 0, 1) := dk_42 (dk_at dksX2_spanIf_0 21 rfl rfl)
theorem dX2_spanIf_22 : decode cX2_spanIf 22 = .ok (.iload_n 1, 1) := dk_27 (dk_at dksX2_spanIf_0 22 rfl rfl)
theorem dX2_spanIf_23 : decode cX2_spanIf 23 = .ok (.iconst 1, 1) := dk_4 (dk_at dksX2_spanIf_0 23 rfl rfl)
theorem dX2_spanIf_24 : decode cX2_spanIf 24 = .ok (.invokevirtual 113, 3) := dk_182 0 113 (dk_at dksX2_spanIf_1 0 rfl rfl)
theorem dX2_spanIf_27 : decode cX2_spanIf 27 = .ok (.aload_n 0, 1) := dk_42 (dk_at dksX2_spanIf_1 3 rfl rfl)
theorem dX2_spanIf_28 : decode cX2_spanIf 28 = .ok (.iload_n 1, 1) := dk_27 (dk_at dksX2_spanIf_1 4 rfl rfl)
theorem dX2_spanIf_29 : decode cX2_spanIf 29 = .ok (.iconst 2, 1) := dk_5 (dk_at dksX2_spanIf_1 5 rfl rfl)
theorem dX2_spanIf_30 : decode cX2_spanIf 30 = .ok (.invokevirtual 113, 3) := dk_182 0 113 (dk_at dksX2_spanIf_1 6 rfl rfl)
theorem dX2_spanIf_33 : decode cX2_spanIf 33 = .ok (.iadd, 1) := dk_96 (dk_at dksX2_spanIf_1 9 rfl rfl)
theorem dX2_spanIf_34 : decode cX2_spanIf 34 = .ok (.iadd, 1) := dk_96 (dk_at dksX2_spanIf_1 10 rfl rfl)
theorem dX2_spanIf_35 : decode cX2_spanIf 35 = .ok (.ireturn, 1) := dk_172 (dk_at dksX2_spanIf_1 11 rfl rfl)
abbrev cX2_run : ByteArray := prog_17_method_8_code
def yX2_run : MethodName := ⟨RX2, "run", "(II)I"⟩
def dkwX2_run_1 : List UInt8 := [185, 0, 110, 1, 0, 153, 0, 17, 132, 3, 1, 21, 4, 28, 184, 0, 99, 54, 4, 167, 255, 224, 29, 172]
abbrev dktX2_run_1 : List UInt8 := dkwX2_run_1 ++ []
def dkwX2_run_0 : List UInt8 := [3, 62, 27, 28, 184, 0, 99, 54, 4, 21, 4, 2, 159, 0, 32, 42, 180, 0, 11, 21, 4, 50]
abbrev dktX2_run_0 : List UInt8 := dkwX2_run_0 ++ dktX2_run_1
theorem dksX2_run_0 : cX2_run.data.toList.drop 0 = dktX2_run_0 := by decide +kernel
theorem dksX2_run_1 : cX2_run.data.toList.drop 22 = dktX2_run_1 := dk_seg dksX2_run_0 22 rfl rfl
theorem dX2_run_0 : decode cX2_run 0 = .ok (.iconst 0, 1) := dk_3 (dk_at dksX2_run_0 0 rfl rfl)
theorem dX2_run_1 : decode cX2_run 1 = .ok (.istore_n 3, 1) := dk_62 (dk_at dksX2_run_0 1 rfl rfl)
theorem dX2_run_2 : decode cX2_run 2 = .ok (.iload_n 1, 1) := dk_27 (dk_at dksX2_run_0 2 rfl rfl)
theorem dX2_run_3 : decode cX2_run 3 = .ok (.iload_n 2, 1) := dk_28 (dk_at dksX2_run_0 3 rfl rfl)
theorem dX2_run_4 : decode cX2_run 4 = .ok (.invokestatic 99, 3) := dk_184 0 99 (dk_at dksX2_run_0 4 rfl rfl)
theorem dX2_run_7 : decode cX2_run 7 = .ok (.istore 4, 2) := dk_54 4 (dk_at dksX2_run_0 7 rfl rfl)
theorem dX2_run_9 : decode cX2_run 9 = .ok (.iload 4, 2) := dk_21 4 (dk_at dksX2_run_0 9 rfl rfl)
theorem dX2_run_11 : decode cX2_run 11 = .ok (.iconst (-1), 1) := dk_2 (dk_at dksX2_run_0 11 rfl rfl)
theorem dX2_run_12 : decode cX2_run 12 = .ok (.if_icmp .eq 32, 3) := dk_159 0 32 (dk_at dksX2_run_0 12 rfl rfl)
theorem dX2_run_15 : decode cX2_run 15 = .ok (.aload_n 0, 1) := dk_42 (dk_at dksX2_run_0 15 rfl rfl)
theorem dX2_run_16 : decode cX2_run 16 = .ok (.getfield 11, 3) := dk_180 0 11 (dk_at dksX2_run_0 16 rfl rfl)
theorem dX2_run_19 : decode cX2_run 19 = .ok (.iload 4, 2) := dk_21 4 (dk_at dksX2_run_0 19 rfl rfl)
theorem dX2_run_21 : decode cX2_run 21 = .ok (.aaload, 1) := dk_50 (dk_at dksX2_run_0 21 rfl rfl)
theorem dX2_run_22 : decode cX2_run 22 = .ok (.invokeinterface 110 1, 5) := by decide +kernel
theorem dX2_run_27 : decode cX2_run 27 = .ok (.ifCond .eq 17, 3) := dk_153 0 17 (dk_at dksX2_run_1 5 rfl rfl)
theorem dX2_run_30 : decode cX2_run 30 = .ok (.iinc 3 1, 3) := dk_132 3 1 (dk_at dksX2_run_1 8 rfl rfl)
theorem dX2_run_33 : decode cX2_run 33 = .ok (.iload 4, 2) := dk_21 4 (dk_at dksX2_run_1 11 rfl rfl)
theorem dX2_run_35 : decode cX2_run 35 = .ok (.iload_n 2, 1) := dk_28 (dk_at dksX2_run_1 13 rfl rfl)
theorem dX2_run_36 : decode cX2_run 36 = .ok (.invokestatic 99, 3) := dk_184 0 99 (dk_at dksX2_run_1 14 rfl rfl)
theorem dX2_run_39 : decode cX2_run 39 = .ok (.istore 4, 2) := dk_54 4 (dk_at dksX2_run_1 17 rfl rfl)
theorem dX2_run_41 : decode cX2_run 41 = .ok (.goto (-32), 3) := dk_167 255 224 (dk_at dksX2_run_1 19 rfl rfl)
theorem dX2_run_44 : decode cX2_run 44 = .ok (.iload_n 3, 1) := dk_29 (dk_at dksX2_run_1 22 rfl rfl)
theorem dX2_run_45 : decode cX2_run 45 = .ok (.ireturn, 1) := dk_172 (dk_at dksX2_run_1 23 rfl rfl)
abbrev cX2_init_2 : ByteArray := prog_17_method_2_code
def yX2_init_2 : MethodName := ⟨RX2, "<init>", "(LFlintMine$Mine;)V"⟩
def dkwX2_init_2_7 : List UInt8 := [181, 0, 64, 42, 43, 180, 0, 67, 181, 0, 67, 42, 43, 180, 0, 70, 181, 0, 70, 177]
abbrev dktX2_init_2_7 : List UInt8 := dkwX2_init_2_7 ++ []
def dkwX2_init_2_6 : List UInt8 := [185, 0, 58, 2, 0, 87, 167, 255, 226, 42, 43, 180, 0, 27, 181, 0, 27, 42, 43, 180, 0, 64]
abbrev dktX2_init_2_6 : List UInt8 := dkwX2_init_2_6 ++ dktX2_init_2_7
def dkwX2_init_2_5 : List UInt8 := [185, 0, 46, 1, 0, 153, 0, 27, 44, 185, 0, 52, 1, 0, 192, 0, 62, 78, 42, 180, 0, 24, 45]
abbrev dktX2_init_2_5 : List UInt8 := dkwX2_init_2_5 ++ dktX2_init_2_6
def dkwX2_init_2_4 : List UInt8 := [185, 0, 58, 2, 0, 87, 167, 255, 226, 43, 180, 0, 24, 185, 0, 40, 1, 0, 77, 44]
abbrev dktX2_init_2_4 : List UInt8 := dkwX2_init_2_4 ++ dktX2_init_2_5
def dkwX2_init_2_3 : List UInt8 := [185, 0, 46, 1, 0, 153, 0, 27, 44, 185, 0, 52, 1, 0, 192, 0, 56, 78, 42, 180, 0, 20, 45]
abbrev dktX2_init_2_3 : List UInt8 := dkwX2_init_2_3 ++ dktX2_init_2_4
def dkwX2_init_2_2 : List UInt8 := [180, 0, 11, 3, 16, 64, 184, 0, 34, 43, 180, 0, 20, 185, 0, 40, 1, 0, 77, 44]
abbrev dktX2_init_2_2 : List UInt8 := dkwX2_init_2_2 ++ dktX2_init_2_3
def dkwX2_init_2_1 : List UInt8 := [42, 187, 0, 17, 89, 183, 0, 19, 181, 0, 24, 42, 6, 181, 0, 27, 43, 180, 0, 11, 3, 42]
abbrev dktX2_init_2_1 : List UInt8 := dkwX2_init_2_1 ++ dktX2_init_2_2
def dkwX2_init_2_0 : List UInt8 := [42, 183, 0, 3, 42, 16, 64, 189, 0, 9, 181, 0, 11, 42, 187, 0, 17, 89, 183, 0, 19, 181, 0, 20]
abbrev dktX2_init_2_0 : List UInt8 := dkwX2_init_2_0 ++ dktX2_init_2_1
theorem dksX2_init_2_0 : cX2_init_2.data.toList.drop 0 = dktX2_init_2_0 := by decide +kernel
theorem dksX2_init_2_1 : cX2_init_2.data.toList.drop 24 = dktX2_init_2_1 := dk_seg dksX2_init_2_0 24 rfl rfl
theorem dksX2_init_2_2 : cX2_init_2.data.toList.drop 46 = dktX2_init_2_2 := dk_seg dksX2_init_2_1 22 rfl rfl
theorem dksX2_init_2_3 : cX2_init_2.data.toList.drop 66 = dktX2_init_2_3 := dk_seg dksX2_init_2_2 20 rfl rfl
theorem dksX2_init_2_4 : cX2_init_2.data.toList.drop 89 = dktX2_init_2_4 := dk_seg dksX2_init_2_3 23 rfl rfl
theorem dksX2_init_2_5 : cX2_init_2.data.toList.drop 109 = dktX2_init_2_5 := dk_seg dksX2_init_2_4 20 rfl rfl
theorem dksX2_init_2_6 : cX2_init_2.data.toList.drop 132 = dktX2_init_2_6 := dk_seg dksX2_init_2_5 23 rfl rfl
theorem dksX2_init_2_7 : cX2_init_2.data.toList.drop 154 = dktX2_init_2_7 := dk_seg dksX2_init_2_6 22 rfl rfl
theorem dX2_init_2_0 : decode cX2_init_2 0 = .ok (.aload_n 0, 1) := dk_42 (dk_at dksX2_init_2_0 0 rfl rfl)
theorem dX2_init_2_1 : decode cX2_init_2 1 = .ok (.invokespecial 3, 3) := dk_183 0 3 (dk_at dksX2_init_2_0 1 rfl rfl)
theorem dX2_init_2_4 : decode cX2_init_2 4 = .ok (.aload_n 0, 1) := dk_42 (dk_at dksX2_init_2_0 4 rfl rfl)
theorem dX2_init_2_5 : decode cX2_init_2 5 = .ok (.bipush 64, 2) := dk_16 64 (dk_at dksX2_init_2_0 5 rfl rfl)
theorem dX2_init_2_7 : decode cX2_init_2 7 = .ok (.anewarray 9, 3) := dk_189 0 9 (dk_at dksX2_init_2_0 7 rfl rfl)
theorem dX2_init_2_10 : decode cX2_init_2 10 = .ok (.putfield 11, 3) := dk_181 0 11 (dk_at dksX2_init_2_0 10 rfl rfl)
theorem dX2_init_2_13 : decode cX2_init_2 13 = .ok (.aload_n 0, 1) := dk_42 (dk_at dksX2_init_2_0 13 rfl rfl)
theorem dX2_init_2_14 : decode cX2_init_2 14 = .ok (.new 17, 3) := dk_187 0 17 (dk_at dksX2_init_2_0 14 rfl rfl)
theorem dX2_init_2_17 : decode cX2_init_2 17 = .ok (.dup, 1) := dk_89 (dk_at dksX2_init_2_0 17 rfl rfl)
theorem dX2_init_2_18 : decode cX2_init_2 18 = .ok (.invokespecial 19, 3) := dk_183 0 19 (dk_at dksX2_init_2_0 18 rfl rfl)
theorem dX2_init_2_21 : decode cX2_init_2 21 = .ok (.putfield 20, 3) := dk_181 0 20 (dk_at dksX2_init_2_0 21 rfl rfl)
theorem dX2_init_2_24 : decode cX2_init_2 24 = .ok (.aload_n 0, 1) := dk_42 (dk_at dksX2_init_2_1 0 rfl rfl)
theorem dX2_init_2_25 : decode cX2_init_2 25 = .ok (.new 17, 3) := dk_187 0 17 (dk_at dksX2_init_2_1 1 rfl rfl)
theorem dX2_init_2_28 : decode cX2_init_2 28 = .ok (.dup, 1) := dk_89 (dk_at dksX2_init_2_1 4 rfl rfl)
theorem dX2_init_2_29 : decode cX2_init_2 29 = .ok (.invokespecial 19, 3) := dk_183 0 19 (dk_at dksX2_init_2_1 5 rfl rfl)
theorem dX2_init_2_32 : decode cX2_init_2 32 = .ok (.putfield 24, 3) := dk_181 0 24 (dk_at dksX2_init_2_1 8 rfl rfl)
theorem dX2_init_2_35 : decode cX2_init_2 35 = .ok (.aload_n 0, 1) := dk_42 (dk_at dksX2_init_2_1 11 rfl rfl)
theorem dX2_init_2_36 : decode cX2_init_2 36 = .ok (.iconst 3, 1) := dk_6 (dk_at dksX2_init_2_1 12 rfl rfl)
theorem dX2_init_2_37 : decode cX2_init_2 37 = .ok (.putfield 27, 3) := dk_181 0 27 (dk_at dksX2_init_2_1 13 rfl rfl)
theorem dX2_init_2_40 : decode cX2_init_2 40 = .ok (.aload_n 1, 1) := dk_43 (dk_at dksX2_init_2_1 16 rfl rfl)
theorem dX2_init_2_41 : decode cX2_init_2 41 = .ok (.getfield 11, 3) := dk_180 0 11 (dk_at dksX2_init_2_1 17 rfl rfl)
theorem dX2_init_2_44 : decode cX2_init_2 44 = .ok (.iconst 0, 1) := dk_3 (dk_at dksX2_init_2_1 20 rfl rfl)
theorem dX2_init_2_45 : decode cX2_init_2 45 = .ok (.aload_n 0, 1) := dk_42 (dk_at dksX2_init_2_1 21 rfl rfl)
theorem dX2_init_2_46 : decode cX2_init_2 46 = .ok (.getfield 11, 3) := dk_180 0 11 (dk_at dksX2_init_2_2 0 rfl rfl)
theorem dX2_init_2_49 : decode cX2_init_2 49 = .ok (.iconst 0, 1) := dk_3 (dk_at dksX2_init_2_2 3 rfl rfl)
theorem dX2_init_2_50 : decode cX2_init_2 50 = .ok (.bipush 64, 2) := dk_16 64 (dk_at dksX2_init_2_2 4 rfl rfl)
theorem dX2_init_2_52 : decode cX2_init_2 52 = .ok (.invokestatic 34, 3) := dk_184 0 34 (dk_at dksX2_init_2_2 6 rfl rfl)
theorem dX2_init_2_55 : decode cX2_init_2 55 = .ok (.aload_n 1, 1) := dk_43 (dk_at dksX2_init_2_2 9 rfl rfl)
theorem dX2_init_2_56 : decode cX2_init_2 56 = .ok (.getfield 20, 3) := dk_180 0 20 (dk_at dksX2_init_2_2 10 rfl rfl)
theorem dX2_init_2_59 : decode cX2_init_2 59 = .ok (.invokeinterface 40 1, 5) := by decide +kernel
theorem dX2_init_2_64 : decode cX2_init_2 64 = .ok (.astore_n 2, 1) := dk_77 (dk_at dksX2_init_2_2 18 rfl rfl)
theorem dX2_init_2_65 : decode cX2_init_2 65 = .ok (.aload_n 2, 1) := dk_44 (dk_at dksX2_init_2_2 19 rfl rfl)
theorem dX2_init_2_66 : decode cX2_init_2 66 = .ok (.invokeinterface 46 1, 5) := by decide +kernel
theorem dX2_init_2_71 : decode cX2_init_2 71 = .ok (.ifCond .eq 27, 3) := dk_153 0 27 (dk_at dksX2_init_2_3 5 rfl rfl)
theorem dX2_init_2_74 : decode cX2_init_2 74 = .ok (.aload_n 2, 1) := dk_44 (dk_at dksX2_init_2_3 8 rfl rfl)
theorem dX2_init_2_75 : decode cX2_init_2 75 = .ok (.invokeinterface 52 1, 5) := by decide +kernel
theorem dX2_init_2_80 : decode cX2_init_2 80 = .ok (.checkcast 56, 3) := dk_192 0 56 (dk_at dksX2_init_2_3 14 rfl rfl)
theorem dX2_init_2_83 : decode cX2_init_2 83 = .ok (.astore_n 3, 1) := dk_78 (dk_at dksX2_init_2_3 17 rfl rfl)
theorem dX2_init_2_84 : decode cX2_init_2 84 = .ok (.aload_n 0, 1) := dk_42 (dk_at dksX2_init_2_3 18 rfl rfl)
theorem dX2_init_2_85 : decode cX2_init_2 85 = .ok (.getfield 20, 3) := dk_180 0 20 (dk_at dksX2_init_2_3 19 rfl rfl)
theorem dX2_init_2_88 : decode cX2_init_2 88 = .ok (.aload_n 3, 1) := dk_45 (dk_at dksX2_init_2_3 22 rfl rfl)
theorem dX2_init_2_89 : decode cX2_init_2 89 = .ok (.invokeinterface 58 2, 5) := by decide +kernel
theorem dX2_init_2_94 : decode cX2_init_2 94 = .ok (.pop, 1) := dk_87 (dk_at dksX2_init_2_4 5 rfl rfl)
theorem dX2_init_2_95 : decode cX2_init_2 95 = .ok (.goto (-30), 3) := dk_167 255 226 (dk_at dksX2_init_2_4 6 rfl rfl)
theorem dX2_init_2_98 : decode cX2_init_2 98 = .ok (.aload_n 1, 1) := dk_43 (dk_at dksX2_init_2_4 9 rfl rfl)
theorem dX2_init_2_99 : decode cX2_init_2 99 = .ok (.getfield 24, 3) := dk_180 0 24 (dk_at dksX2_init_2_4 10 rfl rfl)
theorem dX2_init_2_102 : decode cX2_init_2 102 = .ok (.invokeinterface 40 1, 5) := by decide +kernel
theorem dX2_init_2_107 : decode cX2_init_2 107 = .ok (.astore_n 2, 1) := dk_77 (dk_at dksX2_init_2_4 18 rfl rfl)
theorem dX2_init_2_108 : decode cX2_init_2 108 = .ok (.aload_n 2, 1) := dk_44 (dk_at dksX2_init_2_4 19 rfl rfl)
theorem dX2_init_2_109 : decode cX2_init_2 109 = .ok (.invokeinterface 46 1, 5) := by decide +kernel
theorem dX2_init_2_114 : decode cX2_init_2 114 = .ok (.ifCond .eq 27, 3) := dk_153 0 27 (dk_at dksX2_init_2_5 5 rfl rfl)
theorem dX2_init_2_117 : decode cX2_init_2 117 = .ok (.aload_n 2, 1) := dk_44 (dk_at dksX2_init_2_5 8 rfl rfl)
theorem dX2_init_2_118 : decode cX2_init_2 118 = .ok (.invokeinterface 52 1, 5) := by decide +kernel
theorem dX2_init_2_123 : decode cX2_init_2 123 = .ok (.checkcast 62, 3) := dk_192 0 62 (dk_at dksX2_init_2_5 14 rfl rfl)
theorem dX2_init_2_126 : decode cX2_init_2 126 = .ok (.astore_n 3, 1) := dk_78 (dk_at dksX2_init_2_5 17 rfl rfl)
theorem dX2_init_2_127 : decode cX2_init_2 127 = .ok (.aload_n 0, 1) := dk_42 (dk_at dksX2_init_2_5 18 rfl rfl)
theorem dX2_init_2_128 : decode cX2_init_2 128 = .ok (.getfield 24, 3) := dk_180 0 24 (dk_at dksX2_init_2_5 19 rfl rfl)
theorem dX2_init_2_131 : decode cX2_init_2 131 = .ok (.aload_n 3, 1) := dk_45 (dk_at dksX2_init_2_5 22 rfl rfl)
theorem dX2_init_2_132 : decode cX2_init_2 132 = .ok (.invokeinterface 58 2, 5) := by decide +kernel
theorem dX2_init_2_137 : decode cX2_init_2 137 = .ok (.pop, 1) := dk_87 (dk_at dksX2_init_2_6 5 rfl rfl)
theorem dX2_init_2_138 : decode cX2_init_2 138 = .ok (.goto (-30), 3) := dk_167 255 226 (dk_at dksX2_init_2_6 6 rfl rfl)
theorem dX2_init_2_141 : decode cX2_init_2 141 = .ok (.aload_n 0, 1) := dk_42 (dk_at dksX2_init_2_6 9 rfl rfl)
theorem dX2_init_2_142 : decode cX2_init_2 142 = .ok (.aload_n 1, 1) := dk_43 (dk_at dksX2_init_2_6 10 rfl rfl)
theorem dX2_init_2_143 : decode cX2_init_2 143 = .ok (.getfield 27, 3) := dk_180 0 27 (dk_at dksX2_init_2_6 11 rfl rfl)
theorem dX2_init_2_146 : decode cX2_init_2 146 = .ok (.putfield 27, 3) := dk_181 0 27 (dk_at dksX2_init_2_6 14 rfl rfl)
theorem dX2_init_2_149 : decode cX2_init_2 149 = .ok (.aload_n 0, 1) := dk_42 (dk_at dksX2_init_2_6 17 rfl rfl)
theorem dX2_init_2_150 : decode cX2_init_2 150 = .ok (.aload_n 1, 1) := dk_43 (dk_at dksX2_init_2_6 18 rfl rfl)
theorem dX2_init_2_151 : decode cX2_init_2 151 = .ok (.getfield 64, 3) := dk_180 0 64 (dk_at dksX2_init_2_6 19 rfl rfl)
theorem dX2_init_2_154 : decode cX2_init_2 154 = .ok (.putfield 64, 3) := dk_181 0 64 (dk_at dksX2_init_2_7 0 rfl rfl)
theorem dX2_init_2_157 : decode cX2_init_2 157 = .ok (.aload_n 0, 1) := dk_42 (dk_at dksX2_init_2_7 3 rfl rfl)
theorem dX2_init_2_158 : decode cX2_init_2 158 = .ok (.aload_n 1, 1) := dk_43 (dk_at dksX2_init_2_7 4 rfl rfl)
theorem dX2_init_2_159 : decode cX2_init_2 159 = .ok (.getfield 67, 3) := dk_180 0 67 (dk_at dksX2_init_2_7 5 rfl rfl)
theorem dX2_init_2_162 : decode cX2_init_2 162 = .ok (.putfield 67, 3) := dk_181 0 67 (dk_at dksX2_init_2_7 8 rfl rfl)
theorem dX2_init_2_165 : decode cX2_init_2 165 = .ok (.aload_n 0, 1) := dk_42 (dk_at dksX2_init_2_7 11 rfl rfl)
theorem dX2_init_2_166 : decode cX2_init_2 166 = .ok (.aload_n 1, 1) := dk_43 (dk_at dksX2_init_2_7 12 rfl rfl)
theorem dX2_init_2_167 : decode cX2_init_2 167 = .ok (.getfield 70, 3) := dk_180 0 70 (dk_at dksX2_init_2_7 13 rfl rfl)
theorem dX2_init_2_170 : decode cX2_init_2 170 = .ok (.putfield 70, 3) := dk_181 0 70 (dk_at dksX2_init_2_7 16 rfl rfl)
theorem dX2_init_2_173 : decode cX2_init_2 173 = .ok (.return_, 1) := dk_177 (dk_at dksX2_init_2_7 19 rfl rfl)
abbrev cX2_setRock : ByteArray := prog_17_method_15_code
def yX2_setRock : MethodName := ⟨RX2, "setRock", "(ILFlintMine$Chalk;)I"⟩
def dkwX2_setRock_0 : List UInt8 := [42, 27, 182, 0, 142, 78, 42, 180, 0, 11, 27, 44, 83, 44, 182, 0, 146, 172]
abbrev dktX2_setRock_0 : List UInt8 := dkwX2_setRock_0 ++ []
theorem dksX2_setRock_0 : cX2_setRock.data.toList.drop 0 = dktX2_setRock_0 := by decide +kernel
theorem dX2_setRock_0 : decode cX2_setRock 0 = .ok (.aload_n 0, 1) := dk_42 (dk_at dksX2_setRock_0 0 rfl rfl)
theorem dX2_setRock_1 : decode cX2_setRock 1 = .ok (.iload_n 1, 1) := dk_27 (dk_at dksX2_setRock_0 1 rfl rfl)
theorem dX2_setRock_2 : decode cX2_setRock 2 = .ok (.invokevirtual 142, 3) := dk_182 0 142 (dk_at dksX2_setRock_0 2 rfl rfl)
theorem dX2_setRock_5 : decode cX2_setRock 5 = .ok (.astore_n 3, 1) := dk_78 (dk_at dksX2_setRock_0 5 rfl rfl)
theorem dX2_setRock_6 : decode cX2_setRock 6 = .ok (.aload_n 0, 1) := dk_42 (dk_at dksX2_setRock_0 6 rfl rfl)
theorem dX2_setRock_7 : decode cX2_setRock 7 = .ok (.getfield 11, 3) := dk_180 0 11 (dk_at dksX2_setRock_0 7 rfl rfl)
theorem dX2_setRock_10 : decode cX2_setRock 10 = .ok (.iload_n 1, 1) := dk_27 (dk_at dksX2_setRock_0 10 rfl rfl)
theorem dX2_setRock_11 : decode cX2_setRock 11 = .ok (.aload_n 2, 1) := dk_44 (dk_at dksX2_setRock_0 11 rfl rfl)
theorem dX2_setRock_12 : decode cX2_setRock 12 = .ok (.aastore, 1) := dk_83 (dk_at dksX2_setRock_0 12 rfl rfl)
theorem dX2_setRock_13 : decode cX2_setRock 13 = .ok (.aload_n 2, 1) := dk_44 (dk_at dksX2_setRock_0 13 rfl rfl)
theorem dX2_setRock_14 : decode cX2_setRock 14 = .ok (.invokevirtual 146, 3) := dk_182 0 146 (dk_at dksX2_setRock_0 14 rfl rfl)
theorem dX2_setRock_17 : decode cX2_setRock 17 = .ok (.ireturn, 1) := dk_172 (dk_at dksX2_setRock_0 17 rfl rfl)
abbrev cX2_chalk : ByteArray := prog_17_method_4_code
def yX2_chalk : MethodName := ⟨RX2, "chalk", "(I)LFlintMine$Chalk;"⟩
def dkwX2_chalk_1 : List UInt8 := [89, 4, 27, 183, 0, 91, 191]
abbrev dktX2_chalk_1 : List UInt8 := dkwX2_chalk_1 ++ []
def dkwX2_chalk_0 : List UInt8 := [42, 180, 0, 11, 27, 50, 78, 45, 193, 0, 31, 153, 0, 10, 45, 192, 0, 31, 77, 44, 176, 187, 0, 89]
abbrev dktX2_chalk_0 : List UInt8 := dkwX2_chalk_0 ++ dktX2_chalk_1
theorem dksX2_chalk_0 : cX2_chalk.data.toList.drop 0 = dktX2_chalk_0 := by decide +kernel
theorem dksX2_chalk_1 : cX2_chalk.data.toList.drop 24 = dktX2_chalk_1 := dk_seg dksX2_chalk_0 24 rfl rfl
theorem dX2_chalk_0 : decode cX2_chalk 0 = .ok (.aload_n 0, 1) := dk_42 (dk_at dksX2_chalk_0 0 rfl rfl)
theorem dX2_chalk_1 : decode cX2_chalk 1 = .ok (.getfield 11, 3) := dk_180 0 11 (dk_at dksX2_chalk_0 1 rfl rfl)
theorem dX2_chalk_4 : decode cX2_chalk 4 = .ok (.iload_n 1, 1) := dk_27 (dk_at dksX2_chalk_0 4 rfl rfl)
theorem dX2_chalk_5 : decode cX2_chalk 5 = .ok (.aaload, 1) := dk_50 (dk_at dksX2_chalk_0 5 rfl rfl)
theorem dX2_chalk_6 : decode cX2_chalk 6 = .ok (.astore_n 3, 1) := dk_78 (dk_at dksX2_chalk_0 6 rfl rfl)
theorem dX2_chalk_7 : decode cX2_chalk 7 = .ok (.aload_n 3, 1) := dk_45 (dk_at dksX2_chalk_0 7 rfl rfl)
theorem dX2_chalk_8 : decode cX2_chalk 8 = .ok (.instanceof 31, 3) := dk_193 0 31 (dk_at dksX2_chalk_0 8 rfl rfl)
theorem dX2_chalk_11 : decode cX2_chalk 11 = .ok (.ifCond .eq 10, 3) := dk_153 0 10 (dk_at dksX2_chalk_0 11 rfl rfl)
theorem dX2_chalk_14 : decode cX2_chalk 14 = .ok (.aload_n 3, 1) := dk_45 (dk_at dksX2_chalk_0 14 rfl rfl)
theorem dX2_chalk_15 : decode cX2_chalk 15 = .ok (.checkcast 31, 3) := dk_192 0 31 (dk_at dksX2_chalk_0 15 rfl rfl)
theorem dX2_chalk_18 : decode cX2_chalk 18 = .ok (.astore_n 2, 1) := dk_77 (dk_at dksX2_chalk_0 18 rfl rfl)
theorem dX2_chalk_19 : decode cX2_chalk 19 = .ok (.aload_n 2, 1) := dk_44 (dk_at dksX2_chalk_0 19 rfl rfl)
theorem dX2_chalk_20 : decode cX2_chalk 20 = .ok (.areturn, 1) := dk_176 (dk_at dksX2_chalk_0 20 rfl rfl)
theorem dX2_chalk_21 : decode cX2_chalk 21 = .ok (.new 89, 3) := dk_187 0 89 (dk_at dksX2_chalk_0 21 rfl rfl)
theorem dX2_chalk_24 : decode cX2_chalk 24 = .ok (.dup, 1) := dk_89 (dk_at dksX2_chalk_1 0 rfl rfl)
theorem dX2_chalk_25 : decode cX2_chalk 25 = .ok (.iconst 1, 1) := dk_4 (dk_at dksX2_chalk_1 1 rfl rfl)
theorem dX2_chalk_26 : decode cX2_chalk 26 = .ok (.iload_n 1, 1) := dk_27 (dk_at dksX2_chalk_1 2 rfl rfl)
theorem dX2_chalk_27 : decode cX2_chalk 27 = .ok (.invokespecial 91, 3) := dk_183 0 91 (dk_at dksX2_chalk_1 3 rfl rfl)
theorem dX2_chalk_30 : decode cX2_chalk 30 = .ok (.athrow, 1) := dk_191 (dk_at dksX2_chalk_1 6 rfl rfl)
abbrev cX2_setRoof : ByteArray := prog_17_method_16_code
def yX2_setRoof : MethodName := ⟨RX2, "setRoof", "(I)I"⟩
def dkwX2_setRoof_1 : List UInt8 := [180, 0, 27, 61, 42, 27, 181, 0, 27, 28, 172]
abbrev dktX2_setRoof_1 : List UInt8 := dkwX2_setRoof_1 ++ []
def dkwX2_setRoof_0 : List UInt8 := [42, 182, 0, 148, 27, 163, 0, 7, 4, 167, 0, 4, 3, 7, 42, 182, 0, 148, 184, 0, 151, 42]
abbrev dktX2_setRoof_0 : List UInt8 := dkwX2_setRoof_0 ++ dktX2_setRoof_1
theorem dksX2_setRoof_0 : cX2_setRoof.data.toList.drop 0 = dktX2_setRoof_0 := by decide +kernel
theorem dksX2_setRoof_1 : cX2_setRoof.data.toList.drop 22 = dktX2_setRoof_1 := dk_seg dksX2_setRoof_0 22 rfl rfl
theorem dX2_setRoof_0 : decode cX2_setRoof 0 = .ok (.aload_n 0, 1) := dk_42 (dk_at dksX2_setRoof_0 0 rfl rfl)
theorem dX2_setRoof_1 : decode cX2_setRoof 1 = .ok (.invokevirtual 148, 3) := dk_182 0 148 (dk_at dksX2_setRoof_0 1 rfl rfl)
theorem dX2_setRoof_4 : decode cX2_setRoof 4 = .ok (.iload_n 1, 1) := dk_27 (dk_at dksX2_setRoof_0 4 rfl rfl)
theorem dX2_setRoof_5 : decode cX2_setRoof 5 = .ok (.if_icmp .gt 7, 3) := dk_163 0 7 (dk_at dksX2_setRoof_0 5 rfl rfl)
theorem dX2_setRoof_8 : decode cX2_setRoof 8 = .ok (.iconst 1, 1) := dk_4 (dk_at dksX2_setRoof_0 8 rfl rfl)
theorem dX2_setRoof_9 : decode cX2_setRoof 9 = .ok (.goto 4, 3) := dk_167 0 4 (dk_at dksX2_setRoof_0 9 rfl rfl)
theorem dX2_setRoof_12 : decode cX2_setRoof 12 = .ok (.iconst 0, 1) := dk_3 (dk_at dksX2_setRoof_0 12 rfl rfl)
theorem dX2_setRoof_13 : decode cX2_setRoof 13 = .ok (.iconst 4, 1) := dk_7 (dk_at dksX2_setRoof_0 13 rfl rfl)
theorem dX2_setRoof_14 : decode cX2_setRoof 14 = .ok (.aload_n 0, 1) := dk_42 (dk_at dksX2_setRoof_0 14 rfl rfl)
theorem dX2_setRoof_15 : decode cX2_setRoof 15 = .ok (.invokevirtual 148, 3) := dk_182 0 148 (dk_at dksX2_setRoof_0 15 rfl rfl)
theorem dX2_setRoof_18 : decode cX2_setRoof 18 = .ok (.invokestatic 151, 3) := dk_184 0 151 (dk_at dksX2_setRoof_0 18 rfl rfl)
theorem dX2_setRoof_21 : decode cX2_setRoof 21 = .ok (.aload_n 0, 1) := dk_42 (dk_at dksX2_setRoof_0 21 rfl rfl)
theorem dX2_setRoof_22 : decode cX2_setRoof 22 = .ok (.getfield 27, 3) := dk_180 0 27 (dk_at dksX2_setRoof_1 0 rfl rfl)
theorem dX2_setRoof_25 : decode cX2_setRoof 25 = .ok (.istore_n 2, 1) := dk_61 (dk_at dksX2_setRoof_1 3 rfl rfl)
theorem dX2_setRoof_26 : decode cX2_setRoof 26 = .ok (.aload_n 0, 1) := dk_42 (dk_at dksX2_setRoof_1 4 rfl rfl)
theorem dX2_setRoof_27 : decode cX2_setRoof 27 = .ok (.iload_n 1, 1) := dk_27 (dk_at dksX2_setRoof_1 5 rfl rfl)
theorem dX2_setRoof_28 : decode cX2_setRoof 28 = .ok (.putfield 27, 3) := dk_181 0 27 (dk_at dksX2_setRoof_1 6 rfl rfl)
theorem dX2_setRoof_31 : decode cX2_setRoof 31 = .ok (.iload_n 2, 1) := dk_28 (dk_at dksX2_setRoof_1 9 rfl rfl)
theorem dX2_setRoof_32 : decode cX2_setRoof 32 = .ok (.ireturn, 1) := dk_172 (dk_at dksX2_setRoof_1 10 rfl rfl)
abbrev cX2_addProps : ByteArray := prog_17_method_17_code
def yX2_addProps : MethodName := ⟨RX2, "addProps", "(I)I"⟩
def dkwX2_addProps_0 : List UInt8 := [42, 16, 99, 42, 180, 0, 64, 27, 96, 184, 0, 155, 181, 0, 64, 42, 180, 0, 64, 172]
abbrev dktX2_addProps_0 : List UInt8 := dkwX2_addProps_0 ++ []
theorem dksX2_addProps_0 : cX2_addProps.data.toList.drop 0 = dktX2_addProps_0 := by decide +kernel
theorem dX2_addProps_0 : decode cX2_addProps 0 = .ok (.aload_n 0, 1) := dk_42 (dk_at dksX2_addProps_0 0 rfl rfl)
theorem dX2_addProps_1 : decode cX2_addProps 1 = .ok (.bipush 99, 2) := dk_16 99 (dk_at dksX2_addProps_0 1 rfl rfl)
theorem dX2_addProps_3 : decode cX2_addProps 3 = .ok (.aload_n 0, 1) := dk_42 (dk_at dksX2_addProps_0 3 rfl rfl)
theorem dX2_addProps_4 : decode cX2_addProps 4 = .ok (.getfield 64, 3) := dk_180 0 64 (dk_at dksX2_addProps_0 4 rfl rfl)
theorem dX2_addProps_7 : decode cX2_addProps 7 = .ok (.iload_n 1, 1) := dk_27 (dk_at dksX2_addProps_0 7 rfl rfl)
theorem dX2_addProps_8 : decode cX2_addProps 8 = .ok (.iadd, 1) := dk_96 (dk_at dksX2_addProps_0 8 rfl rfl)
theorem dX2_addProps_9 : decode cX2_addProps 9 = .ok (.invokestatic 155, 3) := dk_184 0 155 (dk_at dksX2_addProps_0 9 rfl rfl)
theorem dX2_addProps_12 : decode cX2_addProps 12 = .ok (.putfield 64, 3) := dk_181 0 64 (dk_at dksX2_addProps_0 12 rfl rfl)
theorem dX2_addProps_15 : decode cX2_addProps 15 = .ok (.aload_n 0, 1) := dk_42 (dk_at dksX2_addProps_0 15 rfl rfl)
theorem dX2_addProps_16 : decode cX2_addProps 16 = .ok (.getfield 64, 3) := dk_180 0 64 (dk_at dksX2_addProps_0 16 rfl rfl)
theorem dX2_addProps_19 : decode cX2_addProps 19 = .ok (.ireturn, 1) := dk_172 (dk_at dksX2_addProps_0 19 rfl rfl)
abbrev cX2_addPick : ByteArray := prog_17_method_18_code
def yX2_addPick : MethodName := ⟨RX2, "addPick", "(I)I"⟩
def dkwX2_addPick_2 : List UInt8 := [185, 0, 73, 1, 0, 4, 100, 172]
abbrev dktX2_addPick_2 : List UInt8 := dkwX2_addPick_2 ++ []
def dkwX2_addPick_1 : List UInt8 := [184, 0, 151, 42, 180, 0, 24, 27, 184, 0, 131, 185, 0, 58, 2, 0, 87, 42, 180, 0, 24]
abbrev dktX2_addPick_1 : List UInt8 := dkwX2_addPick_1 ++ dktX2_addPick_2
def dkwX2_addPick_0 : List UInt8 := [42, 180, 0, 24, 185, 0, 73, 1, 0, 16, 6, 162, 0, 7, 4, 167, 0, 4, 3, 16, 8, 16, 6]
abbrev dktX2_addPick_0 : List UInt8 := dkwX2_addPick_0 ++ dktX2_addPick_1
theorem dksX2_addPick_0 : cX2_addPick.data.toList.drop 0 = dktX2_addPick_0 := by decide +kernel
theorem dksX2_addPick_1 : cX2_addPick.data.toList.drop 23 = dktX2_addPick_1 := dk_seg dksX2_addPick_0 23 rfl rfl
theorem dksX2_addPick_2 : cX2_addPick.data.toList.drop 44 = dktX2_addPick_2 := dk_seg dksX2_addPick_1 21 rfl rfl
theorem dX2_addPick_0 : decode cX2_addPick 0 = .ok (.aload_n 0, 1) := dk_42 (dk_at dksX2_addPick_0 0 rfl rfl)
theorem dX2_addPick_1 : decode cX2_addPick 1 = .ok (.getfield 24, 3) := dk_180 0 24 (dk_at dksX2_addPick_0 1 rfl rfl)
theorem dX2_addPick_4 : decode cX2_addPick 4 = .ok (.invokeinterface 73 1, 5) := by decide +kernel
theorem dX2_addPick_9 : decode cX2_addPick 9 = .ok (.bipush 6, 2) := dk_16 6 (dk_at dksX2_addPick_0 9 rfl rfl)
theorem dX2_addPick_11 : decode cX2_addPick 11 = .ok (.if_icmp .ge 7, 3) := dk_162 0 7 (dk_at dksX2_addPick_0 11 rfl rfl)
theorem dX2_addPick_14 : decode cX2_addPick 14 = .ok (.iconst 1, 1) := dk_4 (dk_at dksX2_addPick_0 14 rfl rfl)
theorem dX2_addPick_15 : decode cX2_addPick 15 = .ok (.goto 4, 3) := dk_167 0 4 (dk_at dksX2_addPick_0 15 rfl rfl)
theorem dX2_addPick_18 : decode cX2_addPick 18 = .ok (.iconst 0, 1) := dk_3 (dk_at dksX2_addPick_0 18 rfl rfl)
theorem dX2_addPick_19 : decode cX2_addPick 19 = .ok (.bipush 8, 2) := dk_16 8 (dk_at dksX2_addPick_0 19 rfl rfl)
theorem dX2_addPick_21 : decode cX2_addPick 21 = .ok (.bipush 6, 2) := dk_16 6 (dk_at dksX2_addPick_0 21 rfl rfl)
theorem dX2_addPick_23 : decode cX2_addPick 23 = .ok (.invokestatic 151, 3) := dk_184 0 151 (dk_at dksX2_addPick_1 0 rfl rfl)
theorem dX2_addPick_26 : decode cX2_addPick 26 = .ok (.aload_n 0, 1) := dk_42 (dk_at dksX2_addPick_1 3 rfl rfl)
theorem dX2_addPick_27 : decode cX2_addPick 27 = .ok (.getfield 24, 3) := dk_180 0 24 (dk_at dksX2_addPick_1 4 rfl rfl)
theorem dX2_addPick_30 : decode cX2_addPick 30 = .ok (.iload_n 1, 1) := dk_27 (dk_at dksX2_addPick_1 7 rfl rfl)
theorem dX2_addPick_31 : decode cX2_addPick 31 = .ok (.invokestatic 131, 3) := dk_184 0 131 (dk_at dksX2_addPick_1 8 rfl rfl)
theorem dX2_addPick_34 : decode cX2_addPick 34 = .ok (.invokeinterface 58 2, 5) := by decide +kernel
theorem dX2_addPick_39 : decode cX2_addPick 39 = .ok (.pop, 1) := dk_87 (dk_at dksX2_addPick_1 16 rfl rfl)
theorem dX2_addPick_40 : decode cX2_addPick 40 = .ok (.aload_n 0, 1) := dk_42 (dk_at dksX2_addPick_1 17 rfl rfl)
theorem dX2_addPick_41 : decode cX2_addPick 41 = .ok (.getfield 24, 3) := dk_180 0 24 (dk_at dksX2_addPick_1 18 rfl rfl)
theorem dX2_addPick_44 : decode cX2_addPick 44 = .ok (.invokeinterface 73 1, 5) := by decide +kernel
theorem dX2_addPick_49 : decode cX2_addPick 49 = .ok (.iconst 1, 1) := dk_4 (dk_at dksX2_addPick_2 5 rfl rfl)
theorem dX2_addPick_50 : decode cX2_addPick 50 = .ok (.isub, 1) := dk_100 (dk_at dksX2_addPick_2 6 rfl rfl)
theorem dX2_addPick_51 : decode cX2_addPick 51 = .ok (.ireturn, 1) := dk_172 (dk_at dksX2_addPick_2 7 rfl rfl)
abbrev cX2_sink : ByteArray := prog_17_method_21_code
def yX2_sink : MethodName := ⟨RX2, "sink", "(I)I"⟩
def dkwX2_sink_3 : List UInt8 := [27, 29, 183, 0, 181, 185, 0, 58, 2, 0, 87, 42, 180, 0, 20, 185, 0, 73, 1, 0, 4, 100, 172]
abbrev dktX2_sink_3 : List UInt8 := dkwX2_sink_3 ++ []
def dkwX2_sink_2 : List UInt8 := [180, 0, 20, 185, 0, 73, 1, 0, 3, 183, 0, 174, 182, 0, 177, 62, 42, 180, 0, 20, 187, 0, 56, 89]
abbrev dktX2_sink_2 : List UInt8 := dkwX2_sink_2 ++ dktX2_sink_3
def dkwX2_sink_1 : List UInt8 := [184, 0, 151, 42, 27, 182, 0, 142, 77, 42, 27, 2, 182, 0, 171, 42, 27, 187, 0, 94, 89, 42]
abbrev dktX2_sink_1 : List UInt8 := dkwX2_sink_1 ++ dktX2_sink_2
def dkwX2_sink_0 : List UInt8 := [42, 180, 0, 20, 185, 0, 73, 1, 0, 16, 8, 162, 0, 7, 4, 167, 0, 4, 3, 16, 8, 16, 8]
abbrev dktX2_sink_0 : List UInt8 := dkwX2_sink_0 ++ dktX2_sink_1
theorem dksX2_sink_0 : cX2_sink.data.toList.drop 0 = dktX2_sink_0 := by decide +kernel
theorem dksX2_sink_1 : cX2_sink.data.toList.drop 23 = dktX2_sink_1 := dk_seg dksX2_sink_0 23 rfl rfl
theorem dksX2_sink_2 : cX2_sink.data.toList.drop 45 = dktX2_sink_2 := dk_seg dksX2_sink_1 22 rfl rfl
theorem dksX2_sink_3 : cX2_sink.data.toList.drop 69 = dktX2_sink_3 := dk_seg dksX2_sink_2 24 rfl rfl
theorem dX2_sink_0 : decode cX2_sink 0 = .ok (.aload_n 0, 1) := dk_42 (dk_at dksX2_sink_0 0 rfl rfl)
theorem dX2_sink_1 : decode cX2_sink 1 = .ok (.getfield 20, 3) := dk_180 0 20 (dk_at dksX2_sink_0 1 rfl rfl)
theorem dX2_sink_4 : decode cX2_sink 4 = .ok (.invokeinterface 73 1, 5) := by decide +kernel
theorem dX2_sink_9 : decode cX2_sink 9 = .ok (.bipush 8, 2) := dk_16 8 (dk_at dksX2_sink_0 9 rfl rfl)
theorem dX2_sink_11 : decode cX2_sink 11 = .ok (.if_icmp .ge 7, 3) := dk_162 0 7 (dk_at dksX2_sink_0 11 rfl rfl)
theorem dX2_sink_14 : decode cX2_sink 14 = .ok (.iconst 1, 1) := dk_4 (dk_at dksX2_sink_0 14 rfl rfl)
theorem dX2_sink_15 : decode cX2_sink 15 = .ok (.goto 4, 3) := dk_167 0 4 (dk_at dksX2_sink_0 15 rfl rfl)
theorem dX2_sink_18 : decode cX2_sink 18 = .ok (.iconst 0, 1) := dk_3 (dk_at dksX2_sink_0 18 rfl rfl)
theorem dX2_sink_19 : decode cX2_sink 19 = .ok (.bipush 8, 2) := dk_16 8 (dk_at dksX2_sink_0 19 rfl rfl)
theorem dX2_sink_21 : decode cX2_sink 21 = .ok (.bipush 8, 2) := dk_16 8 (dk_at dksX2_sink_0 21 rfl rfl)
theorem dX2_sink_23 : decode cX2_sink 23 = .ok (.invokestatic 151, 3) := dk_184 0 151 (dk_at dksX2_sink_1 0 rfl rfl)
theorem dX2_sink_26 : decode cX2_sink 26 = .ok (.aload_n 0, 1) := dk_42 (dk_at dksX2_sink_1 3 rfl rfl)
theorem dX2_sink_27 : decode cX2_sink 27 = .ok (.iload_n 1, 1) := dk_27 (dk_at dksX2_sink_1 4 rfl rfl)
theorem dX2_sink_28 : decode cX2_sink 28 = .ok (.invokevirtual 142, 3) := dk_182 0 142 (dk_at dksX2_sink_1 5 rfl rfl)
theorem dX2_sink_31 : decode cX2_sink 31 = .ok (.astore_n 2, 1) := dk_77 (dk_at dksX2_sink_1 8 rfl rfl)
theorem dX2_sink_32 : decode cX2_sink 32 = .ok (.aload_n 0, 1) := dk_42 (dk_at dksX2_sink_1 9 rfl rfl)
theorem dX2_sink_33 : decode cX2_sink 33 = .ok (.iload_n 1, 1) := dk_27 (dk_at dksX2_sink_1 10 rfl rfl)
theorem dX2_sink_34 : decode cX2_sink 34 = .ok (.iconst (-1), 1) := dk_2 (dk_at dksX2_sink_1 11 rfl rfl)
theorem dX2_sink_35 : decode cX2_sink 35 = .ok (.invokevirtual 171, 3) := dk_182 0 171 (dk_at dksX2_sink_1 12 rfl rfl)
theorem dX2_sink_38 : decode cX2_sink 38 = .ok (.aload_n 0, 1) := dk_42 (dk_at dksX2_sink_1 15 rfl rfl)
theorem dX2_sink_39 : decode cX2_sink 39 = .ok (.iload_n 1, 1) := dk_27 (dk_at dksX2_sink_1 16 rfl rfl)
theorem dX2_sink_40 : decode cX2_sink 40 = .ok (.new 94, 3) := dk_187 0 94 (dk_at dksX2_sink_1 17 rfl rfl)
theorem dX2_sink_43 : decode cX2_sink 43 = .ok (.dup, 1) := dk_89 (dk_at dksX2_sink_1 20 rfl rfl)
theorem dX2_sink_44 : decode cX2_sink 44 = .ok (.aload_n 0, 1) := dk_42 (dk_at dksX2_sink_1 21 rfl rfl)
theorem dX2_sink_45 : decode cX2_sink 45 = .ok (.getfield 20, 3) := dk_180 0 20 (dk_at dksX2_sink_2 0 rfl rfl)
theorem dX2_sink_48 : decode cX2_sink 48 = .ok (.invokeinterface 73 1, 5) := by decide +kernel
theorem dX2_sink_53 : decode cX2_sink 53 = .ok (.iconst 0, 1) := dk_3 (dk_at dksX2_sink_2 8 rfl rfl)
theorem dX2_sink_54 : decode cX2_sink 54 = .ok (.invokespecial 174, 3) := dk_183 0 174 (dk_at dksX2_sink_2 9 rfl rfl)
theorem dX2_sink_57 : decode cX2_sink 57 = .ok (.invokevirtual 177, 3) := dk_182 0 177 (dk_at dksX2_sink_2 12 rfl rfl)
theorem dX2_sink_60 : decode cX2_sink 60 = .ok (.istore_n 3, 1) := dk_62 (dk_at dksX2_sink_2 15 rfl rfl)
theorem dX2_sink_61 : decode cX2_sink 61 = .ok (.aload_n 0, 1) := dk_42 (dk_at dksX2_sink_2 16 rfl rfl)
theorem dX2_sink_62 : decode cX2_sink 62 = .ok (.getfield 20, 3) := dk_180 0 20 (dk_at dksX2_sink_2 17 rfl rfl)
theorem dX2_sink_65 : decode cX2_sink 65 = .ok (.new 56, 3) := dk_187 0 56 (dk_at dksX2_sink_2 20 rfl rfl)
theorem dX2_sink_68 : decode cX2_sink 68 = .ok (.dup, 1) := dk_89 (dk_at dksX2_sink_2 23 rfl rfl)
theorem dX2_sink_69 : decode cX2_sink 69 = .ok (.iload_n 1, 1) := dk_27 (dk_at dksX2_sink_3 0 rfl rfl)
theorem dX2_sink_70 : decode cX2_sink 70 = .ok (.iload_n 3, 1) := dk_29 (dk_at dksX2_sink_3 1 rfl rfl)
theorem dX2_sink_71 : decode cX2_sink 71 = .ok (.invokespecial 181, 3) := dk_183 0 181 (dk_at dksX2_sink_3 2 rfl rfl)
theorem dX2_sink_74 : decode cX2_sink 74 = .ok (.invokeinterface 58 2, 5) := by decide +kernel
theorem dX2_sink_79 : decode cX2_sink 79 = .ok (.pop, 1) := dk_87 (dk_at dksX2_sink_3 10 rfl rfl)
theorem dX2_sink_80 : decode cX2_sink 80 = .ok (.aload_n 0, 1) := dk_42 (dk_at dksX2_sink_3 11 rfl rfl)
theorem dX2_sink_81 : decode cX2_sink 81 = .ok (.getfield 20, 3) := dk_180 0 20 (dk_at dksX2_sink_3 12 rfl rfl)
theorem dX2_sink_84 : decode cX2_sink 84 = .ok (.invokeinterface 73 1, 5) := by decide +kernel
theorem dX2_sink_89 : decode cX2_sink 89 = .ok (.iconst 1, 1) := dk_4 (dk_at dksX2_sink_3 20 rfl rfl)
theorem dX2_sink_90 : decode cX2_sink 90 = .ok (.isub, 1) := dk_100 (dk_at dksX2_sink_3 21 rfl rfl)
theorem dX2_sink_91 : decode cX2_sink 91 = .ok (.ireturn, 1) := dk_172 (dk_at dksX2_sink_3 22 rfl rfl)
abbrev cX2_allowMeeting : ByteArray := prog_17_method_20_code
def yX2_allowMeeting : MethodName := ⟨RX2, "allowMeeting", "(II)V"⟩
def dkwX2_allowMeeting_0 : List UInt8 := [42, 27, 28, 182, 0, 168, 62, 29, 2, 160, 0, 7, 4, 167, 0, 4, 3, 6, 29, 184, 0, 151, 177]
abbrev dktX2_allowMeeting_0 : List UInt8 := dkwX2_allowMeeting_0 ++ []
theorem dksX2_allowMeeting_0 : cX2_allowMeeting.data.toList.drop 0 = dktX2_allowMeeting_0 := by decide +kernel
theorem dX2_allowMeeting_0 : decode cX2_allowMeeting 0 = .ok (.aload_n 0, 1) := dk_42 (dk_at dksX2_allowMeeting_0 0 rfl rfl)
theorem dX2_allowMeeting_1 : decode cX2_allowMeeting 1 = .ok (.iload_n 1, 1) := dk_27 (dk_at dksX2_allowMeeting_0 1 rfl rfl)
theorem dX2_allowMeeting_2 : decode cX2_allowMeeting 2 = .ok (.iload_n 2, 1) := dk_28 (dk_at dksX2_allowMeeting_0 2 rfl rfl)
theorem dX2_allowMeeting_3 : decode cX2_allowMeeting 3 = .ok (.invokevirtual 168, 3) := dk_182 0 168 (dk_at dksX2_allowMeeting_0 3 rfl rfl)
theorem dX2_allowMeeting_6 : decode cX2_allowMeeting 6 = .ok (.istore_n 3, 1) := dk_62 (dk_at dksX2_allowMeeting_0 6 rfl rfl)
theorem dX2_allowMeeting_7 : decode cX2_allowMeeting 7 = .ok (.iload_n 3, 1) := dk_29 (dk_at dksX2_allowMeeting_0 7 rfl rfl)
theorem dX2_allowMeeting_8 : decode cX2_allowMeeting 8 = .ok (.iconst (-1), 1) := dk_2 (dk_at dksX2_allowMeeting_0 8 rfl rfl)
theorem dX2_allowMeeting_9 : decode cX2_allowMeeting 9 = .ok (.if_icmp .ne 7, 3) := dk_160 0 7 (dk_at dksX2_allowMeeting_0 9 rfl rfl)
theorem dX2_allowMeeting_12 : decode cX2_allowMeeting 12 = .ok (.iconst 1, 1) := dk_4 (dk_at dksX2_allowMeeting_0 12 rfl rfl)
theorem dX2_allowMeeting_13 : decode cX2_allowMeeting 13 = .ok (.goto 4, 3) := dk_167 0 4 (dk_at dksX2_allowMeeting_0 13 rfl rfl)
theorem dX2_allowMeeting_16 : decode cX2_allowMeeting 16 = .ok (.iconst 0, 1) := dk_3 (dk_at dksX2_allowMeeting_0 16 rfl rfl)
theorem dX2_allowMeeting_17 : decode cX2_allowMeeting 17 = .ok (.iconst 3, 1) := dk_6 (dk_at dksX2_allowMeeting_0 17 rfl rfl)
theorem dX2_allowMeeting_18 : decode cX2_allowMeeting 18 = .ok (.iload_n 3, 1) := dk_29 (dk_at dksX2_allowMeeting_0 18 rfl rfl)
theorem dX2_allowMeeting_19 : decode cX2_allowMeeting 19 = .ok (.invokestatic 151, 3) := dk_184 0 151 (dk_at dksX2_allowMeeting_0 19 rfl rfl)
theorem dX2_allowMeeting_22 : decode cX2_allowMeeting 22 = .ok (.return_, 1) := dk_177 (dk_at dksX2_allowMeeting_0 22 rfl rfl)
abbrev cX2_met : ByteArray := prog_17_method_7_code
def yX2_met : MethodName := ⟨RX2, "met", "(II)I"⟩
def dkwX2_met_1 : List UInt8 := [182, 0, 107, 153, 0, 5, 29, 172, 132, 3, 1, 167, 255, 224, 2, 172]
abbrev dktX2_met_1 : List UInt8 := dkwX2_met_1 ++ []
def dkwX2_met_0 : List UInt8 := [3, 62, 29, 42, 180, 0, 20, 185, 0, 73, 1, 0, 162, 0, 25, 29, 28, 159, 0, 14, 42, 27, 29]
abbrev dktX2_met_0 : List UInt8 := dkwX2_met_0 ++ dktX2_met_1
theorem dksX2_met_0 : cX2_met.data.toList.drop 0 = dktX2_met_0 := by decide +kernel
theorem dksX2_met_1 : cX2_met.data.toList.drop 23 = dktX2_met_1 := dk_seg dksX2_met_0 23 rfl rfl
theorem dX2_met_0 : decode cX2_met 0 = .ok (.iconst 0, 1) := dk_3 (dk_at dksX2_met_0 0 rfl rfl)
theorem dX2_met_1 : decode cX2_met 1 = .ok (.istore_n 3, 1) := dk_62 (dk_at dksX2_met_0 1 rfl rfl)
theorem dX2_met_2 : decode cX2_met 2 = .ok (.iload_n 3, 1) := dk_29 (dk_at dksX2_met_0 2 rfl rfl)
theorem dX2_met_3 : decode cX2_met 3 = .ok (.aload_n 0, 1) := dk_42 (dk_at dksX2_met_0 3 rfl rfl)
theorem dX2_met_4 : decode cX2_met 4 = .ok (.getfield 20, 3) := dk_180 0 20 (dk_at dksX2_met_0 4 rfl rfl)
theorem dX2_met_7 : decode cX2_met 7 = .ok (.invokeinterface 73 1, 5) := by decide +kernel
theorem dX2_met_12 : decode cX2_met 12 = .ok (.if_icmp .ge 25, 3) := dk_162 0 25 (dk_at dksX2_met_0 12 rfl rfl)
theorem dX2_met_15 : decode cX2_met 15 = .ok (.iload_n 3, 1) := dk_29 (dk_at dksX2_met_0 15 rfl rfl)
theorem dX2_met_16 : decode cX2_met 16 = .ok (.iload_n 2, 1) := dk_28 (dk_at dksX2_met_0 16 rfl rfl)
theorem dX2_met_17 : decode cX2_met 17 = .ok (.if_icmp .eq 14, 3) := dk_159 0 14 (dk_at dksX2_met_0 17 rfl rfl)
theorem dX2_met_20 : decode cX2_met 20 = .ok (.aload_n 0, 1) := dk_42 (dk_at dksX2_met_0 20 rfl rfl)
theorem dX2_met_21 : decode cX2_met 21 = .ok (.iload_n 1, 1) := dk_27 (dk_at dksX2_met_0 21 rfl rfl)
theorem dX2_met_22 : decode cX2_met 22 = .ok (.iload_n 3, 1) := dk_29 (dk_at dksX2_met_0 22 rfl rfl)
theorem dX2_met_23 : decode cX2_met 23 = .ok (.invokevirtual 107, 3) := dk_182 0 107 (dk_at dksX2_met_1 0 rfl rfl)
theorem dX2_met_26 : decode cX2_met 26 = .ok (.ifCond .eq 5, 3) := dk_153 0 5 (dk_at dksX2_met_1 3 rfl rfl)
theorem dX2_met_29 : decode cX2_met 29 = .ok (.iload_n 3, 1) := dk_29 (dk_at dksX2_met_1 6 rfl rfl)
theorem dX2_met_30 : decode cX2_met 30 = .ok (.ireturn, 1) := dk_172 (dk_at dksX2_met_1 7 rfl rfl)
theorem dX2_met_31 : decode cX2_met 31 = .ok (.iinc 3 1, 3) := dk_132 3 1 (dk_at dksX2_met_1 8 rfl rfl)
theorem dX2_met_34 : decode cX2_met 34 = .ok (.goto (-32), 3) := dk_167 255 224 (dk_at dksX2_met_1 11 rfl rfl)
theorem dX2_met_37 : decode cX2_met 37 = .ok (.iconst (-1), 1) := dk_2 (dk_at dksX2_met_1 14 rfl rfl)
theorem dX2_met_38 : decode cX2_met 38 = .ok (.ireturn, 1) := dk_172 (dk_at dksX2_met_1 15 rfl rfl)
abbrev cX2_isNextTo : ByteArray := prog_17_method_6_code
def yX2_isNextTo : MethodName := ⟨RX2, "isNextTo", "(II)Z"⟩
def dkwX2_isNextTo_1 : List UInt8 := [62, 132, 4, 1, 167, 255, 233, 29, 172]
abbrev dktX2_isNextTo_1 : List UInt8 := dkwX2_isNextTo_1 ++ []
def dkwX2_isNextTo_0 : List UInt8 := [3, 62, 3, 54, 4, 21, 4, 7, 162, 0, 23, 29, 42, 27, 21, 4, 184, 0, 99, 28, 182, 0, 103, 128]
abbrev dktX2_isNextTo_0 : List UInt8 := dkwX2_isNextTo_0 ++ dktX2_isNextTo_1
theorem dksX2_isNextTo_0 : cX2_isNextTo.data.toList.drop 0 = dktX2_isNextTo_0 := by decide +kernel
theorem dksX2_isNextTo_1 : cX2_isNextTo.data.toList.drop 24 = dktX2_isNextTo_1 := dk_seg dksX2_isNextTo_0 24 rfl rfl
theorem dX2_isNextTo_0 : decode cX2_isNextTo 0 = .ok (.iconst 0, 1) := dk_3 (dk_at dksX2_isNextTo_0 0 rfl rfl)
theorem dX2_isNextTo_1 : decode cX2_isNextTo 1 = .ok (.istore_n 3, 1) := dk_62 (dk_at dksX2_isNextTo_0 1 rfl rfl)
theorem dX2_isNextTo_2 : decode cX2_isNextTo 2 = .ok (.iconst 0, 1) := dk_3 (dk_at dksX2_isNextTo_0 2 rfl rfl)
theorem dX2_isNextTo_3 : decode cX2_isNextTo 3 = .ok (.istore 4, 2) := dk_54 4 (dk_at dksX2_isNextTo_0 3 rfl rfl)
theorem dX2_isNextTo_5 : decode cX2_isNextTo 5 = .ok (.iload 4, 2) := dk_21 4 (dk_at dksX2_isNextTo_0 5 rfl rfl)
theorem dX2_isNextTo_7 : decode cX2_isNextTo 7 = .ok (.iconst 4, 1) := dk_7 (dk_at dksX2_isNextTo_0 7 rfl rfl)
theorem dX2_isNextTo_8 : decode cX2_isNextTo 8 = .ok (.if_icmp .ge 23, 3) := dk_162 0 23 (dk_at dksX2_isNextTo_0 8 rfl rfl)
theorem dX2_isNextTo_11 : decode cX2_isNextTo 11 = .ok (.iload_n 3, 1) := dk_29 (dk_at dksX2_isNextTo_0 11 rfl rfl)
theorem dX2_isNextTo_12 : decode cX2_isNextTo 12 = .ok (.aload_n 0, 1) := dk_42 (dk_at dksX2_isNextTo_0 12 rfl rfl)
theorem dX2_isNextTo_13 : decode cX2_isNextTo 13 = .ok (.iload_n 1, 1) := dk_27 (dk_at dksX2_isNextTo_0 13 rfl rfl)
theorem dX2_isNextTo_14 : decode cX2_isNextTo 14 = .ok (.iload 4, 2) := dk_21 4 (dk_at dksX2_isNextTo_0 14 rfl rfl)
theorem dX2_isNextTo_16 : decode cX2_isNextTo 16 = .ok (.invokestatic 99, 3) := dk_184 0 99 (dk_at dksX2_isNextTo_0 16 rfl rfl)
theorem dX2_isNextTo_19 : decode cX2_isNextTo 19 = .ok (.iload_n 2, 1) := dk_28 (dk_at dksX2_isNextTo_0 19 rfl rfl)
theorem dX2_isNextTo_20 : decode cX2_isNextTo 20 = .ok (.invokevirtual 103, 3) := dk_182 0 103 (dk_at dksX2_isNextTo_0 20 rfl rfl)
theorem dX2_isNextTo_23 : decode cX2_isNextTo 23 = .ok (.ior, 1) := dk_128 (dk_at dksX2_isNextTo_0 23 rfl rfl)
theorem dX2_isNextTo_24 : decode cX2_isNextTo 24 = .ok (.istore_n 3, 1) := dk_62 (dk_at dksX2_isNextTo_1 0 rfl rfl)
theorem dX2_isNextTo_25 : decode cX2_isNextTo 25 = .ok (.iinc 4 1, 3) := dk_132 4 1 (dk_at dksX2_isNextTo_1 1 rfl rfl)
theorem dX2_isNextTo_28 : decode cX2_isNextTo 28 = .ok (.goto (-23), 3) := dk_167 255 233 (dk_at dksX2_isNextTo_1 4 rfl rfl)
theorem dX2_isNextTo_31 : decode cX2_isNextTo 31 = .ok (.iload_n 3, 1) := dk_29 (dk_at dksX2_isNextTo_1 7 rfl rfl)
theorem dX2_isNextTo_32 : decode cX2_isNextTo 32 = .ok (.ireturn, 1) := dk_172 (dk_at dksX2_isNextTo_1 8 rfl rfl)
abbrev cX2_isOpen : ByteArray := prog_17_method_5_code
def yX2_isOpen : MethodName := ⟨RX2, "isOpen", "(II)Z"⟩
def dkwX2_isOpen_1 : List UInt8 := [192, 0, 94, 78, 45, 180, 0, 96, 28, 160, 0, 7, 4, 167, 0, 4, 3, 172]
abbrev dktX2_isOpen_1 : List UInt8 := dkwX2_isOpen_1 ++ []
def dkwX2_isOpen_0 : List UInt8 := [27, 2, 159, 0, 37, 42, 180, 0, 11, 27, 50, 58, 4, 25, 4, 193, 0, 94, 153, 0, 21, 25, 4]
abbrev dktX2_isOpen_0 : List UInt8 := dkwX2_isOpen_0 ++ dktX2_isOpen_1
theorem dksX2_isOpen_0 : cX2_isOpen.data.toList.drop 0 = dktX2_isOpen_0 := by decide +kernel
theorem dksX2_isOpen_1 : cX2_isOpen.data.toList.drop 23 = dktX2_isOpen_1 := dk_seg dksX2_isOpen_0 23 rfl rfl
theorem dX2_isOpen_0 : decode cX2_isOpen 0 = .ok (.iload_n 1, 1) := dk_27 (dk_at dksX2_isOpen_0 0 rfl rfl)
theorem dX2_isOpen_1 : decode cX2_isOpen 1 = .ok (.iconst (-1), 1) := dk_2 (dk_at dksX2_isOpen_0 1 rfl rfl)
theorem dX2_isOpen_2 : decode cX2_isOpen 2 = .ok (.if_icmp .eq 37, 3) := dk_159 0 37 (dk_at dksX2_isOpen_0 2 rfl rfl)
theorem dX2_isOpen_5 : decode cX2_isOpen 5 = .ok (.aload_n 0, 1) := dk_42 (dk_at dksX2_isOpen_0 5 rfl rfl)
theorem dX2_isOpen_6 : decode cX2_isOpen 6 = .ok (.getfield 11, 3) := dk_180 0 11 (dk_at dksX2_isOpen_0 6 rfl rfl)
theorem dX2_isOpen_9 : decode cX2_isOpen 9 = .ok (.iload_n 1, 1) := dk_27 (dk_at dksX2_isOpen_0 9 rfl rfl)
theorem dX2_isOpen_10 : decode cX2_isOpen 10 = .ok (.aaload, 1) := dk_50 (dk_at dksX2_isOpen_0 10 rfl rfl)
theorem dX2_isOpen_11 : decode cX2_isOpen 11 = .ok (.astore 4, 2) := dk_58 4 (dk_at dksX2_isOpen_0 11 rfl rfl)
theorem dX2_isOpen_13 : decode cX2_isOpen 13 = .ok (.aload 4, 2) := dk_25 4 (dk_at dksX2_isOpen_0 13 rfl rfl)
theorem dX2_isOpen_15 : decode cX2_isOpen 15 = .ok (.instanceof 94, 3) := dk_193 0 94 (dk_at dksX2_isOpen_0 15 rfl rfl)
theorem dX2_isOpen_18 : decode cX2_isOpen 18 = .ok (.ifCond .eq 21, 3) := dk_153 0 21 (dk_at dksX2_isOpen_0 18 rfl rfl)
theorem dX2_isOpen_21 : decode cX2_isOpen 21 = .ok (.aload 4, 2) := dk_25 4 (dk_at dksX2_isOpen_0 21 rfl rfl)
theorem dX2_isOpen_23 : decode cX2_isOpen 23 = .ok (.checkcast 94, 3) := dk_192 0 94 (dk_at dksX2_isOpen_1 0 rfl rfl)
theorem dX2_isOpen_26 : decode cX2_isOpen 26 = .ok (.astore_n 3, 1) := dk_78 (dk_at dksX2_isOpen_1 3 rfl rfl)
theorem dX2_isOpen_27 : decode cX2_isOpen 27 = .ok (.aload_n 3, 1) := dk_45 (dk_at dksX2_isOpen_1 4 rfl rfl)
theorem dX2_isOpen_28 : decode cX2_isOpen 28 = .ok (.getfield 96, 3) := dk_180 0 96 (dk_at dksX2_isOpen_1 5 rfl rfl)
theorem dX2_isOpen_31 : decode cX2_isOpen 31 = .ok (.iload_n 2, 1) := dk_28 (dk_at dksX2_isOpen_1 8 rfl rfl)
theorem dX2_isOpen_32 : decode cX2_isOpen 32 = .ok (.if_icmp .ne 7, 3) := dk_160 0 7 (dk_at dksX2_isOpen_1 9 rfl rfl)
theorem dX2_isOpen_35 : decode cX2_isOpen 35 = .ok (.iconst 1, 1) := dk_4 (dk_at dksX2_isOpen_1 12 rfl rfl)
theorem dX2_isOpen_36 : decode cX2_isOpen 36 = .ok (.goto 4, 3) := dk_167 0 4 (dk_at dksX2_isOpen_1 13 rfl rfl)
theorem dX2_isOpen_39 : decode cX2_isOpen 39 = .ok (.iconst 0, 1) := dk_3 (dk_at dksX2_isOpen_1 16 rfl rfl)
theorem dX2_isOpen_40 : decode cX2_isOpen 40 = .ok (.ireturn, 1) := dk_172 (dk_at dksX2_isOpen_1 17 rfl rfl)
abbrev cX2_open : ByteArray := prog_17_method_19_code
def yX2_open : MethodName := ⟨RX2, "open", "(ILFlintMine$Open;)I"⟩
def dkwX2_open_2 : List UInt8 := [180, 0, 67, 4, 96, 181, 0, 67, 42, 180, 0, 11, 27, 44, 83, 45, 180, 0, 165, 172]
abbrev dktX2_open_2 : List UInt8 := dkwX2_open_2 ++ []
def dkwX2_open_1 : List UInt8 := [167, 0, 4, 3, 8, 45, 182, 0, 146, 184, 0, 151, 42, 21, 4, 45, 182, 0, 146, 182, 0, 162, 42, 89]
abbrev dktX2_open_1 : List UInt8 := dkwX2_open_1 ++ dktX2_open_2
def dkwX2_open_0 : List UInt8 := [42, 27, 182, 0, 142, 78, 42, 45, 182, 0, 146, 182, 0, 158, 54, 4, 21, 4, 2, 159, 0, 7, 4]
abbrev dktX2_open_0 : List UInt8 := dkwX2_open_0 ++ dktX2_open_1
theorem dksX2_open_0 : cX2_open.data.toList.drop 0 = dktX2_open_0 := by decide +kernel
theorem dksX2_open_1 : cX2_open.data.toList.drop 23 = dktX2_open_1 := dk_seg dksX2_open_0 23 rfl rfl
theorem dksX2_open_2 : cX2_open.data.toList.drop 47 = dktX2_open_2 := dk_seg dksX2_open_1 24 rfl rfl
theorem dX2_open_0 : decode cX2_open 0 = .ok (.aload_n 0, 1) := dk_42 (dk_at dksX2_open_0 0 rfl rfl)
theorem dX2_open_1 : decode cX2_open 1 = .ok (.iload_n 1, 1) := dk_27 (dk_at dksX2_open_0 1 rfl rfl)
theorem dX2_open_2 : decode cX2_open 2 = .ok (.invokevirtual 142, 3) := dk_182 0 142 (dk_at dksX2_open_0 2 rfl rfl)
theorem dX2_open_5 : decode cX2_open 5 = .ok (.astore_n 3, 1) := dk_78 (dk_at dksX2_open_0 5 rfl rfl)
theorem dX2_open_6 : decode cX2_open 6 = .ok (.aload_n 0, 1) := dk_42 (dk_at dksX2_open_0 6 rfl rfl)
theorem dX2_open_7 : decode cX2_open 7 = .ok (.aload_n 3, 1) := dk_45 (dk_at dksX2_open_0 7 rfl rfl)
theorem dX2_open_8 : decode cX2_open 8 = .ok (.invokevirtual 146, 3) := dk_182 0 146 (dk_at dksX2_open_0 8 rfl rfl)
theorem dX2_open_11 : decode cX2_open 11 = .ok (.invokevirtual 158, 3) := dk_182 0 158 (dk_at dksX2_open_0 11 rfl rfl)
theorem dX2_open_14 : decode cX2_open 14 = .ok (.istore 4, 2) := dk_54 4 (dk_at dksX2_open_0 14 rfl rfl)
theorem dX2_open_16 : decode cX2_open 16 = .ok (.iload 4, 2) := dk_21 4 (dk_at dksX2_open_0 16 rfl rfl)
theorem dX2_open_18 : decode cX2_open 18 = .ok (.iconst (-1), 1) := dk_2 (dk_at dksX2_open_0 18 rfl rfl)
theorem dX2_open_19 : decode cX2_open 19 = .ok (.if_icmp .eq 7, 3) := dk_159 0 7 (dk_at dksX2_open_0 19 rfl rfl)
theorem dX2_open_22 : decode cX2_open 22 = .ok (.iconst 1, 1) := dk_4 (dk_at dksX2_open_0 22 rfl rfl)
theorem dX2_open_23 : decode cX2_open 23 = .ok (.goto 4, 3) := dk_167 0 4 (dk_at dksX2_open_1 0 rfl rfl)
theorem dX2_open_26 : decode cX2_open 26 = .ok (.iconst 0, 1) := dk_3 (dk_at dksX2_open_1 3 rfl rfl)
theorem dX2_open_27 : decode cX2_open 27 = .ok (.iconst 5, 1) := dk_8 (dk_at dksX2_open_1 4 rfl rfl)
theorem dX2_open_28 : decode cX2_open 28 = .ok (.aload_n 3, 1) := dk_45 (dk_at dksX2_open_1 5 rfl rfl)
theorem dX2_open_29 : decode cX2_open 29 = .ok (.invokevirtual 146, 3) := dk_182 0 146 (dk_at dksX2_open_1 6 rfl rfl)
theorem dX2_open_32 : decode cX2_open 32 = .ok (.invokestatic 151, 3) := dk_184 0 151 (dk_at dksX2_open_1 9 rfl rfl)
theorem dX2_open_35 : decode cX2_open 35 = .ok (.aload_n 0, 1) := dk_42 (dk_at dksX2_open_1 12 rfl rfl)
theorem dX2_open_36 : decode cX2_open 36 = .ok (.iload 4, 2) := dk_21 4 (dk_at dksX2_open_1 13 rfl rfl)
theorem dX2_open_38 : decode cX2_open 38 = .ok (.aload_n 3, 1) := dk_45 (dk_at dksX2_open_1 15 rfl rfl)
theorem dX2_open_39 : decode cX2_open 39 = .ok (.invokevirtual 146, 3) := dk_182 0 146 (dk_at dksX2_open_1 16 rfl rfl)
theorem dX2_open_42 : decode cX2_open 42 = .ok (.invokevirtual 162, 3) := dk_182 0 162 (dk_at dksX2_open_1 19 rfl rfl)
theorem dX2_open_45 : decode cX2_open 45 = .ok (.aload_n 0, 1) := dk_42 (dk_at dksX2_open_1 22 rfl rfl)
theorem dX2_open_46 : decode cX2_open 46 = .ok (.dup, 1) := dk_89 (dk_at dksX2_open_1 23 rfl rfl)
theorem dX2_open_47 : decode cX2_open 47 = .ok (.getfield 67, 3) := dk_180 0 67 (dk_at dksX2_open_2 0 rfl rfl)
theorem dX2_open_50 : decode cX2_open 50 = .ok (.iconst 1, 1) := dk_4 (dk_at dksX2_open_2 3 rfl rfl)
theorem dX2_open_51 : decode cX2_open 51 = .ok (.iadd, 1) := dk_96 (dk_at dksX2_open_2 4 rfl rfl)
theorem dX2_open_52 : decode cX2_open 52 = .ok (.putfield 67, 3) := dk_181 0 67 (dk_at dksX2_open_2 5 rfl rfl)
theorem dX2_open_55 : decode cX2_open 55 = .ok (.aload_n 0, 1) := dk_42 (dk_at dksX2_open_2 8 rfl rfl)
theorem dX2_open_56 : decode cX2_open 56 = .ok (.getfield 11, 3) := dk_180 0 11 (dk_at dksX2_open_2 9 rfl rfl)
theorem dX2_open_59 : decode cX2_open 59 = .ok (.iload_n 1, 1) := dk_27 (dk_at dksX2_open_2 12 rfl rfl)
theorem dX2_open_60 : decode cX2_open 60 = .ok (.aload_n 2, 1) := dk_44 (dk_at dksX2_open_2 13 rfl rfl)
theorem dX2_open_61 : decode cX2_open 61 = .ok (.aastore, 1) := dk_83 (dk_at dksX2_open_2 14 rfl rfl)
theorem dX2_open_62 : decode cX2_open 62 = .ok (.aload_n 3, 1) := dk_45 (dk_at dksX2_open_2 15 rfl rfl)
theorem dX2_open_63 : decode cX2_open 63 = .ok (.getfield 165, 3) := dk_180 0 165 (dk_at dksX2_open_2 16 rfl rfl)
theorem dX2_open_66 : decode cX2_open 66 = .ok (.ireturn, 1) := dk_172 (dk_at dksX2_open_2 19 rfl rfl)
abbrev cX2_pickFor : ByteArray := prog_17_method_13_code
def yX2_pickFor : MethodName := ⟨RX2, "pickFor", "(I)I"⟩
def dkwX2_pickFor_4 : List UInt8 := [167, 0, 4, 28, 61, 132, 3, 1, 167, 255, 162, 28, 172]
abbrev dktX2_pickFor_4 : List UInt8 := dkwX2_pickFor_4 ++ []
def dkwX2_pickFor_3 : List UInt8 := [192, 0, 62, 182, 0, 128, 162, 0, 7, 4, 167, 0, 4, 3, 54, 4, 21, 4, 153, 0, 7, 29]
abbrev dktX2_pickFor_3 : List UInt8 := dkwX2_pickFor_3 ++ dktX2_pickFor_4
def dkwX2_pickFor_2 : List UInt8 := [29, 185, 0, 85, 2, 0, 192, 0, 62, 182, 0, 128, 42, 180, 0, 24, 28, 185, 0, 85, 2, 0]
abbrev dktX2_pickFor_2 : List UInt8 := dkwX2_pickFor_2 ++ dktX2_pickFor_3
def dkwX2_pickFor_1 : List UInt8 := [185, 0, 85, 2, 0, 192, 0, 62, 182, 0, 128, 27, 161, 0, 47, 28, 2, 159, 0, 38, 42, 180, 0, 24]
abbrev dktX2_pickFor_1 : List UInt8 := dkwX2_pickFor_1 ++ dktX2_pickFor_2
def dkwX2_pickFor_0 : List UInt8 := [2, 61, 3, 62, 29, 42, 180, 0, 24, 185, 0, 73, 1, 0, 162, 0, 87, 42, 180, 0, 24, 29]
abbrev dktX2_pickFor_0 : List UInt8 := dkwX2_pickFor_0 ++ dktX2_pickFor_1
theorem dksX2_pickFor_0 : cX2_pickFor.data.toList.drop 0 = dktX2_pickFor_0 := by decide +kernel
theorem dksX2_pickFor_1 : cX2_pickFor.data.toList.drop 22 = dktX2_pickFor_1 := dk_seg dksX2_pickFor_0 22 rfl rfl
theorem dksX2_pickFor_2 : cX2_pickFor.data.toList.drop 46 = dktX2_pickFor_2 := dk_seg dksX2_pickFor_1 24 rfl rfl
theorem dksX2_pickFor_3 : cX2_pickFor.data.toList.drop 68 = dktX2_pickFor_3 := dk_seg dksX2_pickFor_2 22 rfl rfl
theorem dksX2_pickFor_4 : cX2_pickFor.data.toList.drop 90 = dktX2_pickFor_4 := dk_seg dksX2_pickFor_3 22 rfl rfl
theorem dX2_pickFor_0 : decode cX2_pickFor 0 = .ok (.iconst (-1), 1) := dk_2 (dk_at dksX2_pickFor_0 0 rfl rfl)
theorem dX2_pickFor_1 : decode cX2_pickFor 1 = .ok (.istore_n 2, 1) := dk_61 (dk_at dksX2_pickFor_0 1 rfl rfl)
theorem dX2_pickFor_2 : decode cX2_pickFor 2 = .ok (.iconst 0, 1) := dk_3 (dk_at dksX2_pickFor_0 2 rfl rfl)
theorem dX2_pickFor_3 : decode cX2_pickFor 3 = .ok (.istore_n 3, 1) := dk_62 (dk_at dksX2_pickFor_0 3 rfl rfl)
theorem dX2_pickFor_4 : decode cX2_pickFor 4 = .ok (.iload_n 3, 1) := dk_29 (dk_at dksX2_pickFor_0 4 rfl rfl)
theorem dX2_pickFor_5 : decode cX2_pickFor 5 = .ok (.aload_n 0, 1) := dk_42 (dk_at dksX2_pickFor_0 5 rfl rfl)
theorem dX2_pickFor_6 : decode cX2_pickFor 6 = .ok (.getfield 24, 3) := dk_180 0 24 (dk_at dksX2_pickFor_0 6 rfl rfl)
theorem dX2_pickFor_9 : decode cX2_pickFor 9 = .ok (.invokeinterface 73 1, 5) := by decide +kernel
theorem dX2_pickFor_14 : decode cX2_pickFor 14 = .ok (.if_icmp .ge 87, 3) := dk_162 0 87 (dk_at dksX2_pickFor_0 14 rfl rfl)
theorem dX2_pickFor_17 : decode cX2_pickFor 17 = .ok (.aload_n 0, 1) := dk_42 (dk_at dksX2_pickFor_0 17 rfl rfl)
theorem dX2_pickFor_18 : decode cX2_pickFor 18 = .ok (.getfield 24, 3) := dk_180 0 24 (dk_at dksX2_pickFor_0 18 rfl rfl)
theorem dX2_pickFor_21 : decode cX2_pickFor 21 = .ok (.iload_n 3, 1) := dk_29 (dk_at dksX2_pickFor_0 21 rfl rfl)
theorem dX2_pickFor_22 : decode cX2_pickFor 22 = .ok (.invokeinterface 85 2, 5) := by decide +kernel
theorem dX2_pickFor_27 : decode cX2_pickFor 27 = .ok (.checkcast 62, 3) := dk_192 0 62 (dk_at dksX2_pickFor_1 5 rfl rfl)
theorem dX2_pickFor_30 : decode cX2_pickFor 30 = .ok (.invokevirtual 128, 3) := dk_182 0 128 (dk_at dksX2_pickFor_1 8 rfl rfl)
theorem dX2_pickFor_33 : decode cX2_pickFor 33 = .ok (.iload_n 1, 1) := dk_27 (dk_at dksX2_pickFor_1 11 rfl rfl)
theorem dX2_pickFor_34 : decode cX2_pickFor 34 = .ok (.if_icmp .lt 47, 3) := dk_161 0 47 (dk_at dksX2_pickFor_1 12 rfl rfl)
theorem dX2_pickFor_37 : decode cX2_pickFor 37 = .ok (.iload_n 2, 1) := dk_28 (dk_at dksX2_pickFor_1 15 rfl rfl)
theorem dX2_pickFor_38 : decode cX2_pickFor 38 = .ok (.iconst (-1), 1) := dk_2 (dk_at dksX2_pickFor_1 16 rfl rfl)
theorem dX2_pickFor_39 : decode cX2_pickFor 39 = .ok (.if_icmp .eq 38, 3) := dk_159 0 38 (dk_at dksX2_pickFor_1 17 rfl rfl)
theorem dX2_pickFor_42 : decode cX2_pickFor 42 = .ok (.aload_n 0, 1) := dk_42 (dk_at dksX2_pickFor_1 20 rfl rfl)
theorem dX2_pickFor_43 : decode cX2_pickFor 43 = .ok (.getfield 24, 3) := dk_180 0 24 (dk_at dksX2_pickFor_1 21 rfl rfl)
theorem dX2_pickFor_46 : decode cX2_pickFor 46 = .ok (.iload_n 3, 1) := dk_29 (dk_at dksX2_pickFor_2 0 rfl rfl)
theorem dX2_pickFor_47 : decode cX2_pickFor 47 = .ok (.invokeinterface 85 2, 5) := by decide +kernel
theorem dX2_pickFor_52 : decode cX2_pickFor 52 = .ok (.checkcast 62, 3) := dk_192 0 62 (dk_at dksX2_pickFor_2 6 rfl rfl)
theorem dX2_pickFor_55 : decode cX2_pickFor 55 = .ok (.invokevirtual 128, 3) := dk_182 0 128 (dk_at dksX2_pickFor_2 9 rfl rfl)
theorem dX2_pickFor_58 : decode cX2_pickFor 58 = .ok (.aload_n 0, 1) := dk_42 (dk_at dksX2_pickFor_2 12 rfl rfl)
theorem dX2_pickFor_59 : decode cX2_pickFor 59 = .ok (.getfield 24, 3) := dk_180 0 24 (dk_at dksX2_pickFor_2 13 rfl rfl)
theorem dX2_pickFor_62 : decode cX2_pickFor 62 = .ok (.iload_n 2, 1) := dk_28 (dk_at dksX2_pickFor_2 16 rfl rfl)
theorem dX2_pickFor_63 : decode cX2_pickFor 63 = .ok (.invokeinterface 85 2, 5) := by decide +kernel
theorem dX2_pickFor_68 : decode cX2_pickFor 68 = .ok (.checkcast 62, 3) := dk_192 0 62 (dk_at dksX2_pickFor_3 0 rfl rfl)
theorem dX2_pickFor_71 : decode cX2_pickFor 71 = .ok (.invokevirtual 128, 3) := dk_182 0 128 (dk_at dksX2_pickFor_3 3 rfl rfl)
theorem dX2_pickFor_74 : decode cX2_pickFor 74 = .ok (.if_icmp .ge 7, 3) := dk_162 0 7 (dk_at dksX2_pickFor_3 6 rfl rfl)
theorem dX2_pickFor_77 : decode cX2_pickFor 77 = .ok (.iconst 1, 1) := dk_4 (dk_at dksX2_pickFor_3 9 rfl rfl)
theorem dX2_pickFor_78 : decode cX2_pickFor 78 = .ok (.goto 4, 3) := dk_167 0 4 (dk_at dksX2_pickFor_3 10 rfl rfl)
theorem dX2_pickFor_81 : decode cX2_pickFor 81 = .ok (.iconst 0, 1) := dk_3 (dk_at dksX2_pickFor_3 13 rfl rfl)
theorem dX2_pickFor_82 : decode cX2_pickFor 82 = .ok (.istore 4, 2) := dk_54 4 (dk_at dksX2_pickFor_3 14 rfl rfl)
theorem dX2_pickFor_84 : decode cX2_pickFor 84 = .ok (.iload 4, 2) := dk_21 4 (dk_at dksX2_pickFor_3 16 rfl rfl)
theorem dX2_pickFor_86 : decode cX2_pickFor 86 = .ok (.ifCond .eq 7, 3) := dk_153 0 7 (dk_at dksX2_pickFor_3 18 rfl rfl)
theorem dX2_pickFor_89 : decode cX2_pickFor 89 = .ok (.iload_n 3, 1) := dk_29 (dk_at dksX2_pickFor_3 21 rfl rfl)
theorem dX2_pickFor_90 : decode cX2_pickFor 90 = .ok (.goto 4, 3) := dk_167 0 4 (dk_at dksX2_pickFor_4 0 rfl rfl)
theorem dX2_pickFor_93 : decode cX2_pickFor 93 = .ok (.iload_n 2, 1) := dk_28 (dk_at dksX2_pickFor_4 3 rfl rfl)
theorem dX2_pickFor_94 : decode cX2_pickFor 94 = .ok (.istore_n 2, 1) := dk_61 (dk_at dksX2_pickFor_4 4 rfl rfl)
theorem dX2_pickFor_95 : decode cX2_pickFor 95 = .ok (.iinc 3 1, 3) := dk_132 3 1 (dk_at dksX2_pickFor_4 5 rfl rfl)
theorem dX2_pickFor_98 : decode cX2_pickFor 98 = .ok (.goto (-94), 3) := dk_167 255 162 (dk_at dksX2_pickFor_4 8 rfl rfl)
theorem dX2_pickFor_101 : decode cX2_pickFor 101 = .ok (.iload_n 2, 1) := dk_28 (dk_at dksX2_pickFor_4 11 rfl rfl)
theorem dX2_pickFor_102 : decode cX2_pickFor 102 = .ok (.ireturn, 1) := dk_172 (dk_at dksX2_pickFor_4 12 rfl rfl)
abbrev cX2_wear : ByteArray := prog_17_method_14_code
def yX2_wear : MethodName := ⟨RX2, "wear", "(II)V"⟩
def dkwX2_wear_3 : List UInt8 := [177]
abbrev dktX2_wear_3 : List UInt8 := dkwX2_wear_3 ++ []
def dkwX2_wear_2 : List UInt8 := [180, 0, 24, 27, 185, 0, 139, 2, 0, 192, 0, 62, 58, 4, 42, 89, 180, 0, 70, 28, 96, 181, 0, 70]
abbrev dktX2_wear_2 : List UInt8 := dkwX2_wear_2 ++ dktX2_wear_3
def dkwX2_wear_1 : List UInt8 := [180, 0, 24, 27, 29, 184, 0, 131, 185, 0, 135, 3, 0, 192, 0, 62, 58, 4, 167, 0, 18, 42]
abbrev dktX2_wear_1 : List UInt8 := dkwX2_wear_1 ++ dktX2_wear_2
def dkwX2_wear_0 : List UInt8 := [42, 180, 0, 24, 27, 185, 0, 85, 2, 0, 192, 0, 62, 182, 0, 128, 28, 100, 62, 29, 158, 0, 25, 42]
abbrev dktX2_wear_0 : List UInt8 := dkwX2_wear_0 ++ dktX2_wear_1
theorem dksX2_wear_0 : cX2_wear.data.toList.drop 0 = dktX2_wear_0 := by decide +kernel
theorem dksX2_wear_1 : cX2_wear.data.toList.drop 24 = dktX2_wear_1 := dk_seg dksX2_wear_0 24 rfl rfl
theorem dksX2_wear_2 : cX2_wear.data.toList.drop 46 = dktX2_wear_2 := dk_seg dksX2_wear_1 22 rfl rfl
theorem dksX2_wear_3 : cX2_wear.data.toList.drop 70 = dktX2_wear_3 := dk_seg dksX2_wear_2 24 rfl rfl
theorem dX2_wear_0 : decode cX2_wear 0 = .ok (.aload_n 0, 1) := dk_42 (dk_at dksX2_wear_0 0 rfl rfl)
theorem dX2_wear_1 : decode cX2_wear 1 = .ok (.getfield 24, 3) := dk_180 0 24 (dk_at dksX2_wear_0 1 rfl rfl)
theorem dX2_wear_4 : decode cX2_wear 4 = .ok (.iload_n 1, 1) := dk_27 (dk_at dksX2_wear_0 4 rfl rfl)
theorem dX2_wear_5 : decode cX2_wear 5 = .ok (.invokeinterface 85 2, 5) := by decide +kernel
theorem dX2_wear_10 : decode cX2_wear 10 = .ok (.checkcast 62, 3) := dk_192 0 62 (dk_at dksX2_wear_0 10 rfl rfl)
theorem dX2_wear_13 : decode cX2_wear 13 = .ok (.invokevirtual 128, 3) := dk_182 0 128 (dk_at dksX2_wear_0 13 rfl rfl)
theorem dX2_wear_16 : decode cX2_wear 16 = .ok (.iload_n 2, 1) := dk_28 (dk_at dksX2_wear_0 16 rfl rfl)
theorem dX2_wear_17 : decode cX2_wear 17 = .ok (.isub, 1) := dk_100 (dk_at dksX2_wear_0 17 rfl rfl)
theorem dX2_wear_18 : decode cX2_wear 18 = .ok (.istore_n 3, 1) := dk_62 (dk_at dksX2_wear_0 18 rfl rfl)
theorem dX2_wear_19 : decode cX2_wear 19 = .ok (.iload_n 3, 1) := dk_29 (dk_at dksX2_wear_0 19 rfl rfl)
theorem dX2_wear_20 : decode cX2_wear 20 = .ok (.ifCond .le 25, 3) := dk_158 0 25 (dk_at dksX2_wear_0 20 rfl rfl)
theorem dX2_wear_23 : decode cX2_wear 23 = .ok (.aload_n 0, 1) := dk_42 (dk_at dksX2_wear_0 23 rfl rfl)
theorem dX2_wear_24 : decode cX2_wear 24 = .ok (.getfield 24, 3) := dk_180 0 24 (dk_at dksX2_wear_1 0 rfl rfl)
theorem dX2_wear_27 : decode cX2_wear 27 = .ok (.iload_n 1, 1) := dk_27 (dk_at dksX2_wear_1 3 rfl rfl)
theorem dX2_wear_28 : decode cX2_wear 28 = .ok (.iload_n 3, 1) := dk_29 (dk_at dksX2_wear_1 4 rfl rfl)
theorem dX2_wear_29 : decode cX2_wear 29 = .ok (.invokestatic 131, 3) := dk_184 0 131 (dk_at dksX2_wear_1 5 rfl rfl)
theorem dX2_wear_32 : decode cX2_wear 32 = .ok (.invokeinterface 135 3, 5) := by decide +kernel
theorem dX2_wear_37 : decode cX2_wear 37 = .ok (.checkcast 62, 3) := dk_192 0 62 (dk_at dksX2_wear_1 13 rfl rfl)
theorem dX2_wear_40 : decode cX2_wear 40 = .ok (.astore 4, 2) := dk_58 4 (dk_at dksX2_wear_1 16 rfl rfl)
theorem dX2_wear_42 : decode cX2_wear 42 = .ok (.goto 18, 3) := dk_167 0 18 (dk_at dksX2_wear_1 18 rfl rfl)
theorem dX2_wear_45 : decode cX2_wear 45 = .ok (.aload_n 0, 1) := dk_42 (dk_at dksX2_wear_1 21 rfl rfl)
theorem dX2_wear_46 : decode cX2_wear 46 = .ok (.getfield 24, 3) := dk_180 0 24 (dk_at dksX2_wear_2 0 rfl rfl)
theorem dX2_wear_49 : decode cX2_wear 49 = .ok (.iload_n 1, 1) := dk_27 (dk_at dksX2_wear_2 3 rfl rfl)
theorem dX2_wear_50 : decode cX2_wear 50 = .ok (.invokeinterface 139 2, 5) := by decide +kernel
theorem dX2_wear_55 : decode cX2_wear 55 = .ok (.checkcast 62, 3) := dk_192 0 62 (dk_at dksX2_wear_2 9 rfl rfl)
theorem dX2_wear_58 : decode cX2_wear 58 = .ok (.astore 4, 2) := dk_58 4 (dk_at dksX2_wear_2 12 rfl rfl)
theorem dX2_wear_60 : decode cX2_wear 60 = .ok (.aload_n 0, 1) := dk_42 (dk_at dksX2_wear_2 14 rfl rfl)
theorem dX2_wear_61 : decode cX2_wear 61 = .ok (.dup, 1) := dk_89 (dk_at dksX2_wear_2 15 rfl rfl)
theorem dX2_wear_62 : decode cX2_wear 62 = .ok (.getfield 70, 3) := dk_180 0 70 (dk_at dksX2_wear_2 16 rfl rfl)
theorem dX2_wear_65 : decode cX2_wear 65 = .ok (.iload_n 2, 1) := dk_28 (dk_at dksX2_wear_2 19 rfl rfl)
theorem dX2_wear_66 : decode cX2_wear 66 = .ok (.iadd, 1) := dk_96 (dk_at dksX2_wear_2 20 rfl rfl)
theorem dX2_wear_67 : decode cX2_wear 67 = .ok (.putfield 70, 3) := dk_181 0 70 (dk_at dksX2_wear_2 21 rfl rfl)
theorem dX2_wear_70 : decode cX2_wear 70 = .ok (.return_, 1) := dk_177 (dk_at dksX2_wear_3 0 rfl rfl)
abbrev cX2_dig : ByteArray := prog_17_method_22_code
def yX2_dig : MethodName := ⟨RX2, "dig", "(IIZ)I"⟩
def dkwX2_dig_7 : List UInt8 := [21, 7, 182, 0, 196, 185, 0, 135, 3, 0, 192, 0, 56, 58, 8, 21, 7, 172]
abbrev dktX2_dig_7 : List UInt8 := dkwX2_dig_7 ++ []
def dkwX2_dig_6 : List UInt8 := [180, 0, 64, 29, 153, 0, 7, 4, 167, 0, 4, 3, 100, 181, 0, 64, 42, 180, 0, 20, 27, 25, 4]
abbrev dktX2_dig_6 : List UInt8 := dkwX2_dig_6 ++ dktX2_dig_7
def dkwX2_dig_5 : List UInt8 := [184, 0, 151, 42, 21, 5, 187, 0, 94, 89, 27, 29, 183, 0, 174, 182, 0, 177, 54, 7, 42, 89]
abbrev dktX2_dig_5 : List UInt8 := dkwX2_dig_5 ++ dktX2_dig_6
def dkwX2_dig_4 : List UInt8 := [182, 0, 193, 42, 180, 0, 27, 163, 0, 7, 4, 167, 0, 4, 3, 7, 42, 21, 5, 182, 0, 193]
abbrev dktX2_dig_4 : List UInt8 := dkwX2_dig_4 ++ dktX2_dig_5
def dkwX2_dig_3 : List UInt8 := [180, 0, 64, 158, 0, 7, 4, 167, 0, 4, 3, 16, 7, 3, 184, 0, 151, 29, 154, 0, 16, 42, 21, 5]
abbrev dktX2_dig_3 : List UInt8 := dkwX2_dig_3 ++ dktX2_dig_4
def dkwX2_dig_2 : List UInt8 := [21, 5, 27, 182, 0, 107, 5, 21, 5, 184, 0, 151, 42, 21, 5, 27, 182, 0, 171, 29, 153, 0, 10, 42]
abbrev dktX2_dig_2 : List UInt8 := dkwX2_dig_2 ++ dktX2_dig_3
def dkwX2_dig_1 : List UInt8 := [154, 0, 7, 4, 167, 0, 4, 3, 16, 6, 27, 184, 0, 151, 42, 21, 5, 182, 0, 142, 58, 6, 42]
abbrev dktX2_dig_1 : List UInt8 := dkwX2_dig_1 ++ dktX2_dig_2
def dkwX2_dig_0 : List UInt8 := [42, 27, 182, 0, 182, 58, 4, 4, 188, 10, 89, 3, 28, 79, 184, 0, 185, 54, 5, 25, 4, 180, 0, 189]
abbrev dktX2_dig_0 : List UInt8 := dkwX2_dig_0 ++ dktX2_dig_1
theorem dksX2_dig_0 : cX2_dig.data.toList.drop 0 = dktX2_dig_0 := by decide +kernel
theorem dksX2_dig_1 : cX2_dig.data.toList.drop 24 = dktX2_dig_1 := dk_seg dksX2_dig_0 24 rfl rfl
theorem dksX2_dig_2 : cX2_dig.data.toList.drop 47 = dktX2_dig_2 := dk_seg dksX2_dig_1 23 rfl rfl
theorem dksX2_dig_3 : cX2_dig.data.toList.drop 71 = dktX2_dig_3 := dk_seg dksX2_dig_2 24 rfl rfl
theorem dksX2_dig_4 : cX2_dig.data.toList.drop 95 = dktX2_dig_4 := dk_seg dksX2_dig_3 24 rfl rfl
theorem dksX2_dig_5 : cX2_dig.data.toList.drop 117 = dktX2_dig_5 := dk_seg dksX2_dig_4 22 rfl rfl
theorem dksX2_dig_6 : cX2_dig.data.toList.drop 139 = dktX2_dig_6 := dk_seg dksX2_dig_5 22 rfl rfl
theorem dksX2_dig_7 : cX2_dig.data.toList.drop 162 = dktX2_dig_7 := dk_seg dksX2_dig_6 23 rfl rfl
theorem dX2_dig_0 : decode cX2_dig 0 = .ok (.aload_n 0, 1) := dk_42 (dk_at dksX2_dig_0 0 rfl rfl)
theorem dX2_dig_1 : decode cX2_dig 1 = .ok (.iload_n 1, 1) := dk_27 (dk_at dksX2_dig_0 1 rfl rfl)
theorem dX2_dig_2 : decode cX2_dig 2 = .ok (.invokevirtual 182, 3) := dk_182 0 182 (dk_at dksX2_dig_0 2 rfl rfl)
theorem dX2_dig_5 : decode cX2_dig 5 = .ok (.astore 4, 2) := dk_58 4 (dk_at dksX2_dig_0 5 rfl rfl)
theorem dX2_dig_7 : decode cX2_dig 7 = .ok (.iconst 1, 1) := dk_4 (dk_at dksX2_dig_0 7 rfl rfl)
theorem dX2_dig_8 : decode cX2_dig 8 = .ok (.newarray .int, 2) := dk_188_10 (dk_at dksX2_dig_0 8 rfl rfl)
theorem dX2_dig_10 : decode cX2_dig 10 = .ok (.dup, 1) := dk_89 (dk_at dksX2_dig_0 10 rfl rfl)
theorem dX2_dig_11 : decode cX2_dig 11 = .ok (.iconst 0, 1) := dk_3 (dk_at dksX2_dig_0 11 rfl rfl)
theorem dX2_dig_12 : decode cX2_dig 12 = .ok (.iload_n 2, 1) := dk_28 (dk_at dksX2_dig_0 12 rfl rfl)
theorem dX2_dig_13 : decode cX2_dig 13 = .ok (.iastore, 1) := dk_79 (dk_at dksX2_dig_0 13 rfl rfl)
theorem dX2_dig_14 : decode cX2_dig 14 = .ok (.invokestatic 185, 3) := dk_184 0 185 (dk_at dksX2_dig_0 14 rfl rfl)
theorem dX2_dig_17 : decode cX2_dig 17 = .ok (.istore 5, 2) := dk_54 5 (dk_at dksX2_dig_0 17 rfl rfl)
theorem dX2_dig_19 : decode cX2_dig 19 = .ok (.aload 4, 2) := dk_25 4 (dk_at dksX2_dig_0 19 rfl rfl)
theorem dX2_dig_21 : decode cX2_dig 21 = .ok (.getfield 189, 3) := dk_180 0 189 (dk_at dksX2_dig_0 21 rfl rfl)
theorem dX2_dig_24 : decode cX2_dig 24 = .ok (.ifCond .ne 7, 3) := dk_154 0 7 (dk_at dksX2_dig_1 0 rfl rfl)
theorem dX2_dig_27 : decode cX2_dig 27 = .ok (.iconst 1, 1) := dk_4 (dk_at dksX2_dig_1 3 rfl rfl)
theorem dX2_dig_28 : decode cX2_dig 28 = .ok (.goto 4, 3) := dk_167 0 4 (dk_at dksX2_dig_1 4 rfl rfl)
theorem dX2_dig_31 : decode cX2_dig 31 = .ok (.iconst 0, 1) := dk_3 (dk_at dksX2_dig_1 7 rfl rfl)
theorem dX2_dig_32 : decode cX2_dig 32 = .ok (.bipush 6, 2) := dk_16 6 (dk_at dksX2_dig_1 8 rfl rfl)
theorem dX2_dig_34 : decode cX2_dig 34 = .ok (.iload_n 1, 1) := dk_27 (dk_at dksX2_dig_1 10 rfl rfl)
theorem dX2_dig_35 : decode cX2_dig 35 = .ok (.invokestatic 151, 3) := dk_184 0 151 (dk_at dksX2_dig_1 11 rfl rfl)
theorem dX2_dig_38 : decode cX2_dig 38 = .ok (.aload_n 0, 1) := dk_42 (dk_at dksX2_dig_1 14 rfl rfl)
theorem dX2_dig_39 : decode cX2_dig 39 = .ok (.iload 5, 2) := dk_21 5 (dk_at dksX2_dig_1 15 rfl rfl)
theorem dX2_dig_41 : decode cX2_dig 41 = .ok (.invokevirtual 142, 3) := dk_182 0 142 (dk_at dksX2_dig_1 17 rfl rfl)
theorem dX2_dig_44 : decode cX2_dig 44 = .ok (.astore 6, 2) := dk_58 6 (dk_at dksX2_dig_1 20 rfl rfl)
theorem dX2_dig_46 : decode cX2_dig 46 = .ok (.aload_n 0, 1) := dk_42 (dk_at dksX2_dig_1 22 rfl rfl)
theorem dX2_dig_47 : decode cX2_dig 47 = .ok (.iload 5, 2) := dk_21 5 (dk_at dksX2_dig_2 0 rfl rfl)
theorem dX2_dig_49 : decode cX2_dig 49 = .ok (.iload_n 1, 1) := dk_27 (dk_at dksX2_dig_2 2 rfl rfl)
theorem dX2_dig_50 : decode cX2_dig 50 = .ok (.invokevirtual 107, 3) := dk_182 0 107 (dk_at dksX2_dig_2 3 rfl rfl)
theorem dX2_dig_53 : decode cX2_dig 53 = .ok (.iconst 2, 1) := dk_5 (dk_at dksX2_dig_2 6 rfl rfl)
theorem dX2_dig_54 : decode cX2_dig 54 = .ok (.iload 5, 2) := dk_21 5 (dk_at dksX2_dig_2 7 rfl rfl)
theorem dX2_dig_56 : decode cX2_dig 56 = .ok (.invokestatic 151, 3) := dk_184 0 151 (dk_at dksX2_dig_2 9 rfl rfl)
theorem dX2_dig_59 : decode cX2_dig 59 = .ok (.aload_n 0, 1) := dk_42 (dk_at dksX2_dig_2 12 rfl rfl)
theorem dX2_dig_60 : decode cX2_dig 60 = .ok (.iload 5, 2) := dk_21 5 (dk_at dksX2_dig_2 13 rfl rfl)
theorem dX2_dig_62 : decode cX2_dig 62 = .ok (.iload_n 1, 1) := dk_27 (dk_at dksX2_dig_2 15 rfl rfl)
theorem dX2_dig_63 : decode cX2_dig 63 = .ok (.invokevirtual 171, 3) := dk_182 0 171 (dk_at dksX2_dig_2 16 rfl rfl)
theorem dX2_dig_66 : decode cX2_dig 66 = .ok (.iload_n 3, 1) := dk_29 (dk_at dksX2_dig_2 19 rfl rfl)
theorem dX2_dig_67 : decode cX2_dig 67 = .ok (.ifCond .eq 10, 3) := dk_153 0 10 (dk_at dksX2_dig_2 20 rfl rfl)
theorem dX2_dig_70 : decode cX2_dig 70 = .ok (.aload_n 0, 1) := dk_42 (dk_at dksX2_dig_2 23 rfl rfl)
theorem dX2_dig_71 : decode cX2_dig 71 = .ok (.getfield 64, 3) := dk_180 0 64 (dk_at dksX2_dig_3 0 rfl rfl)
theorem dX2_dig_74 : decode cX2_dig 74 = .ok (.ifCond .le 7, 3) := dk_158 0 7 (dk_at dksX2_dig_3 3 rfl rfl)
theorem dX2_dig_77 : decode cX2_dig 77 = .ok (.iconst 1, 1) := dk_4 (dk_at dksX2_dig_3 6 rfl rfl)
theorem dX2_dig_78 : decode cX2_dig 78 = .ok (.goto 4, 3) := dk_167 0 4 (dk_at dksX2_dig_3 7 rfl rfl)
theorem dX2_dig_81 : decode cX2_dig 81 = .ok (.iconst 0, 1) := dk_3 (dk_at dksX2_dig_3 10 rfl rfl)
theorem dX2_dig_82 : decode cX2_dig 82 = .ok (.bipush 7, 2) := dk_16 7 (dk_at dksX2_dig_3 11 rfl rfl)
theorem dX2_dig_84 : decode cX2_dig 84 = .ok (.iconst 0, 1) := dk_3 (dk_at dksX2_dig_3 13 rfl rfl)
theorem dX2_dig_85 : decode cX2_dig 85 = .ok (.invokestatic 151, 3) := dk_184 0 151 (dk_at dksX2_dig_3 14 rfl rfl)
theorem dX2_dig_88 : decode cX2_dig 88 = .ok (.iload_n 3, 1) := dk_29 (dk_at dksX2_dig_3 17 rfl rfl)
theorem dX2_dig_89 : decode cX2_dig 89 = .ok (.ifCond .ne 16, 3) := dk_154 0 16 (dk_at dksX2_dig_3 18 rfl rfl)
theorem dX2_dig_92 : decode cX2_dig 92 = .ok (.aload_n 0, 1) := dk_42 (dk_at dksX2_dig_3 21 rfl rfl)
theorem dX2_dig_93 : decode cX2_dig 93 = .ok (.iload 5, 2) := dk_21 5 (dk_at dksX2_dig_3 22 rfl rfl)
theorem dX2_dig_95 : decode cX2_dig 95 = .ok (.invokevirtual 193, 3) := dk_182 0 193 (dk_at dksX2_dig_4 0 rfl rfl)
theorem dX2_dig_98 : decode cX2_dig 98 = .ok (.aload_n 0, 1) := dk_42 (dk_at dksX2_dig_4 3 rfl rfl)
theorem dX2_dig_99 : decode cX2_dig 99 = .ok (.getfield 27, 3) := dk_180 0 27 (dk_at dksX2_dig_4 4 rfl rfl)
theorem dX2_dig_102 : decode cX2_dig 102 = .ok (.if_icmp .gt 7, 3) := dk_163 0 7 (dk_at dksX2_dig_4 7 rfl rfl)
theorem dX2_dig_105 : decode cX2_dig 105 = .ok (.iconst 1, 1) := dk_4 (dk_at dksX2_dig_4 10 rfl rfl)
theorem dX2_dig_106 : decode cX2_dig 106 = .ok (.goto 4, 3) := dk_167 0 4 (dk_at dksX2_dig_4 11 rfl rfl)
theorem dX2_dig_109 : decode cX2_dig 109 = .ok (.iconst 0, 1) := dk_3 (dk_at dksX2_dig_4 14 rfl rfl)
theorem dX2_dig_110 : decode cX2_dig 110 = .ok (.iconst 4, 1) := dk_7 (dk_at dksX2_dig_4 15 rfl rfl)
theorem dX2_dig_111 : decode cX2_dig 111 = .ok (.aload_n 0, 1) := dk_42 (dk_at dksX2_dig_4 16 rfl rfl)
theorem dX2_dig_112 : decode cX2_dig 112 = .ok (.iload 5, 2) := dk_21 5 (dk_at dksX2_dig_4 17 rfl rfl)
theorem dX2_dig_114 : decode cX2_dig 114 = .ok (.invokevirtual 193, 3) := dk_182 0 193 (dk_at dksX2_dig_4 19 rfl rfl)
theorem dX2_dig_117 : decode cX2_dig 117 = .ok (.invokestatic 151, 3) := dk_184 0 151 (dk_at dksX2_dig_5 0 rfl rfl)
theorem dX2_dig_120 : decode cX2_dig 120 = .ok (.aload_n 0, 1) := dk_42 (dk_at dksX2_dig_5 3 rfl rfl)
theorem dX2_dig_121 : decode cX2_dig 121 = .ok (.iload 5, 2) := dk_21 5 (dk_at dksX2_dig_5 4 rfl rfl)
theorem dX2_dig_123 : decode cX2_dig 123 = .ok (.new 94, 3) := dk_187 0 94 (dk_at dksX2_dig_5 6 rfl rfl)
theorem dX2_dig_126 : decode cX2_dig 126 = .ok (.dup, 1) := dk_89 (dk_at dksX2_dig_5 9 rfl rfl)
theorem dX2_dig_127 : decode cX2_dig 127 = .ok (.iload_n 1, 1) := dk_27 (dk_at dksX2_dig_5 10 rfl rfl)
theorem dX2_dig_128 : decode cX2_dig 128 = .ok (.iload_n 3, 1) := dk_29 (dk_at dksX2_dig_5 11 rfl rfl)
theorem dX2_dig_129 : decode cX2_dig 129 = .ok (.invokespecial 174, 3) := dk_183 0 174 (dk_at dksX2_dig_5 12 rfl rfl)
theorem dX2_dig_132 : decode cX2_dig 132 = .ok (.invokevirtual 177, 3) := dk_182 0 177 (dk_at dksX2_dig_5 15 rfl rfl)
theorem dX2_dig_135 : decode cX2_dig 135 = .ok (.istore 7, 2) := dk_54 7 (dk_at dksX2_dig_5 18 rfl rfl)
theorem dX2_dig_137 : decode cX2_dig 137 = .ok (.aload_n 0, 1) := dk_42 (dk_at dksX2_dig_5 20 rfl rfl)
theorem dX2_dig_138 : decode cX2_dig 138 = .ok (.dup, 1) := dk_89 (dk_at dksX2_dig_5 21 rfl rfl)
theorem dX2_dig_139 : decode cX2_dig 139 = .ok (.getfield 64, 3) := dk_180 0 64 (dk_at dksX2_dig_6 0 rfl rfl)
theorem dX2_dig_142 : decode cX2_dig 142 = .ok (.iload_n 3, 1) := dk_29 (dk_at dksX2_dig_6 3 rfl rfl)
theorem dX2_dig_143 : decode cX2_dig 143 = .ok (.ifCond .eq 7, 3) := dk_153 0 7 (dk_at dksX2_dig_6 4 rfl rfl)
theorem dX2_dig_146 : decode cX2_dig 146 = .ok (.iconst 1, 1) := dk_4 (dk_at dksX2_dig_6 7 rfl rfl)
theorem dX2_dig_147 : decode cX2_dig 147 = .ok (.goto 4, 3) := dk_167 0 4 (dk_at dksX2_dig_6 8 rfl rfl)
theorem dX2_dig_150 : decode cX2_dig 150 = .ok (.iconst 0, 1) := dk_3 (dk_at dksX2_dig_6 11 rfl rfl)
theorem dX2_dig_151 : decode cX2_dig 151 = .ok (.isub, 1) := dk_100 (dk_at dksX2_dig_6 12 rfl rfl)
theorem dX2_dig_152 : decode cX2_dig 152 = .ok (.putfield 64, 3) := dk_181 0 64 (dk_at dksX2_dig_6 13 rfl rfl)
theorem dX2_dig_155 : decode cX2_dig 155 = .ok (.aload_n 0, 1) := dk_42 (dk_at dksX2_dig_6 16 rfl rfl)
theorem dX2_dig_156 : decode cX2_dig 156 = .ok (.getfield 20, 3) := dk_180 0 20 (dk_at dksX2_dig_6 17 rfl rfl)
theorem dX2_dig_159 : decode cX2_dig 159 = .ok (.iload_n 1, 1) := dk_27 (dk_at dksX2_dig_6 20 rfl rfl)
theorem dX2_dig_160 : decode cX2_dig 160 = .ok (.aload 4, 2) := dk_25 4 (dk_at dksX2_dig_6 21 rfl rfl)
theorem dX2_dig_162 : decode cX2_dig 162 = .ok (.iload 7, 2) := dk_21 7 (dk_at dksX2_dig_7 0 rfl rfl)
theorem dX2_dig_164 : decode cX2_dig 164 = .ok (.invokevirtual 196, 3) := dk_182 0 196 (dk_at dksX2_dig_7 2 rfl rfl)
theorem dX2_dig_167 : decode cX2_dig 167 = .ok (.invokeinterface 135 3, 5) := by decide +kernel
theorem dX2_dig_172 : decode cX2_dig 172 = .ok (.checkcast 56, 3) := dk_192 0 56 (dk_at dksX2_dig_7 10 rfl rfl)
theorem dX2_dig_175 : decode cX2_dig 175 = .ok (.astore 8, 2) := dk_58 8 (dk_at dksX2_dig_7 13 rfl rfl)
theorem dX2_dig_177 : decode cX2_dig 177 = .ok (.iload 7, 2) := dk_21 7 (dk_at dksX2_dig_7 15 rfl rfl)
theorem dX2_dig_179 : decode cX2_dig 179 = .ok (.ireturn, 1) := dk_172 (dk_at dksX2_dig_7 17 rfl rfl)
abbrev cX2_shaft : ByteArray := prog_17_method_3_code
def yX2_shaft : MethodName := ⟨RX2, "shaft", "(I)LFlintMine$Shaft;"⟩
def dkwX2_shaft_1 : List UInt8 := [185, 0, 85, 2, 0, 192, 0, 56, 176]
abbrev dktX2_shaft_1 : List UInt8 := dkwX2_shaft_1 ++ []
def dkwX2_shaft_0 : List UInt8 := [27, 3, 42, 180, 0, 20, 185, 0, 73, 1, 0, 4, 100, 184, 0, 77, 184, 0, 81, 42, 180, 0, 20, 27]
abbrev dktX2_shaft_0 : List UInt8 := dkwX2_shaft_0 ++ dktX2_shaft_1
theorem dksX2_shaft_0 : cX2_shaft.data.toList.drop 0 = dktX2_shaft_0 := by decide +kernel
theorem dksX2_shaft_1 : cX2_shaft.data.toList.drop 24 = dktX2_shaft_1 := dk_seg dksX2_shaft_0 24 rfl rfl
theorem dX2_shaft_0 : decode cX2_shaft 0 = .ok (.iload_n 1, 1) := dk_27 (dk_at dksX2_shaft_0 0 rfl rfl)
theorem dX2_shaft_1 : decode cX2_shaft 1 = .ok (.iconst 0, 1) := dk_3 (dk_at dksX2_shaft_0 1 rfl rfl)
theorem dX2_shaft_2 : decode cX2_shaft 2 = .ok (.aload_n 0, 1) := dk_42 (dk_at dksX2_shaft_0 2 rfl rfl)
theorem dX2_shaft_3 : decode cX2_shaft 3 = .ok (.getfield 20, 3) := dk_180 0 20 (dk_at dksX2_shaft_0 3 rfl rfl)
theorem dX2_shaft_6 : decode cX2_shaft 6 = .ok (.invokeinterface 73 1, 5) := by decide +kernel
theorem dX2_shaft_11 : decode cX2_shaft 11 = .ok (.iconst 1, 1) := dk_4 (dk_at dksX2_shaft_0 11 rfl rfl)
theorem dX2_shaft_12 : decode cX2_shaft 12 = .ok (.isub, 1) := dk_100 (dk_at dksX2_shaft_0 12 rfl rfl)
theorem dX2_shaft_13 : decode cX2_shaft 13 = .ok (.invokestatic 77, 3) := dk_184 0 77 (dk_at dksX2_shaft_0 13 rfl rfl)
theorem dX2_shaft_16 : decode cX2_shaft 16 = .ok (.invokestatic 81, 3) := dk_184 0 81 (dk_at dksX2_shaft_0 16 rfl rfl)
theorem dX2_shaft_19 : decode cX2_shaft 19 = .ok (.aload_n 0, 1) := dk_42 (dk_at dksX2_shaft_0 19 rfl rfl)
theorem dX2_shaft_20 : decode cX2_shaft 20 = .ok (.getfield 20, 3) := dk_180 0 20 (dk_at dksX2_shaft_0 20 rfl rfl)
theorem dX2_shaft_23 : decode cX2_shaft 23 = .ok (.iload_n 1, 1) := dk_27 (dk_at dksX2_shaft_0 23 rfl rfl)
theorem dX2_shaft_24 : decode cX2_shaft 24 = .ok (.invokeinterface 85 2, 5) := by decide +kernel
theorem dX2_shaft_29 : decode cX2_shaft 29 = .ok (.checkcast 56, 3) := dk_192 0 56 (dk_at dksX2_shaft_1 5 rfl rfl)
theorem dX2_shaft_32 : decode cX2_shaft 32 = .ok (.areturn, 1) := dk_176 (dk_at dksX2_shaft_1 8 rfl rfl)
abbrev cX2_widest : ByteArray := prog_17_method_11_code
def yX2_widest : MethodName := ⟨RX2, "widest", "(I)I"⟩
def dkwX2_widest_0 : List UInt8 := [42, 27, 4, 182, 0, 116, 42, 27, 3, 182, 0, 116, 184, 0, 120, 172]
abbrev dktX2_widest_0 : List UInt8 := dkwX2_widest_0 ++ []
theorem dksX2_widest_0 : cX2_widest.data.toList.drop 0 = dktX2_widest_0 := by decide +kernel
theorem dX2_widest_0 : decode cX2_widest 0 = .ok (.aload_n 0, 1) := dk_42 (dk_at dksX2_widest_0 0 rfl rfl)
theorem dX2_widest_1 : decode cX2_widest 1 = .ok (.iload_n 1, 1) := dk_27 (dk_at dksX2_widest_0 1 rfl rfl)
theorem dX2_widest_2 : decode cX2_widest 2 = .ok (.iconst 1, 1) := dk_4 (dk_at dksX2_widest_0 2 rfl rfl)
theorem dX2_widest_3 : decode cX2_widest 3 = .ok (.invokevirtual 116, 3) := dk_182 0 116 (dk_at dksX2_widest_0 3 rfl rfl)
theorem dX2_widest_6 : decode cX2_widest 6 = .ok (.aload_n 0, 1) := dk_42 (dk_at dksX2_widest_0 6 rfl rfl)
theorem dX2_widest_7 : decode cX2_widest 7 = .ok (.iload_n 1, 1) := dk_27 (dk_at dksX2_widest_0 7 rfl rfl)
theorem dX2_widest_8 : decode cX2_widest 8 = .ok (.iconst 0, 1) := dk_3 (dk_at dksX2_widest_0 8 rfl rfl)
theorem dX2_widest_9 : decode cX2_widest 9 = .ok (.invokevirtual 116, 3) := dk_182 0 116 (dk_at dksX2_widest_0 9 rfl rfl)
theorem dX2_widest_12 : decode cX2_widest 12 = .ok (.invokestatic 120, 3) := dk_184 0 120 (dk_at dksX2_widest_0 12 rfl rfl)
theorem dX2_widest_15 : decode cX2_widest 15 = .ok (.ireturn, 1) := dk_172 (dk_at dksX2_widest_0 15 rfl rfl)
abbrev cX2_prop : ByteArray := prog_17_method_24_code
def yX2_prop : MethodName := ⟨RX2, "prop", "(I)I"⟩
def dkwX2_prop_2 : List UInt8 := [180, 0, 64, 4, 100, 181, 0, 64, 42, 180, 0, 64, 172]
abbrev dktX2_prop_2 : List UInt8 := dkwX2_prop_2 ++ []
def dkwX2_prop_1 : List UInt8 := [184, 0, 151, 42, 180, 0, 11, 27, 187, 0, 94, 89, 44, 180, 0, 96, 4, 183, 0, 174, 83, 42, 89]
abbrev dktX2_prop_1 : List UInt8 := dkwX2_prop_1 ++ dktX2_prop_2
def dkwX2_prop_0 : List UInt8 := [42, 27, 3, 182, 0, 202, 77, 42, 180, 0, 64, 158, 0, 7, 4, 167, 0, 4, 3, 16, 7, 3]
abbrev dktX2_prop_0 : List UInt8 := dkwX2_prop_0 ++ dktX2_prop_1
theorem dksX2_prop_0 : cX2_prop.data.toList.drop 0 = dktX2_prop_0 := by decide +kernel
theorem dksX2_prop_1 : cX2_prop.data.toList.drop 22 = dktX2_prop_1 := dk_seg dksX2_prop_0 22 rfl rfl
theorem dksX2_prop_2 : cX2_prop.data.toList.drop 45 = dktX2_prop_2 := dk_seg dksX2_prop_1 23 rfl rfl
theorem dX2_prop_0 : decode cX2_prop 0 = .ok (.aload_n 0, 1) := dk_42 (dk_at dksX2_prop_0 0 rfl rfl)
theorem dX2_prop_1 : decode cX2_prop 1 = .ok (.iload_n 1, 1) := dk_27 (dk_at dksX2_prop_0 1 rfl rfl)
theorem dX2_prop_2 : decode cX2_prop 2 = .ok (.iconst 0, 1) := dk_3 (dk_at dksX2_prop_0 2 rfl rfl)
theorem dX2_prop_3 : decode cX2_prop 3 = .ok (.invokevirtual 202, 3) := dk_182 0 202 (dk_at dksX2_prop_0 3 rfl rfl)
theorem dX2_prop_6 : decode cX2_prop 6 = .ok (.astore_n 2, 1) := dk_77 (dk_at dksX2_prop_0 6 rfl rfl)
theorem dX2_prop_7 : decode cX2_prop 7 = .ok (.aload_n 0, 1) := dk_42 (dk_at dksX2_prop_0 7 rfl rfl)
theorem dX2_prop_8 : decode cX2_prop 8 = .ok (.getfield 64, 3) := dk_180 0 64 (dk_at dksX2_prop_0 8 rfl rfl)
theorem dX2_prop_11 : decode cX2_prop 11 = .ok (.ifCond .le 7, 3) := dk_158 0 7 (dk_at dksX2_prop_0 11 rfl rfl)
theorem dX2_prop_14 : decode cX2_prop 14 = .ok (.iconst 1, 1) := dk_4 (dk_at dksX2_prop_0 14 rfl rfl)
theorem dX2_prop_15 : decode cX2_prop 15 = .ok (.goto 4, 3) := dk_167 0 4 (dk_at dksX2_prop_0 15 rfl rfl)
theorem dX2_prop_18 : decode cX2_prop 18 = .ok (.iconst 0, 1) := dk_3 (dk_at dksX2_prop_0 18 rfl rfl)
theorem dX2_prop_19 : decode cX2_prop 19 = .ok (.bipush 7, 2) := dk_16 7 (dk_at dksX2_prop_0 19 rfl rfl)
theorem dX2_prop_21 : decode cX2_prop 21 = .ok (.iconst 0, 1) := dk_3 (dk_at dksX2_prop_0 21 rfl rfl)
theorem dX2_prop_22 : decode cX2_prop 22 = .ok (.invokestatic 151, 3) := dk_184 0 151 (dk_at dksX2_prop_1 0 rfl rfl)
theorem dX2_prop_25 : decode cX2_prop 25 = .ok (.aload_n 0, 1) := dk_42 (dk_at dksX2_prop_1 3 rfl rfl)
theorem dX2_prop_26 : decode cX2_prop 26 = .ok (.getfield 11, 3) := dk_180 0 11 (dk_at dksX2_prop_1 4 rfl rfl)
theorem dX2_prop_29 : decode cX2_prop 29 = .ok (.iload_n 1, 1) := dk_27 (dk_at dksX2_prop_1 7 rfl rfl)
theorem dX2_prop_30 : decode cX2_prop 30 = .ok (.new 94, 3) := dk_187 0 94 (dk_at dksX2_prop_1 8 rfl rfl)
theorem dX2_prop_33 : decode cX2_prop 33 = .ok (.dup, 1) := dk_89 (dk_at dksX2_prop_1 11 rfl rfl)
theorem dX2_prop_34 : decode cX2_prop 34 = .ok (.aload_n 2, 1) := dk_44 (dk_at dksX2_prop_1 12 rfl rfl)
theorem dX2_prop_35 : decode cX2_prop 35 = .ok (.getfield 96, 3) := dk_180 0 96 (dk_at dksX2_prop_1 13 rfl rfl)
theorem dX2_prop_38 : decode cX2_prop 38 = .ok (.iconst 1, 1) := dk_4 (dk_at dksX2_prop_1 16 rfl rfl)
theorem dX2_prop_39 : decode cX2_prop 39 = .ok (.invokespecial 174, 3) := dk_183 0 174 (dk_at dksX2_prop_1 17 rfl rfl)
theorem dX2_prop_42 : decode cX2_prop 42 = .ok (.aastore, 1) := dk_83 (dk_at dksX2_prop_1 20 rfl rfl)
theorem dX2_prop_43 : decode cX2_prop 43 = .ok (.aload_n 0, 1) := dk_42 (dk_at dksX2_prop_1 21 rfl rfl)
theorem dX2_prop_44 : decode cX2_prop 44 = .ok (.dup, 1) := dk_89 (dk_at dksX2_prop_1 22 rfl rfl)
theorem dX2_prop_45 : decode cX2_prop 45 = .ok (.getfield 64, 3) := dk_180 0 64 (dk_at dksX2_prop_2 0 rfl rfl)
theorem dX2_prop_48 : decode cX2_prop 48 = .ok (.iconst 1, 1) := dk_4 (dk_at dksX2_prop_2 3 rfl rfl)
theorem dX2_prop_49 : decode cX2_prop 49 = .ok (.isub, 1) := dk_100 (dk_at dksX2_prop_2 4 rfl rfl)
theorem dX2_prop_50 : decode cX2_prop 50 = .ok (.putfield 64, 3) := dk_181 0 64 (dk_at dksX2_prop_2 5 rfl rfl)
theorem dX2_prop_53 : decode cX2_prop 53 = .ok (.aload_n 0, 1) := dk_42 (dk_at dksX2_prop_2 8 rfl rfl)
theorem dX2_prop_54 : decode cX2_prop 54 = .ok (.getfield 64, 3) := dk_180 0 64 (dk_at dksX2_prop_2 9 rfl rfl)
theorem dX2_prop_57 : decode cX2_prop 57 = .ok (.ireturn, 1) := dk_172 (dk_at dksX2_prop_2 12 rfl rfl)
abbrev cX2_open_2 : ByteArray := prog_17_method_23_code
def yX2_open_2 : MethodName := ⟨RX2, "open", "(IZ)LFlintMine$Open;"⟩
def dkwX2_open_2_1 : List UInt8 := [180, 0, 199, 28, 160, 0, 5, 45, 176, 187, 0, 89, 89, 16, 9, 27, 183, 0, 91, 191]
abbrev dktX2_open_2_1 : List UInt8 := dkwX2_open_2_1 ++ []
def dkwX2_open_2_0 : List UInt8 := [42, 180, 0, 11, 27, 50, 58, 4, 25, 4, 193, 0, 94, 153, 0, 19, 25, 4, 192, 0, 94, 78, 45]
abbrev dktX2_open_2_0 : List UInt8 := dkwX2_open_2_0 ++ dktX2_open_2_1
theorem dksX2_open_2_0 : cX2_open_2.data.toList.drop 0 = dktX2_open_2_0 := by decide +kernel
theorem dksX2_open_2_1 : cX2_open_2.data.toList.drop 23 = dktX2_open_2_1 := dk_seg dksX2_open_2_0 23 rfl rfl
theorem dX2_open_2_0 : decode cX2_open_2 0 = .ok (.aload_n 0, 1) := dk_42 (dk_at dksX2_open_2_0 0 rfl rfl)
theorem dX2_open_2_1 : decode cX2_open_2 1 = .ok (.getfield 11, 3) := dk_180 0 11 (dk_at dksX2_open_2_0 1 rfl rfl)
theorem dX2_open_2_4 : decode cX2_open_2 4 = .ok (.iload_n 1, 1) := dk_27 (dk_at dksX2_open_2_0 4 rfl rfl)
theorem dX2_open_2_5 : decode cX2_open_2 5 = .ok (.aaload, 1) := dk_50 (dk_at dksX2_open_2_0 5 rfl rfl)
theorem dX2_open_2_6 : decode cX2_open_2 6 = .ok (.astore 4, 2) := dk_58 4 (dk_at dksX2_open_2_0 6 rfl rfl)
theorem dX2_open_2_8 : decode cX2_open_2 8 = .ok (.aload 4, 2) := dk_25 4 (dk_at dksX2_open_2_0 8 rfl rfl)
theorem dX2_open_2_10 : decode cX2_open_2 10 = .ok (.instanceof 94, 3) := dk_193 0 94 (dk_at dksX2_open_2_0 10 rfl rfl)
theorem dX2_open_2_13 : decode cX2_open_2 13 = .ok (.ifCond .eq 19, 3) := dk_153 0 19 (dk_at dksX2_open_2_0 13 rfl rfl)
theorem dX2_open_2_16 : decode cX2_open_2 16 = .ok (.aload 4, 2) := dk_25 4 (dk_at dksX2_open_2_0 16 rfl rfl)
theorem dX2_open_2_18 : decode cX2_open_2 18 = .ok (.checkcast 94, 3) := dk_192 0 94 (dk_at dksX2_open_2_0 18 rfl rfl)
theorem dX2_open_2_21 : decode cX2_open_2 21 = .ok (.astore_n 3, 1) := dk_78 (dk_at dksX2_open_2_0 21 rfl rfl)
theorem dX2_open_2_22 : decode cX2_open_2 22 = .ok (.aload_n 3, 1) := dk_45 (dk_at dksX2_open_2_0 22 rfl rfl)
theorem dX2_open_2_23 : decode cX2_open_2 23 = .ok (.getfield 199, 3) := dk_180 0 199 (dk_at dksX2_open_2_1 0 rfl rfl)
theorem dX2_open_2_26 : decode cX2_open_2 26 = .ok (.iload_n 2, 1) := dk_28 (dk_at dksX2_open_2_1 3 rfl rfl)
theorem dX2_open_2_27 : decode cX2_open_2 27 = .ok (.if_icmp .ne 5, 3) := dk_160 0 5 (dk_at dksX2_open_2_1 4 rfl rfl)
theorem dX2_open_2_30 : decode cX2_open_2 30 = .ok (.aload_n 3, 1) := dk_45 (dk_at dksX2_open_2_1 7 rfl rfl)
theorem dX2_open_2_31 : decode cX2_open_2 31 = .ok (.areturn, 1) := dk_176 (dk_at dksX2_open_2_1 8 rfl rfl)
theorem dX2_open_2_32 : decode cX2_open_2 32 = .ok (.new 89, 3) := dk_187 0 89 (dk_at dksX2_open_2_1 9 rfl rfl)
theorem dX2_open_2_35 : decode cX2_open_2 35 = .ok (.dup, 1) := dk_89 (dk_at dksX2_open_2_1 12 rfl rfl)
theorem dX2_open_2_36 : decode cX2_open_2 36 = .ok (.bipush 9, 2) := dk_16 9 (dk_at dksX2_open_2_1 13 rfl rfl)
theorem dX2_open_2_38 : decode cX2_open_2 38 = .ok (.iload_n 1, 1) := dk_27 (dk_at dksX2_open_2_1 15 rfl rfl)
theorem dX2_open_2_39 : decode cX2_open_2 39 = .ok (.invokespecial 91, 3) := dk_183 0 91 (dk_at dksX2_open_2_1 16 rfl rfl)
theorem dX2_open_2_42 : decode cX2_open_2 42 = .ok (.athrow, 1) := dk_191 (dk_at dksX2_open_2_1 19 rfl rfl)
abbrev cX2_unprop : ByteArray := prog_17_method_25_code
def yX2_unprop : MethodName := ⟨RX2, "unprop", "(I)I"⟩
def dkwX2_unprop_2 : List UInt8 := [183, 0, 174, 83, 42, 4, 182, 0, 205, 172]
abbrev dktX2_unprop_2 : List UInt8 := dkwX2_unprop_2 ++ []
def dkwX2_unprop_1 : List UInt8 := [7, 42, 27, 182, 0, 193, 184, 0, 151, 42, 180, 0, 11, 27, 187, 0, 94, 89, 44, 180, 0, 96, 3]
abbrev dktX2_unprop_1 : List UInt8 := dkwX2_unprop_1 ++ dktX2_unprop_2
def dkwX2_unprop_0 : List UInt8 := [42, 27, 4, 182, 0, 202, 77, 42, 27, 182, 0, 193, 42, 180, 0, 27, 163, 0, 7, 4, 167, 0, 4, 3]
abbrev dktX2_unprop_0 : List UInt8 := dkwX2_unprop_0 ++ dktX2_unprop_1
theorem dksX2_unprop_0 : cX2_unprop.data.toList.drop 0 = dktX2_unprop_0 := by decide +kernel
theorem dksX2_unprop_1 : cX2_unprop.data.toList.drop 24 = dktX2_unprop_1 := dk_seg dksX2_unprop_0 24 rfl rfl
theorem dksX2_unprop_2 : cX2_unprop.data.toList.drop 47 = dktX2_unprop_2 := dk_seg dksX2_unprop_1 23 rfl rfl
theorem dX2_unprop_0 : decode cX2_unprop 0 = .ok (.aload_n 0, 1) := dk_42 (dk_at dksX2_unprop_0 0 rfl rfl)
theorem dX2_unprop_1 : decode cX2_unprop 1 = .ok (.iload_n 1, 1) := dk_27 (dk_at dksX2_unprop_0 1 rfl rfl)
theorem dX2_unprop_2 : decode cX2_unprop 2 = .ok (.iconst 1, 1) := dk_4 (dk_at dksX2_unprop_0 2 rfl rfl)
theorem dX2_unprop_3 : decode cX2_unprop 3 = .ok (.invokevirtual 202, 3) := dk_182 0 202 (dk_at dksX2_unprop_0 3 rfl rfl)
theorem dX2_unprop_6 : decode cX2_unprop 6 = .ok (.astore_n 2, 1) := dk_77 (dk_at dksX2_unprop_0 6 rfl rfl)
theorem dX2_unprop_7 : decode cX2_unprop 7 = .ok (.aload_n 0, 1) := dk_42 (dk_at dksX2_unprop_0 7 rfl rfl)
theorem dX2_unprop_8 : decode cX2_unprop 8 = .ok (.iload_n 1, 1) := dk_27 (dk_at dksX2_unprop_0 8 rfl rfl)
theorem dX2_unprop_9 : decode cX2_unprop 9 = .ok (.invokevirtual 193, 3) := dk_182 0 193 (dk_at dksX2_unprop_0 9 rfl rfl)
theorem dX2_unprop_12 : decode cX2_unprop 12 = .ok (.aload_n 0, 1) := dk_42 (dk_at dksX2_unprop_0 12 rfl rfl)
theorem dX2_unprop_13 : decode cX2_unprop 13 = .ok (.getfield 27, 3) := dk_180 0 27 (dk_at dksX2_unprop_0 13 rfl rfl)
theorem dX2_unprop_16 : decode cX2_unprop 16 = .ok (.if_icmp .gt 7, 3) := dk_163 0 7 (dk_at dksX2_unprop_0 16 rfl rfl)
theorem dX2_unprop_19 : decode cX2_unprop 19 = .ok (.iconst 1, 1) := dk_4 (dk_at dksX2_unprop_0 19 rfl rfl)
theorem dX2_unprop_20 : decode cX2_unprop 20 = .ok (.goto 4, 3) := dk_167 0 4 (dk_at dksX2_unprop_0 20 rfl rfl)
theorem dX2_unprop_23 : decode cX2_unprop 23 = .ok (.iconst 0, 1) := dk_3 (dk_at dksX2_unprop_0 23 rfl rfl)
theorem dX2_unprop_24 : decode cX2_unprop 24 = .ok (.iconst 4, 1) := dk_7 (dk_at dksX2_unprop_1 0 rfl rfl)
theorem dX2_unprop_25 : decode cX2_unprop 25 = .ok (.aload_n 0, 1) := dk_42 (dk_at dksX2_unprop_1 1 rfl rfl)
theorem dX2_unprop_26 : decode cX2_unprop 26 = .ok (.iload_n 1, 1) := dk_27 (dk_at dksX2_unprop_1 2 rfl rfl)
theorem dX2_unprop_27 : decode cX2_unprop 27 = .ok (.invokevirtual 193, 3) := dk_182 0 193 (dk_at dksX2_unprop_1 3 rfl rfl)
theorem dX2_unprop_30 : decode cX2_unprop 30 = .ok (.invokestatic 151, 3) := dk_184 0 151 (dk_at dksX2_unprop_1 6 rfl rfl)
theorem dX2_unprop_33 : decode cX2_unprop 33 = .ok (.aload_n 0, 1) := dk_42 (dk_at dksX2_unprop_1 9 rfl rfl)
theorem dX2_unprop_34 : decode cX2_unprop 34 = .ok (.getfield 11, 3) := dk_180 0 11 (dk_at dksX2_unprop_1 10 rfl rfl)
theorem dX2_unprop_37 : decode cX2_unprop 37 = .ok (.iload_n 1, 1) := dk_27 (dk_at dksX2_unprop_1 13 rfl rfl)
theorem dX2_unprop_38 : decode cX2_unprop 38 = .ok (.new 94, 3) := dk_187 0 94 (dk_at dksX2_unprop_1 14 rfl rfl)
theorem dX2_unprop_41 : decode cX2_unprop 41 = .ok (.dup, 1) := dk_89 (dk_at dksX2_unprop_1 17 rfl rfl)
theorem dX2_unprop_42 : decode cX2_unprop 42 = .ok (.aload_n 2, 1) := dk_44 (dk_at dksX2_unprop_1 18 rfl rfl)
theorem dX2_unprop_43 : decode cX2_unprop 43 = .ok (.getfield 96, 3) := dk_180 0 96 (dk_at dksX2_unprop_1 19 rfl rfl)
theorem dX2_unprop_46 : decode cX2_unprop 46 = .ok (.iconst 0, 1) := dk_3 (dk_at dksX2_unprop_1 22 rfl rfl)
theorem dX2_unprop_47 : decode cX2_unprop 47 = .ok (.invokespecial 174, 3) := dk_183 0 174 (dk_at dksX2_unprop_2 0 rfl rfl)
theorem dX2_unprop_50 : decode cX2_unprop 50 = .ok (.aastore, 1) := dk_83 (dk_at dksX2_unprop_2 3 rfl rfl)
theorem dX2_unprop_51 : decode cX2_unprop 51 = .ok (.aload_n 0, 1) := dk_42 (dk_at dksX2_unprop_2 4 rfl rfl)
theorem dX2_unprop_52 : decode cX2_unprop 52 = .ok (.iconst 1, 1) := dk_4 (dk_at dksX2_unprop_2 5 rfl rfl)
theorem dX2_unprop_53 : decode cX2_unprop 53 = .ok (.invokevirtual 205, 3) := dk_182 0 205 (dk_at dksX2_unprop_2 6 rfl rfl)
theorem dX2_unprop_56 : decode cX2_unprop 56 = .ok (.ireturn, 1) := dk_172 (dk_at dksX2_unprop_2 9 rfl rfl)
abbrev cX2_close : ByteArray := prog_17_method_26_code
def yX2_close : MethodName := ⟨RX2, "close", "(I)I"⟩
def dkwX2_close_6 : List UInt8 := [42, 180, 0, 20, 27, 44, 182, 0, 219, 185, 0, 135, 3, 0, 192, 0, 56, 58, 6, 42, 180, 0, 67, 172]
abbrev dktX2_close_6 : List UInt8 := dkwX2_close_6 ++ []
def dkwX2_close_5 : List UInt8 := [187, 0, 214, 89, 25, 6, 183, 0, 216, 83, 132, 5, 1, 167, 255, 197, 42, 21, 4, 182, 0, 205, 54, 5]
abbrev dktX2_close_5 : List UInt8 := dkwX2_close_5 ++ dktX2_close_6
def dkwX2_close_4 : List UInt8 := [25, 7, 192, 0, 94, 58, 6, 25, 6, 180, 0, 96, 27, 160, 0, 19, 42, 180, 0, 11, 21, 5]
abbrev dktX2_close_4 : List UInt8 := dkwX2_close_4 ++ dktX2_close_5
def dkwX2_close_3 : List UInt8 := [21, 5, 16, 64, 162, 0, 58, 42, 180, 0, 11, 21, 5, 50, 58, 7, 25, 7, 193, 0, 94, 153, 0, 35]
abbrev dktX2_close_3 : List UInt8 := dkwX2_close_3 ++ dktX2_close_4
def dkwX2_close_2 : List UInt8 := [184, 0, 151, 42, 89, 180, 0, 67, 29, 100, 181, 0, 67, 42, 27, 182, 0, 211, 54, 4, 3, 54, 5]
abbrev dktX2_close_2 : List UInt8 := dkwX2_close_2 ++ dktX2_close_3
def dkwX2_close_1 : List UInt8 := [42, 27, 182, 0, 208, 62, 42, 180, 0, 67, 29, 161, 0, 7, 4, 167, 0, 4, 3, 16, 10, 29]
abbrev dktX2_close_1 : List UInt8 := dkwX2_close_1 ++ dktX2_close_2
def dkwX2_close_0 : List UInt8 := [42, 27, 182, 0, 182, 77, 44, 180, 0, 189, 154, 0, 7, 4, 167, 0, 4, 3, 16, 6, 27, 184, 0, 151]
abbrev dktX2_close_0 : List UInt8 := dkwX2_close_0 ++ dktX2_close_1
theorem dksX2_close_0 : cX2_close.data.toList.drop 0 = dktX2_close_0 := by decide +kernel
theorem dksX2_close_1 : cX2_close.data.toList.drop 24 = dktX2_close_1 := dk_seg dksX2_close_0 24 rfl rfl
theorem dksX2_close_2 : cX2_close.data.toList.drop 46 = dktX2_close_2 := dk_seg dksX2_close_1 22 rfl rfl
theorem dksX2_close_3 : cX2_close.data.toList.drop 69 = dktX2_close_3 := dk_seg dksX2_close_2 23 rfl rfl
theorem dksX2_close_4 : cX2_close.data.toList.drop 93 = dktX2_close_4 := dk_seg dksX2_close_3 24 rfl rfl
theorem dksX2_close_5 : cX2_close.data.toList.drop 115 = dktX2_close_5 := dk_seg dksX2_close_4 22 rfl rfl
theorem dksX2_close_6 : cX2_close.data.toList.drop 139 = dktX2_close_6 := dk_seg dksX2_close_5 24 rfl rfl
theorem dX2_close_0 : decode cX2_close 0 = .ok (.aload_n 0, 1) := dk_42 (dk_at dksX2_close_0 0 rfl rfl)
theorem dX2_close_1 : decode cX2_close 1 = .ok (.iload_n 1, 1) := dk_27 (dk_at dksX2_close_0 1 rfl rfl)
theorem dX2_close_2 : decode cX2_close 2 = .ok (.invokevirtual 182, 3) := dk_182 0 182 (dk_at dksX2_close_0 2 rfl rfl)
theorem dX2_close_5 : decode cX2_close 5 = .ok (.astore_n 2, 1) := dk_77 (dk_at dksX2_close_0 5 rfl rfl)
theorem dX2_close_6 : decode cX2_close 6 = .ok (.aload_n 2, 1) := dk_44 (dk_at dksX2_close_0 6 rfl rfl)
theorem dX2_close_7 : decode cX2_close 7 = .ok (.getfield 189, 3) := dk_180 0 189 (dk_at dksX2_close_0 7 rfl rfl)
theorem dX2_close_10 : decode cX2_close 10 = .ok (.ifCond .ne 7, 3) := dk_154 0 7 (dk_at dksX2_close_0 10 rfl rfl)
theorem dX2_close_13 : decode cX2_close 13 = .ok (.iconst 1, 1) := dk_4 (dk_at dksX2_close_0 13 rfl rfl)
theorem dX2_close_14 : decode cX2_close 14 = .ok (.goto 4, 3) := dk_167 0 4 (dk_at dksX2_close_0 14 rfl rfl)
theorem dX2_close_17 : decode cX2_close 17 = .ok (.iconst 0, 1) := dk_3 (dk_at dksX2_close_0 17 rfl rfl)
theorem dX2_close_18 : decode cX2_close 18 = .ok (.bipush 6, 2) := dk_16 6 (dk_at dksX2_close_0 18 rfl rfl)
theorem dX2_close_20 : decode cX2_close 20 = .ok (.iload_n 1, 1) := dk_27 (dk_at dksX2_close_0 20 rfl rfl)
theorem dX2_close_21 : decode cX2_close 21 = .ok (.invokestatic 151, 3) := dk_184 0 151 (dk_at dksX2_close_0 21 rfl rfl)
theorem dX2_close_24 : decode cX2_close 24 = .ok (.aload_n 0, 1) := dk_42 (dk_at dksX2_close_1 0 rfl rfl)
theorem dX2_close_25 : decode cX2_close 25 = .ok (.iload_n 1, 1) := dk_27 (dk_at dksX2_close_1 1 rfl rfl)
theorem dX2_close_26 : decode cX2_close 26 = .ok (.invokevirtual 208, 3) := dk_182 0 208 (dk_at dksX2_close_1 2 rfl rfl)
theorem dX2_close_29 : decode cX2_close 29 = .ok (.istore_n 3, 1) := dk_62 (dk_at dksX2_close_1 5 rfl rfl)
theorem dX2_close_30 : decode cX2_close 30 = .ok (.aload_n 0, 1) := dk_42 (dk_at dksX2_close_1 6 rfl rfl)
theorem dX2_close_31 : decode cX2_close 31 = .ok (.getfield 67, 3) := dk_180 0 67 (dk_at dksX2_close_1 7 rfl rfl)
theorem dX2_close_34 : decode cX2_close 34 = .ok (.iload_n 3, 1) := dk_29 (dk_at dksX2_close_1 10 rfl rfl)
theorem dX2_close_35 : decode cX2_close 35 = .ok (.if_icmp .lt 7, 3) := dk_161 0 7 (dk_at dksX2_close_1 11 rfl rfl)
theorem dX2_close_38 : decode cX2_close 38 = .ok (.iconst 1, 1) := dk_4 (dk_at dksX2_close_1 14 rfl rfl)
theorem dX2_close_39 : decode cX2_close 39 = .ok (.goto 4, 3) := dk_167 0 4 (dk_at dksX2_close_1 15 rfl rfl)
theorem dX2_close_42 : decode cX2_close 42 = .ok (.iconst 0, 1) := dk_3 (dk_at dksX2_close_1 18 rfl rfl)
theorem dX2_close_43 : decode cX2_close 43 = .ok (.bipush 10, 2) := dk_16 10 (dk_at dksX2_close_1 19 rfl rfl)
theorem dX2_close_45 : decode cX2_close 45 = .ok (.iload_n 3, 1) := dk_29 (dk_at dksX2_close_1 21 rfl rfl)
theorem dX2_close_46 : decode cX2_close 46 = .ok (.invokestatic 151, 3) := dk_184 0 151 (dk_at dksX2_close_2 0 rfl rfl)
theorem dX2_close_49 : decode cX2_close 49 = .ok (.aload_n 0, 1) := dk_42 (dk_at dksX2_close_2 3 rfl rfl)
theorem dX2_close_50 : decode cX2_close 50 = .ok (.dup, 1) := dk_89 (dk_at dksX2_close_2 4 rfl rfl)
theorem dX2_close_51 : decode cX2_close 51 = .ok (.getfield 67, 3) := dk_180 0 67 (dk_at dksX2_close_2 5 rfl rfl)
theorem dX2_close_54 : decode cX2_close 54 = .ok (.iload_n 3, 1) := dk_29 (dk_at dksX2_close_2 8 rfl rfl)
theorem dX2_close_55 : decode cX2_close 55 = .ok (.isub, 1) := dk_100 (dk_at dksX2_close_2 9 rfl rfl)
theorem dX2_close_56 : decode cX2_close 56 = .ok (.putfield 67, 3) := dk_181 0 67 (dk_at dksX2_close_2 10 rfl rfl)
theorem dX2_close_59 : decode cX2_close 59 = .ok (.aload_n 0, 1) := dk_42 (dk_at dksX2_close_2 13 rfl rfl)
theorem dX2_close_60 : decode cX2_close 60 = .ok (.iload_n 1, 1) := dk_27 (dk_at dksX2_close_2 14 rfl rfl)
theorem dX2_close_61 : decode cX2_close 61 = .ok (.invokevirtual 211, 3) := dk_182 0 211 (dk_at dksX2_close_2 15 rfl rfl)
theorem dX2_close_64 : decode cX2_close 64 = .ok (.istore 4, 2) := dk_54 4 (dk_at dksX2_close_2 18 rfl rfl)
theorem dX2_close_66 : decode cX2_close 66 = .ok (.iconst 0, 1) := dk_3 (dk_at dksX2_close_2 20 rfl rfl)
theorem dX2_close_67 : decode cX2_close 67 = .ok (.istore 5, 2) := dk_54 5 (dk_at dksX2_close_2 21 rfl rfl)
theorem dX2_close_69 : decode cX2_close 69 = .ok (.iload 5, 2) := dk_21 5 (dk_at dksX2_close_3 0 rfl rfl)
theorem dX2_close_71 : decode cX2_close 71 = .ok (.bipush 64, 2) := dk_16 64 (dk_at dksX2_close_3 2 rfl rfl)
theorem dX2_close_73 : decode cX2_close 73 = .ok (.if_icmp .ge 58, 3) := dk_162 0 58 (dk_at dksX2_close_3 4 rfl rfl)
theorem dX2_close_76 : decode cX2_close 76 = .ok (.aload_n 0, 1) := dk_42 (dk_at dksX2_close_3 7 rfl rfl)
theorem dX2_close_77 : decode cX2_close 77 = .ok (.getfield 11, 3) := dk_180 0 11 (dk_at dksX2_close_3 8 rfl rfl)
theorem dX2_close_80 : decode cX2_close 80 = .ok (.iload 5, 2) := dk_21 5 (dk_at dksX2_close_3 11 rfl rfl)
theorem dX2_close_82 : decode cX2_close 82 = .ok (.aaload, 1) := dk_50 (dk_at dksX2_close_3 13 rfl rfl)
theorem dX2_close_83 : decode cX2_close 83 = .ok (.astore 7, 2) := dk_58 7 (dk_at dksX2_close_3 14 rfl rfl)
theorem dX2_close_85 : decode cX2_close 85 = .ok (.aload 7, 2) := dk_25 7 (dk_at dksX2_close_3 16 rfl rfl)
theorem dX2_close_87 : decode cX2_close 87 = .ok (.instanceof 94, 3) := dk_193 0 94 (dk_at dksX2_close_3 18 rfl rfl)
theorem dX2_close_90 : decode cX2_close 90 = .ok (.ifCond .eq 35, 3) := dk_153 0 35 (dk_at dksX2_close_3 21 rfl rfl)
theorem dX2_close_93 : decode cX2_close 93 = .ok (.aload 7, 2) := dk_25 7 (dk_at dksX2_close_4 0 rfl rfl)
theorem dX2_close_95 : decode cX2_close 95 = .ok (.checkcast 94, 3) := dk_192 0 94 (dk_at dksX2_close_4 2 rfl rfl)
theorem dX2_close_98 : decode cX2_close 98 = .ok (.astore 6, 2) := dk_58 6 (dk_at dksX2_close_4 5 rfl rfl)
theorem dX2_close_100 : decode cX2_close 100 = .ok (.aload 6, 2) := dk_25 6 (dk_at dksX2_close_4 7 rfl rfl)
theorem dX2_close_102 : decode cX2_close 102 = .ok (.getfield 96, 3) := dk_180 0 96 (dk_at dksX2_close_4 9 rfl rfl)
theorem dX2_close_105 : decode cX2_close 105 = .ok (.iload_n 1, 1) := dk_27 (dk_at dksX2_close_4 12 rfl rfl)
theorem dX2_close_106 : decode cX2_close 106 = .ok (.if_icmp .ne 19, 3) := dk_160 0 19 (dk_at dksX2_close_4 13 rfl rfl)
theorem dX2_close_109 : decode cX2_close 109 = .ok (.aload_n 0, 1) := dk_42 (dk_at dksX2_close_4 16 rfl rfl)
theorem dX2_close_110 : decode cX2_close 110 = .ok (.getfield 11, 3) := dk_180 0 11 (dk_at dksX2_close_4 17 rfl rfl)
theorem dX2_close_113 : decode cX2_close 113 = .ok (.iload 5, 2) := dk_21 5 (dk_at dksX2_close_4 20 rfl rfl)
theorem dX2_close_115 : decode cX2_close 115 = .ok (.new 214, 3) := dk_187 0 214 (dk_at dksX2_close_5 0 rfl rfl)
theorem dX2_close_118 : decode cX2_close 118 = .ok (.dup, 1) := dk_89 (dk_at dksX2_close_5 3 rfl rfl)
theorem dX2_close_119 : decode cX2_close 119 = .ok (.aload 6, 2) := dk_25 6 (dk_at dksX2_close_5 4 rfl rfl)
theorem dX2_close_121 : decode cX2_close 121 = .ok (.invokespecial 216, 3) := dk_183 0 216 (dk_at dksX2_close_5 6 rfl rfl)
theorem dX2_close_124 : decode cX2_close 124 = .ok (.aastore, 1) := dk_83 (dk_at dksX2_close_5 9 rfl rfl)
theorem dX2_close_125 : decode cX2_close 125 = .ok (.iinc 5 1, 3) := dk_132 5 1 (dk_at dksX2_close_5 10 rfl rfl)
theorem dX2_close_128 : decode cX2_close 128 = .ok (.goto (-59), 3) := dk_167 255 197 (dk_at dksX2_close_5 13 rfl rfl)
theorem dX2_close_131 : decode cX2_close 131 = .ok (.aload_n 0, 1) := dk_42 (dk_at dksX2_close_5 16 rfl rfl)
theorem dX2_close_132 : decode cX2_close 132 = .ok (.iload 4, 2) := dk_21 4 (dk_at dksX2_close_5 17 rfl rfl)
theorem dX2_close_134 : decode cX2_close 134 = .ok (.invokevirtual 205, 3) := dk_182 0 205 (dk_at dksX2_close_5 19 rfl rfl)
theorem dX2_close_137 : decode cX2_close 137 = .ok (.istore 5, 2) := dk_54 5 (dk_at dksX2_close_5 22 rfl rfl)
theorem dX2_close_139 : decode cX2_close 139 = .ok (.aload_n 0, 1) := dk_42 (dk_at dksX2_close_6 0 rfl rfl)
theorem dX2_close_140 : decode cX2_close 140 = .ok (.getfield 20, 3) := dk_180 0 20 (dk_at dksX2_close_6 1 rfl rfl)
theorem dX2_close_143 : decode cX2_close 143 = .ok (.iload_n 1, 1) := dk_27 (dk_at dksX2_close_6 4 rfl rfl)
theorem dX2_close_144 : decode cX2_close 144 = .ok (.aload_n 2, 1) := dk_44 (dk_at dksX2_close_6 5 rfl rfl)
theorem dX2_close_145 : decode cX2_close 145 = .ok (.invokevirtual 219, 3) := dk_182 0 219 (dk_at dksX2_close_6 6 rfl rfl)
theorem dX2_close_148 : decode cX2_close 148 = .ok (.invokeinterface 135 3, 5) := by decide +kernel
theorem dX2_close_153 : decode cX2_close 153 = .ok (.checkcast 56, 3) := dk_192 0 56 (dk_at dksX2_close_6 14 rfl rfl)
theorem dX2_close_156 : decode cX2_close 156 = .ok (.astore 6, 2) := dk_58 6 (dk_at dksX2_close_6 17 rfl rfl)
theorem dX2_close_158 : decode cX2_close 158 = .ok (.aload_n 0, 1) := dk_42 (dk_at dksX2_close_6 19 rfl rfl)
theorem dX2_close_159 : decode cX2_close 159 = .ok (.getfield 67, 3) := dk_180 0 67 (dk_at dksX2_close_6 20 rfl rfl)
theorem dX2_close_162 : decode cX2_close 162 = .ok (.ireturn, 1) := dk_172 (dk_at dksX2_close_6 23 rfl rfl)
abbrev cX2_openCells : ByteArray := prog_17_method_27_code
def yX2_openCells : MethodName := ⟨RX2, "openCells", "(I)I"⟩
def dkwX2_openCells_1 : List UInt8 := [3, 96, 61, 132, 3, 1, 167, 255, 230, 28, 172]
abbrev dktX2_openCells_1 : List UInt8 := dkwX2_openCells_1 ++ []
def dkwX2_openCells_0 : List UInt8 := [3, 61, 3, 62, 29, 16, 64, 162, 0, 26, 28, 42, 29, 27, 182, 0, 103, 153, 0, 7, 4, 167, 0, 4]
abbrev dktX2_openCells_0 : List UInt8 := dkwX2_openCells_0 ++ dktX2_openCells_1
theorem dksX2_openCells_0 : cX2_openCells.data.toList.drop 0 = dktX2_openCells_0 := by decide +kernel
theorem dksX2_openCells_1 : cX2_openCells.data.toList.drop 24 = dktX2_openCells_1 := dk_seg dksX2_openCells_0 24 rfl rfl
theorem dX2_openCells_0 : decode cX2_openCells 0 = .ok (.iconst 0, 1) := dk_3 (dk_at dksX2_openCells_0 0 rfl rfl)
theorem dX2_openCells_1 : decode cX2_openCells 1 = .ok (.istore_n 2, 1) := dk_61 (dk_at dksX2_openCells_0 1 rfl rfl)
theorem dX2_openCells_2 : decode cX2_openCells 2 = .ok (.iconst 0, 1) := dk_3 (dk_at dksX2_openCells_0 2 rfl rfl)
theorem dX2_openCells_3 : decode cX2_openCells 3 = .ok (.istore_n 3, 1) := dk_62 (dk_at dksX2_openCells_0 3 rfl rfl)
theorem dX2_openCells_4 : decode cX2_openCells 4 = .ok (.iload_n 3, 1) := dk_29 (dk_at dksX2_openCells_0 4 rfl rfl)
theorem dX2_openCells_5 : decode cX2_openCells 5 = .ok (.bipush 64, 2) := dk_16 64 (dk_at dksX2_openCells_0 5 rfl rfl)
theorem dX2_openCells_7 : decode cX2_openCells 7 = .ok (.if_icmp .ge 26, 3) := dk_162 0 26 (dk_at dksX2_openCells_0 7 rfl rfl)
theorem dX2_openCells_10 : decode cX2_openCells 10 = .ok (.iload_n 2, 1) := dk_28 (dk_at dksX2_openCells_0 10 rfl rfl)
theorem dX2_openCells_11 : decode cX2_openCells 11 = .ok (.aload_n 0, 1) := dk_42 (dk_at dksX2_openCells_0 11 rfl rfl)
theorem dX2_openCells_12 : decode cX2_openCells 12 = .ok (.iload_n 3, 1) := dk_29 (dk_at dksX2_openCells_0 12 rfl rfl)
theorem dX2_openCells_13 : decode cX2_openCells 13 = .ok (.iload_n 1, 1) := dk_27 (dk_at dksX2_openCells_0 13 rfl rfl)
theorem dX2_openCells_14 : decode cX2_openCells 14 = .ok (.invokevirtual 103, 3) := dk_182 0 103 (dk_at dksX2_openCells_0 14 rfl rfl)
theorem dX2_openCells_17 : decode cX2_openCells 17 = .ok (.ifCond .eq 7, 3) := dk_153 0 7 (dk_at dksX2_openCells_0 17 rfl rfl)
theorem dX2_openCells_20 : decode cX2_openCells 20 = .ok (.iconst 1, 1) := dk_4 (dk_at dksX2_openCells_0 20 rfl rfl)
theorem dX2_openCells_21 : decode cX2_openCells 21 = .ok (.goto 4, 3) := dk_167 0 4 (dk_at dksX2_openCells_0 21 rfl rfl)
theorem dX2_openCells_24 : decode cX2_openCells 24 = .ok (.iconst 0, 1) := dk_3 (dk_at dksX2_openCells_1 0 rfl rfl)
theorem dX2_openCells_25 : decode cX2_openCells 25 = .ok (.iadd, 1) := dk_96 (dk_at dksX2_openCells_1 1 rfl rfl)
theorem dX2_openCells_26 : decode cX2_openCells 26 = .ok (.istore_n 2, 1) := dk_61 (dk_at dksX2_openCells_1 2 rfl rfl)
theorem dX2_openCells_27 : decode cX2_openCells 27 = .ok (.iinc 3 1, 3) := dk_132 3 1 (dk_at dksX2_openCells_1 3 rfl rfl)
theorem dX2_openCells_30 : decode cX2_openCells 30 = .ok (.goto (-26), 3) := dk_167 255 230 (dk_at dksX2_openCells_1 6 rfl rfl)
theorem dX2_openCells_33 : decode cX2_openCells 33 = .ok (.iload_n 2, 1) := dk_28 (dk_at dksX2_openCells_1 9 rfl rfl)
theorem dX2_openCells_34 : decode cX2_openCells 34 = .ok (.ireturn, 1) := dk_172 (dk_at dksX2_openCells_1 10 rfl rfl)
abbrev cX2_propsOf : ByteArray := prog_17_method_28_code
def yX2_propsOf : MethodName := ⟨RX2, "propsOf", "(I)I"⟩
def dkwX2_propsOf_2 : List UInt8 := [172]
abbrev dktX2_propsOf_2 : List UInt8 := dkwX2_propsOf_2 ++ []
def dkwX2_propsOf_1 : List UInt8 := [29, 50, 185, 0, 110, 1, 0, 154, 0, 7, 4, 167, 0, 4, 3, 96, 61, 132, 3, 1, 167, 255, 216, 28]
abbrev dktX2_propsOf_1 : List UInt8 := dkwX2_propsOf_1 ++ dktX2_propsOf_2
def dkwX2_propsOf_0 : List UInt8 := [3, 61, 3, 62, 29, 16, 64, 162, 0, 40, 28, 42, 29, 27, 182, 0, 103, 153, 0, 21, 42, 180, 0, 11]
abbrev dktX2_propsOf_0 : List UInt8 := dkwX2_propsOf_0 ++ dktX2_propsOf_1
theorem dksX2_propsOf_0 : cX2_propsOf.data.toList.drop 0 = dktX2_propsOf_0 := by decide +kernel
theorem dksX2_propsOf_1 : cX2_propsOf.data.toList.drop 24 = dktX2_propsOf_1 := dk_seg dksX2_propsOf_0 24 rfl rfl
theorem dksX2_propsOf_2 : cX2_propsOf.data.toList.drop 48 = dktX2_propsOf_2 := dk_seg dksX2_propsOf_1 24 rfl rfl
theorem dX2_propsOf_0 : decode cX2_propsOf 0 = .ok (.iconst 0, 1) := dk_3 (dk_at dksX2_propsOf_0 0 rfl rfl)
theorem dX2_propsOf_1 : decode cX2_propsOf 1 = .ok (.istore_n 2, 1) := dk_61 (dk_at dksX2_propsOf_0 1 rfl rfl)
theorem dX2_propsOf_2 : decode cX2_propsOf 2 = .ok (.iconst 0, 1) := dk_3 (dk_at dksX2_propsOf_0 2 rfl rfl)
theorem dX2_propsOf_3 : decode cX2_propsOf 3 = .ok (.istore_n 3, 1) := dk_62 (dk_at dksX2_propsOf_0 3 rfl rfl)
theorem dX2_propsOf_4 : decode cX2_propsOf 4 = .ok (.iload_n 3, 1) := dk_29 (dk_at dksX2_propsOf_0 4 rfl rfl)
theorem dX2_propsOf_5 : decode cX2_propsOf 5 = .ok (.bipush 64, 2) := dk_16 64 (dk_at dksX2_propsOf_0 5 rfl rfl)
theorem dX2_propsOf_7 : decode cX2_propsOf 7 = .ok (.if_icmp .ge 40, 3) := dk_162 0 40 (dk_at dksX2_propsOf_0 7 rfl rfl)
theorem dX2_propsOf_10 : decode cX2_propsOf 10 = .ok (.iload_n 2, 1) := dk_28 (dk_at dksX2_propsOf_0 10 rfl rfl)
theorem dX2_propsOf_11 : decode cX2_propsOf 11 = .ok (.aload_n 0, 1) := dk_42 (dk_at dksX2_propsOf_0 11 rfl rfl)
theorem dX2_propsOf_12 : decode cX2_propsOf 12 = .ok (.iload_n 3, 1) := dk_29 (dk_at dksX2_propsOf_0 12 rfl rfl)
theorem dX2_propsOf_13 : decode cX2_propsOf 13 = .ok (.iload_n 1, 1) := dk_27 (dk_at dksX2_propsOf_0 13 rfl rfl)
theorem dX2_propsOf_14 : decode cX2_propsOf 14 = .ok (.invokevirtual 103, 3) := dk_182 0 103 (dk_at dksX2_propsOf_0 14 rfl rfl)
theorem dX2_propsOf_17 : decode cX2_propsOf 17 = .ok (.ifCond .eq 21, 3) := dk_153 0 21 (dk_at dksX2_propsOf_0 17 rfl rfl)
theorem dX2_propsOf_20 : decode cX2_propsOf 20 = .ok (.aload_n 0, 1) := dk_42 (dk_at dksX2_propsOf_0 20 rfl rfl)
theorem dX2_propsOf_21 : decode cX2_propsOf 21 = .ok (.getfield 11, 3) := dk_180 0 11 (dk_at dksX2_propsOf_0 21 rfl rfl)
theorem dX2_propsOf_24 : decode cX2_propsOf 24 = .ok (.iload_n 3, 1) := dk_29 (dk_at dksX2_propsOf_1 0 rfl rfl)
theorem dX2_propsOf_25 : decode cX2_propsOf 25 = .ok (.aaload, 1) := dk_50 (dk_at dksX2_propsOf_1 1 rfl rfl)
theorem dX2_propsOf_26 : decode cX2_propsOf 26 = .ok (.invokeinterface 110 1, 5) := by decide +kernel
theorem dX2_propsOf_31 : decode cX2_propsOf 31 = .ok (.ifCond .ne 7, 3) := dk_154 0 7 (dk_at dksX2_propsOf_1 7 rfl rfl)
theorem dX2_propsOf_34 : decode cX2_propsOf 34 = .ok (.iconst 1, 1) := dk_4 (dk_at dksX2_propsOf_1 10 rfl rfl)
theorem dX2_propsOf_35 : decode cX2_propsOf 35 = .ok (.goto 4, 3) := dk_167 0 4 (dk_at dksX2_propsOf_1 11 rfl rfl)
theorem dX2_propsOf_38 : decode cX2_propsOf 38 = .ok (.iconst 0, 1) := dk_3 (dk_at dksX2_propsOf_1 14 rfl rfl)
theorem dX2_propsOf_39 : decode cX2_propsOf 39 = .ok (.iadd, 1) := dk_96 (dk_at dksX2_propsOf_1 15 rfl rfl)
theorem dX2_propsOf_40 : decode cX2_propsOf 40 = .ok (.istore_n 2, 1) := dk_61 (dk_at dksX2_propsOf_1 16 rfl rfl)
theorem dX2_propsOf_41 : decode cX2_propsOf 41 = .ok (.iinc 3 1, 3) := dk_132 3 1 (dk_at dksX2_propsOf_1 17 rfl rfl)
theorem dX2_propsOf_44 : decode cX2_propsOf 44 = .ok (.goto (-40), 3) := dk_167 255 216 (dk_at dksX2_propsOf_1 20 rfl rfl)
theorem dX2_propsOf_47 : decode cX2_propsOf 47 = .ok (.iload_n 2, 1) := dk_28 (dk_at dksX2_propsOf_1 23 rfl rfl)
theorem dX2_propsOf_48 : decode cX2_propsOf 48 = .ok (.ireturn, 1) := dk_172 (dk_at dksX2_propsOf_2 0 rfl rfl)
abbrev cX2_nodules : ByteArray := prog_17_method_29_code
def yX2_nodules : MethodName := ⟨RX2, "nodules", "(I)I"⟩
def dkwX2_nodules_1 : List UInt8 := [44, 180, 0, 165, 167, 0, 4, 3, 172]
abbrev dktX2_nodules_1 : List UInt8 := dkwX2_nodules_1 ++ []
def dkwX2_nodules_0 : List UInt8 := [27, 2, 159, 0, 29, 42, 180, 0, 11, 27, 50, 78, 45, 193, 0, 31, 153, 0, 15, 45, 192, 0, 31, 77]
abbrev dktX2_nodules_0 : List UInt8 := dkwX2_nodules_0 ++ dktX2_nodules_1
theorem dksX2_nodules_0 : cX2_nodules.data.toList.drop 0 = dktX2_nodules_0 := by decide +kernel
theorem dksX2_nodules_1 : cX2_nodules.data.toList.drop 24 = dktX2_nodules_1 := dk_seg dksX2_nodules_0 24 rfl rfl
theorem dX2_nodules_0 : decode cX2_nodules 0 = .ok (.iload_n 1, 1) := dk_27 (dk_at dksX2_nodules_0 0 rfl rfl)
theorem dX2_nodules_1 : decode cX2_nodules 1 = .ok (.iconst (-1), 1) := dk_2 (dk_at dksX2_nodules_0 1 rfl rfl)
theorem dX2_nodules_2 : decode cX2_nodules 2 = .ok (.if_icmp .eq 29, 3) := dk_159 0 29 (dk_at dksX2_nodules_0 2 rfl rfl)
theorem dX2_nodules_5 : decode cX2_nodules 5 = .ok (.aload_n 0, 1) := dk_42 (dk_at dksX2_nodules_0 5 rfl rfl)
theorem dX2_nodules_6 : decode cX2_nodules 6 = .ok (.getfield 11, 3) := dk_180 0 11 (dk_at dksX2_nodules_0 6 rfl rfl)
theorem dX2_nodules_9 : decode cX2_nodules 9 = .ok (.iload_n 1, 1) := dk_27 (dk_at dksX2_nodules_0 9 rfl rfl)
theorem dX2_nodules_10 : decode cX2_nodules 10 = .ok (.aaload, 1) := dk_50 (dk_at dksX2_nodules_0 10 rfl rfl)
theorem dX2_nodules_11 : decode cX2_nodules 11 = .ok (.astore_n 3, 1) := dk_78 (dk_at dksX2_nodules_0 11 rfl rfl)
theorem dX2_nodules_12 : decode cX2_nodules 12 = .ok (.aload_n 3, 1) := dk_45 (dk_at dksX2_nodules_0 12 rfl rfl)
theorem dX2_nodules_13 : decode cX2_nodules 13 = .ok (.instanceof 31, 3) := dk_193 0 31 (dk_at dksX2_nodules_0 13 rfl rfl)
theorem dX2_nodules_16 : decode cX2_nodules 16 = .ok (.ifCond .eq 15, 3) := dk_153 0 15 (dk_at dksX2_nodules_0 16 rfl rfl)
theorem dX2_nodules_19 : decode cX2_nodules 19 = .ok (.aload_n 3, 1) := dk_45 (dk_at dksX2_nodules_0 19 rfl rfl)
theorem dX2_nodules_20 : decode cX2_nodules 20 = .ok (.checkcast 31, 3) := dk_192 0 31 (dk_at dksX2_nodules_0 20 rfl rfl)
theorem dX2_nodules_23 : decode cX2_nodules 23 = .ok (.astore_n 2, 1) := dk_77 (dk_at dksX2_nodules_0 23 rfl rfl)
theorem dX2_nodules_24 : decode cX2_nodules 24 = .ok (.aload_n 2, 1) := dk_44 (dk_at dksX2_nodules_1 0 rfl rfl)
theorem dX2_nodules_25 : decode cX2_nodules 25 = .ok (.getfield 165, 3) := dk_180 0 165 (dk_at dksX2_nodules_1 1 rfl rfl)
theorem dX2_nodules_28 : decode cX2_nodules 28 = .ok (.goto 4, 3) := dk_167 0 4 (dk_at dksX2_nodules_1 4 rfl rfl)
theorem dX2_nodules_31 : decode cX2_nodules 31 = .ok (.iconst 0, 1) := dk_3 (dk_at dksX2_nodules_1 7 rfl rfl)
theorem dX2_nodules_32 : decode cX2_nodules 32 = .ok (.ireturn, 1) := dk_172 (dk_at dksX2_nodules_1 8 rfl rfl)
abbrev cX2_strokes : ByteArray := prog_17_method_30_code
def yX2_strokes : MethodName := ⟨RX2, "strokes", "(I)I"⟩
def dkwX2_strokes_1 : List UInt8 := [167, 0, 4, 3, 172]
abbrev dktX2_strokes_1 : List UInt8 := dkwX2_strokes_1 ++ []
def dkwX2_strokes_0 : List UInt8 := [42, 180, 0, 11, 27, 50, 78, 45, 193, 0, 31, 153, 0, 15, 45, 192, 0, 31, 77, 44, 182, 0, 146]
abbrev dktX2_strokes_0 : List UInt8 := dkwX2_strokes_0 ++ dktX2_strokes_1
theorem dksX2_strokes_0 : cX2_strokes.data.toList.drop 0 = dktX2_strokes_0 := by decide +kernel
theorem dksX2_strokes_1 : cX2_strokes.data.toList.drop 23 = dktX2_strokes_1 := dk_seg dksX2_strokes_0 23 rfl rfl
theorem dX2_strokes_0 : decode cX2_strokes 0 = .ok (.aload_n 0, 1) := dk_42 (dk_at dksX2_strokes_0 0 rfl rfl)
theorem dX2_strokes_1 : decode cX2_strokes 1 = .ok (.getfield 11, 3) := dk_180 0 11 (dk_at dksX2_strokes_0 1 rfl rfl)
theorem dX2_strokes_4 : decode cX2_strokes 4 = .ok (.iload_n 1, 1) := dk_27 (dk_at dksX2_strokes_0 4 rfl rfl)
theorem dX2_strokes_5 : decode cX2_strokes 5 = .ok (.aaload, 1) := dk_50 (dk_at dksX2_strokes_0 5 rfl rfl)
theorem dX2_strokes_6 : decode cX2_strokes 6 = .ok (.astore_n 3, 1) := dk_78 (dk_at dksX2_strokes_0 6 rfl rfl)
theorem dX2_strokes_7 : decode cX2_strokes 7 = .ok (.aload_n 3, 1) := dk_45 (dk_at dksX2_strokes_0 7 rfl rfl)
theorem dX2_strokes_8 : decode cX2_strokes 8 = .ok (.instanceof 31, 3) := dk_193 0 31 (dk_at dksX2_strokes_0 8 rfl rfl)
theorem dX2_strokes_11 : decode cX2_strokes 11 = .ok (.ifCond .eq 15, 3) := dk_153 0 15 (dk_at dksX2_strokes_0 11 rfl rfl)
theorem dX2_strokes_14 : decode cX2_strokes 14 = .ok (.aload_n 3, 1) := dk_45 (dk_at dksX2_strokes_0 14 rfl rfl)
theorem dX2_strokes_15 : decode cX2_strokes 15 = .ok (.checkcast 31, 3) := dk_192 0 31 (dk_at dksX2_strokes_0 15 rfl rfl)
theorem dX2_strokes_18 : decode cX2_strokes 18 = .ok (.astore_n 2, 1) := dk_77 (dk_at dksX2_strokes_0 18 rfl rfl)
theorem dX2_strokes_19 : decode cX2_strokes 19 = .ok (.aload_n 2, 1) := dk_44 (dk_at dksX2_strokes_0 19 rfl rfl)
theorem dX2_strokes_20 : decode cX2_strokes 20 = .ok (.invokevirtual 146, 3) := dk_182 0 146 (dk_at dksX2_strokes_0 20 rfl rfl)
theorem dX2_strokes_23 : decode cX2_strokes 23 = .ok (.goto 4, 3) := dk_167 0 4 (dk_at dksX2_strokes_1 0 rfl rfl)
theorem dX2_strokes_26 : decode cX2_strokes 26 = .ok (.iconst 0, 1) := dk_3 (dk_at dksX2_strokes_1 3 rfl rfl)
theorem dX2_strokes_27 : decode cX2_strokes 27 = .ok (.ireturn, 1) := dk_172 (dk_at dksX2_strokes_1 4 rfl rfl)
abbrev cX2_isPassable : ByteArray := prog_17_method_32_code
def yX2_isPassable : MethodName := ⟨RX2, "isPassable", "(II)Z"⟩
def dkwX2_isPassable_1 : List UInt8 := [167, 0, 4, 3, 172]
abbrev dktX2_isPassable_1 : List UInt8 := dkwX2_isPassable_1 ++ []
def dkwX2_isPassable_0 : List UInt8 := [42, 180, 0, 11, 27, 50, 193, 0, 31, 153, 0, 17, 42, 27, 28, 182, 0, 168, 2, 160, 0, 7, 4]
abbrev dktX2_isPassable_0 : List UInt8 := dkwX2_isPassable_0 ++ dktX2_isPassable_1
theorem dksX2_isPassable_0 : cX2_isPassable.data.toList.drop 0 = dktX2_isPassable_0 := by decide +kernel
theorem dksX2_isPassable_1 : cX2_isPassable.data.toList.drop 23 = dktX2_isPassable_1 := dk_seg dksX2_isPassable_0 23 rfl rfl
theorem dX2_isPassable_0 : decode cX2_isPassable 0 = .ok (.aload_n 0, 1) := dk_42 (dk_at dksX2_isPassable_0 0 rfl rfl)
theorem dX2_isPassable_1 : decode cX2_isPassable 1 = .ok (.getfield 11, 3) := dk_180 0 11 (dk_at dksX2_isPassable_0 1 rfl rfl)
theorem dX2_isPassable_4 : decode cX2_isPassable 4 = .ok (.iload_n 1, 1) := dk_27 (dk_at dksX2_isPassable_0 4 rfl rfl)
theorem dX2_isPassable_5 : decode cX2_isPassable 5 = .ok (.aaload, 1) := dk_50 (dk_at dksX2_isPassable_0 5 rfl rfl)
theorem dX2_isPassable_6 : decode cX2_isPassable 6 = .ok (.instanceof 31, 3) := dk_193 0 31 (dk_at dksX2_isPassable_0 6 rfl rfl)
theorem dX2_isPassable_9 : decode cX2_isPassable 9 = .ok (.ifCond .eq 17, 3) := dk_153 0 17 (dk_at dksX2_isPassable_0 9 rfl rfl)
theorem dX2_isPassable_12 : decode cX2_isPassable 12 = .ok (.aload_n 0, 1) := dk_42 (dk_at dksX2_isPassable_0 12 rfl rfl)
theorem dX2_isPassable_13 : decode cX2_isPassable 13 = .ok (.iload_n 1, 1) := dk_27 (dk_at dksX2_isPassable_0 13 rfl rfl)
theorem dX2_isPassable_14 : decode cX2_isPassable 14 = .ok (.iload_n 2, 1) := dk_28 (dk_at dksX2_isPassable_0 14 rfl rfl)
theorem dX2_isPassable_15 : decode cX2_isPassable 15 = .ok (.invokevirtual 168, 3) := dk_182 0 168 (dk_at dksX2_isPassable_0 15 rfl rfl)
theorem dX2_isPassable_18 : decode cX2_isPassable 18 = .ok (.iconst (-1), 1) := dk_2 (dk_at dksX2_isPassable_0 18 rfl rfl)
theorem dX2_isPassable_19 : decode cX2_isPassable 19 = .ok (.if_icmp .ne 7, 3) := dk_160 0 7 (dk_at dksX2_isPassable_0 19 rfl rfl)
theorem dX2_isPassable_22 : decode cX2_isPassable 22 = .ok (.iconst 1, 1) := dk_4 (dk_at dksX2_isPassable_0 22 rfl rfl)
theorem dX2_isPassable_23 : decode cX2_isPassable 23 = .ok (.goto 4, 3) := dk_167 0 4 (dk_at dksX2_isPassable_1 0 rfl rfl)
theorem dX2_isPassable_26 : decode cX2_isPassable 26 = .ok (.iconst 0, 1) := dk_3 (dk_at dksX2_isPassable_1 3 rfl rfl)
theorem dX2_isPassable_27 : decode cX2_isPassable 27 = .ok (.ireturn, 1) := dk_172 (dk_at dksX2_isPassable_1 4 rfl rfl)
abbrev cX2_canDig : ByteArray := prog_17_method_31_code
def yX2_canDig : MethodName := ⟨RX2, "canDig", "(II)Z"⟩
def dkwX2_canDig_3 : List UInt8 := [172]
abbrev dktX2_canDig_3 : List UInt8 := dkwX2_canDig_3 ++ []
def dkwX2_canDig_2 : List UInt8 := [180, 0, 27, 163, 0, 20, 42, 42, 28, 182, 0, 223, 182, 0, 158, 2, 159, 0, 7, 4, 167, 0, 4, 3]
abbrev dktX2_canDig_2 : List UInt8 := dkwX2_canDig_2 ++ dktX2_canDig_3
def dkwX2_canDig_1 : List UInt8 := [182, 0, 168, 2, 160, 0, 7, 4, 167, 0, 4, 3, 62, 29, 153, 0, 32, 42, 28, 182, 0, 193, 42]
abbrev dktX2_canDig_1 : List UInt8 := dkwX2_canDig_1 ++ dktX2_canDig_2
def dkwX2_canDig_0 : List UInt8 := [42, 180, 0, 11, 28, 50, 193, 0, 31, 153, 0, 26, 42, 28, 27, 182, 0, 107, 153, 0, 17, 42, 28, 27]
abbrev dktX2_canDig_0 : List UInt8 := dkwX2_canDig_0 ++ dktX2_canDig_1
theorem dksX2_canDig_0 : cX2_canDig.data.toList.drop 0 = dktX2_canDig_0 := by decide +kernel
theorem dksX2_canDig_1 : cX2_canDig.data.toList.drop 24 = dktX2_canDig_1 := dk_seg dksX2_canDig_0 24 rfl rfl
theorem dksX2_canDig_2 : cX2_canDig.data.toList.drop 47 = dktX2_canDig_2 := dk_seg dksX2_canDig_1 23 rfl rfl
theorem dksX2_canDig_3 : cX2_canDig.data.toList.drop 71 = dktX2_canDig_3 := dk_seg dksX2_canDig_2 24 rfl rfl
theorem dX2_canDig_0 : decode cX2_canDig 0 = .ok (.aload_n 0, 1) := dk_42 (dk_at dksX2_canDig_0 0 rfl rfl)
theorem dX2_canDig_1 : decode cX2_canDig 1 = .ok (.getfield 11, 3) := dk_180 0 11 (dk_at dksX2_canDig_0 1 rfl rfl)
theorem dX2_canDig_4 : decode cX2_canDig 4 = .ok (.iload_n 2, 1) := dk_28 (dk_at dksX2_canDig_0 4 rfl rfl)
theorem dX2_canDig_5 : decode cX2_canDig 5 = .ok (.aaload, 1) := dk_50 (dk_at dksX2_canDig_0 5 rfl rfl)
theorem dX2_canDig_6 : decode cX2_canDig 6 = .ok (.instanceof 31, 3) := dk_193 0 31 (dk_at dksX2_canDig_0 6 rfl rfl)
theorem dX2_canDig_9 : decode cX2_canDig 9 = .ok (.ifCond .eq 26, 3) := dk_153 0 26 (dk_at dksX2_canDig_0 9 rfl rfl)
theorem dX2_canDig_12 : decode cX2_canDig 12 = .ok (.aload_n 0, 1) := dk_42 (dk_at dksX2_canDig_0 12 rfl rfl)
theorem dX2_canDig_13 : decode cX2_canDig 13 = .ok (.iload_n 2, 1) := dk_28 (dk_at dksX2_canDig_0 13 rfl rfl)
theorem dX2_canDig_14 : decode cX2_canDig 14 = .ok (.iload_n 1, 1) := dk_27 (dk_at dksX2_canDig_0 14 rfl rfl)
theorem dX2_canDig_15 : decode cX2_canDig 15 = .ok (.invokevirtual 107, 3) := dk_182 0 107 (dk_at dksX2_canDig_0 15 rfl rfl)
theorem dX2_canDig_18 : decode cX2_canDig 18 = .ok (.ifCond .eq 17, 3) := dk_153 0 17 (dk_at dksX2_canDig_0 18 rfl rfl)
theorem dX2_canDig_21 : decode cX2_canDig 21 = .ok (.aload_n 0, 1) := dk_42 (dk_at dksX2_canDig_0 21 rfl rfl)
theorem dX2_canDig_22 : decode cX2_canDig 22 = .ok (.iload_n 2, 1) := dk_28 (dk_at dksX2_canDig_0 22 rfl rfl)
theorem dX2_canDig_23 : decode cX2_canDig 23 = .ok (.iload_n 1, 1) := dk_27 (dk_at dksX2_canDig_0 23 rfl rfl)
theorem dX2_canDig_24 : decode cX2_canDig 24 = .ok (.invokevirtual 168, 3) := dk_182 0 168 (dk_at dksX2_canDig_1 0 rfl rfl)
theorem dX2_canDig_27 : decode cX2_canDig 27 = .ok (.iconst (-1), 1) := dk_2 (dk_at dksX2_canDig_1 3 rfl rfl)
theorem dX2_canDig_28 : decode cX2_canDig 28 = .ok (.if_icmp .ne 7, 3) := dk_160 0 7 (dk_at dksX2_canDig_1 4 rfl rfl)
theorem dX2_canDig_31 : decode cX2_canDig 31 = .ok (.iconst 1, 1) := dk_4 (dk_at dksX2_canDig_1 7 rfl rfl)
theorem dX2_canDig_32 : decode cX2_canDig 32 = .ok (.goto 4, 3) := dk_167 0 4 (dk_at dksX2_canDig_1 8 rfl rfl)
theorem dX2_canDig_35 : decode cX2_canDig 35 = .ok (.iconst 0, 1) := dk_3 (dk_at dksX2_canDig_1 11 rfl rfl)
theorem dX2_canDig_36 : decode cX2_canDig 36 = .ok (.istore_n 3, 1) := dk_62 (dk_at dksX2_canDig_1 12 rfl rfl)
theorem dX2_canDig_37 : decode cX2_canDig 37 = .ok (.iload_n 3, 1) := dk_29 (dk_at dksX2_canDig_1 13 rfl rfl)
theorem dX2_canDig_38 : decode cX2_canDig 38 = .ok (.ifCond .eq 32, 3) := dk_153 0 32 (dk_at dksX2_canDig_1 14 rfl rfl)
theorem dX2_canDig_41 : decode cX2_canDig 41 = .ok (.aload_n 0, 1) := dk_42 (dk_at dksX2_canDig_1 17 rfl rfl)
theorem dX2_canDig_42 : decode cX2_canDig 42 = .ok (.iload_n 2, 1) := dk_28 (dk_at dksX2_canDig_1 18 rfl rfl)
theorem dX2_canDig_43 : decode cX2_canDig 43 = .ok (.invokevirtual 193, 3) := dk_182 0 193 (dk_at dksX2_canDig_1 19 rfl rfl)
theorem dX2_canDig_46 : decode cX2_canDig 46 = .ok (.aload_n 0, 1) := dk_42 (dk_at dksX2_canDig_1 22 rfl rfl)
theorem dX2_canDig_47 : decode cX2_canDig 47 = .ok (.getfield 27, 3) := dk_180 0 27 (dk_at dksX2_canDig_2 0 rfl rfl)
theorem dX2_canDig_50 : decode cX2_canDig 50 = .ok (.if_icmp .gt 20, 3) := dk_163 0 20 (dk_at dksX2_canDig_2 3 rfl rfl)
theorem dX2_canDig_53 : decode cX2_canDig 53 = .ok (.aload_n 0, 1) := dk_42 (dk_at dksX2_canDig_2 6 rfl rfl)
theorem dX2_canDig_54 : decode cX2_canDig 54 = .ok (.aload_n 0, 1) := dk_42 (dk_at dksX2_canDig_2 7 rfl rfl)
theorem dX2_canDig_55 : decode cX2_canDig 55 = .ok (.iload_n 2, 1) := dk_28 (dk_at dksX2_canDig_2 8 rfl rfl)
theorem dX2_canDig_56 : decode cX2_canDig 56 = .ok (.invokevirtual 223, 3) := dk_182 0 223 (dk_at dksX2_canDig_2 9 rfl rfl)
theorem dX2_canDig_59 : decode cX2_canDig 59 = .ok (.invokevirtual 158, 3) := dk_182 0 158 (dk_at dksX2_canDig_2 12 rfl rfl)
theorem dX2_canDig_62 : decode cX2_canDig 62 = .ok (.iconst (-1), 1) := dk_2 (dk_at dksX2_canDig_2 15 rfl rfl)
theorem dX2_canDig_63 : decode cX2_canDig 63 = .ok (.if_icmp .eq 7, 3) := dk_159 0 7 (dk_at dksX2_canDig_2 16 rfl rfl)
theorem dX2_canDig_66 : decode cX2_canDig 66 = .ok (.iconst 1, 1) := dk_4 (dk_at dksX2_canDig_2 19 rfl rfl)
theorem dX2_canDig_67 : decode cX2_canDig 67 = .ok (.goto 4, 3) := dk_167 0 4 (dk_at dksX2_canDig_2 20 rfl rfl)
theorem dX2_canDig_70 : decode cX2_canDig 70 = .ok (.iconst 0, 1) := dk_3 (dk_at dksX2_canDig_2 23 rfl rfl)
theorem dX2_canDig_71 : decode cX2_canDig 71 = .ok (.ireturn, 1) := dk_172 (dk_at dksX2_canDig_3 0 rfl rfl)
abbrev cX2_shaftsClosed : ByteArray := prog_17_method_33_code
def yX2_shaftsClosed : MethodName := ⟨RX2, "shaftsClosed", "()I"⟩
def dkwX2_shaftsClosed_2 : List UInt8 := [167, 255, 222, 27, 172]
abbrev dktX2_shaftsClosed_2 : List UInt8 := dkwX2_shaftsClosed_2 ++ []
def dkwX2_shaftsClosed_1 : List UInt8 := [185, 0, 52, 1, 0, 192, 0, 56, 78, 27, 45, 180, 0, 189, 153, 0, 7, 4, 167, 0, 4, 3, 96, 60]
abbrev dktX2_shaftsClosed_1 : List UInt8 := dkwX2_shaftsClosed_1 ++ dktX2_shaftsClosed_2
def dkwX2_shaftsClosed_0 : List UInt8 := [3, 60, 42, 180, 0, 20, 185, 0, 40, 1, 0, 77, 44, 185, 0, 46, 1, 0, 153, 0, 31, 44]
abbrev dktX2_shaftsClosed_0 : List UInt8 := dkwX2_shaftsClosed_0 ++ dktX2_shaftsClosed_1
theorem dksX2_shaftsClosed_0 : cX2_shaftsClosed.data.toList.drop 0 = dktX2_shaftsClosed_0 := by decide +kernel
theorem dksX2_shaftsClosed_1 : cX2_shaftsClosed.data.toList.drop 22 = dktX2_shaftsClosed_1 := dk_seg dksX2_shaftsClosed_0 22 rfl rfl
theorem dksX2_shaftsClosed_2 : cX2_shaftsClosed.data.toList.drop 46 = dktX2_shaftsClosed_2 := dk_seg dksX2_shaftsClosed_1 24 rfl rfl
theorem dX2_shaftsClosed_0 : decode cX2_shaftsClosed 0 = .ok (.iconst 0, 1) := dk_3 (dk_at dksX2_shaftsClosed_0 0 rfl rfl)
theorem dX2_shaftsClosed_1 : decode cX2_shaftsClosed 1 = .ok (.istore_n 1, 1) := dk_60 (dk_at dksX2_shaftsClosed_0 1 rfl rfl)
theorem dX2_shaftsClosed_2 : decode cX2_shaftsClosed 2 = .ok (.aload_n 0, 1) := dk_42 (dk_at dksX2_shaftsClosed_0 2 rfl rfl)
theorem dX2_shaftsClosed_3 : decode cX2_shaftsClosed 3 = .ok (.getfield 20, 3) := dk_180 0 20 (dk_at dksX2_shaftsClosed_0 3 rfl rfl)
theorem dX2_shaftsClosed_6 : decode cX2_shaftsClosed 6 = .ok (.invokeinterface 40 1, 5) := by decide +kernel
theorem dX2_shaftsClosed_11 : decode cX2_shaftsClosed 11 = .ok (.astore_n 2, 1) := dk_77 (dk_at dksX2_shaftsClosed_0 11 rfl rfl)
theorem dX2_shaftsClosed_12 : decode cX2_shaftsClosed 12 = .ok (.aload_n 2, 1) := dk_44 (dk_at dksX2_shaftsClosed_0 12 rfl rfl)
theorem dX2_shaftsClosed_13 : decode cX2_shaftsClosed 13 = .ok (.invokeinterface 46 1, 5) := by decide +kernel
theorem dX2_shaftsClosed_18 : decode cX2_shaftsClosed 18 = .ok (.ifCond .eq 31, 3) := dk_153 0 31 (dk_at dksX2_shaftsClosed_0 18 rfl rfl)
theorem dX2_shaftsClosed_21 : decode cX2_shaftsClosed 21 = .ok (.aload_n 2, 1) := dk_44 (dk_at dksX2_shaftsClosed_0 21 rfl rfl)
theorem dX2_shaftsClosed_22 : decode cX2_shaftsClosed 22 = .ok (.invokeinterface 52 1, 5) := by decide +kernel
theorem dX2_shaftsClosed_27 : decode cX2_shaftsClosed 27 = .ok (.checkcast 56, 3) := dk_192 0 56 (dk_at dksX2_shaftsClosed_1 5 rfl rfl)
theorem dX2_shaftsClosed_30 : decode cX2_shaftsClosed 30 = .ok (.astore_n 3, 1) := dk_78 (dk_at dksX2_shaftsClosed_1 8 rfl rfl)
theorem dX2_shaftsClosed_31 : decode cX2_shaftsClosed 31 = .ok (.iload_n 1, 1) := dk_27 (dk_at dksX2_shaftsClosed_1 9 rfl rfl)
theorem dX2_shaftsClosed_32 : decode cX2_shaftsClosed 32 = .ok (.aload_n 3, 1) := dk_45 (dk_at dksX2_shaftsClosed_1 10 rfl rfl)
theorem dX2_shaftsClosed_33 : decode cX2_shaftsClosed 33 = .ok (.getfield 189, 3) := dk_180 0 189 (dk_at dksX2_shaftsClosed_1 11 rfl rfl)
theorem dX2_shaftsClosed_36 : decode cX2_shaftsClosed 36 = .ok (.ifCond .eq 7, 3) := dk_153 0 7 (dk_at dksX2_shaftsClosed_1 14 rfl rfl)
theorem dX2_shaftsClosed_39 : decode cX2_shaftsClosed 39 = .ok (.iconst 1, 1) := dk_4 (dk_at dksX2_shaftsClosed_1 17 rfl rfl)
theorem dX2_shaftsClosed_40 : decode cX2_shaftsClosed 40 = .ok (.goto 4, 3) := dk_167 0 4 (dk_at dksX2_shaftsClosed_1 18 rfl rfl)
theorem dX2_shaftsClosed_43 : decode cX2_shaftsClosed 43 = .ok (.iconst 0, 1) := dk_3 (dk_at dksX2_shaftsClosed_1 21 rfl rfl)
theorem dX2_shaftsClosed_44 : decode cX2_shaftsClosed 44 = .ok (.iadd, 1) := dk_96 (dk_at dksX2_shaftsClosed_1 22 rfl rfl)
theorem dX2_shaftsClosed_45 : decode cX2_shaftsClosed 45 = .ok (.istore_n 1, 1) := dk_60 (dk_at dksX2_shaftsClosed_1 23 rfl rfl)
theorem dX2_shaftsClosed_46 : decode cX2_shaftsClosed 46 = .ok (.goto (-34), 3) := dk_167 255 222 (dk_at dksX2_shaftsClosed_2 0 rfl rfl)
theorem dX2_shaftsClosed_49 : decode cX2_shaftsClosed 49 = .ok (.iload_n 1, 1) := dk_27 (dk_at dksX2_shaftsClosed_2 3 rfl rfl)
theorem dX2_shaftsClosed_50 : decode cX2_shaftsClosed 50 = .ok (.ireturn, 1) := dk_172 (dk_at dksX2_shaftsClosed_2 4 rfl rfl)
abbrev cX2_won : ByteArray := prog_17_method_34_code
def yX2_won : MethodName := ⟨RX2, "won", "()I"⟩
def dkwX2_won_1 : List UInt8 := [185, 0, 52, 1, 0, 192, 0, 56, 78, 27, 45, 180, 0, 225, 96, 60, 167, 255, 230, 27, 172]
abbrev dktX2_won_1 : List UInt8 := dkwX2_won_1 ++ []
def dkwX2_won_0 : List UInt8 := [3, 60, 42, 180, 0, 20, 185, 0, 40, 1, 0, 77, 44, 185, 0, 46, 1, 0, 153, 0, 23, 44]
abbrev dktX2_won_0 : List UInt8 := dkwX2_won_0 ++ dktX2_won_1
theorem dksX2_won_0 : cX2_won.data.toList.drop 0 = dktX2_won_0 := by decide +kernel
theorem dksX2_won_1 : cX2_won.data.toList.drop 22 = dktX2_won_1 := dk_seg dksX2_won_0 22 rfl rfl
theorem dX2_won_0 : decode cX2_won 0 = .ok (.iconst 0, 1) := dk_3 (dk_at dksX2_won_0 0 rfl rfl)
theorem dX2_won_1 : decode cX2_won 1 = .ok (.istore_n 1, 1) := dk_60 (dk_at dksX2_won_0 1 rfl rfl)
theorem dX2_won_2 : decode cX2_won 2 = .ok (.aload_n 0, 1) := dk_42 (dk_at dksX2_won_0 2 rfl rfl)
theorem dX2_won_3 : decode cX2_won 3 = .ok (.getfield 20, 3) := dk_180 0 20 (dk_at dksX2_won_0 3 rfl rfl)
theorem dX2_won_6 : decode cX2_won 6 = .ok (.invokeinterface 40 1, 5) := by decide +kernel
theorem dX2_won_11 : decode cX2_won 11 = .ok (.astore_n 2, 1) := dk_77 (dk_at dksX2_won_0 11 rfl rfl)
theorem dX2_won_12 : decode cX2_won 12 = .ok (.aload_n 2, 1) := dk_44 (dk_at dksX2_won_0 12 rfl rfl)
theorem dX2_won_13 : decode cX2_won 13 = .ok (.invokeinterface 46 1, 5) := by decide +kernel
theorem dX2_won_18 : decode cX2_won 18 = .ok (.ifCond .eq 23, 3) := dk_153 0 23 (dk_at dksX2_won_0 18 rfl rfl)
theorem dX2_won_21 : decode cX2_won 21 = .ok (.aload_n 2, 1) := dk_44 (dk_at dksX2_won_0 21 rfl rfl)
theorem dX2_won_22 : decode cX2_won 22 = .ok (.invokeinterface 52 1, 5) := by decide +kernel
theorem dX2_won_27 : decode cX2_won 27 = .ok (.checkcast 56, 3) := dk_192 0 56 (dk_at dksX2_won_1 5 rfl rfl)
theorem dX2_won_30 : decode cX2_won 30 = .ok (.astore_n 3, 1) := dk_78 (dk_at dksX2_won_1 8 rfl rfl)
theorem dX2_won_31 : decode cX2_won 31 = .ok (.iload_n 1, 1) := dk_27 (dk_at dksX2_won_1 9 rfl rfl)
theorem dX2_won_32 : decode cX2_won 32 = .ok (.aload_n 3, 1) := dk_45 (dk_at dksX2_won_1 10 rfl rfl)
theorem dX2_won_33 : decode cX2_won 33 = .ok (.getfield 225, 3) := dk_180 0 225 (dk_at dksX2_won_1 11 rfl rfl)
theorem dX2_won_36 : decode cX2_won 36 = .ok (.iadd, 1) := dk_96 (dk_at dksX2_won_1 14 rfl rfl)
theorem dX2_won_37 : decode cX2_won 37 = .ok (.istore_n 1, 1) := dk_60 (dk_at dksX2_won_1 15 rfl rfl)
theorem dX2_won_38 : decode cX2_won 38 = .ok (.goto (-26), 3) := dk_167 255 230 (dk_at dksX2_won_1 16 rfl rfl)
theorem dX2_won_41 : decode cX2_won 41 = .ok (.iload_n 1, 1) := dk_27 (dk_at dksX2_won_1 19 rfl rfl)
theorem dX2_won_42 : decode cX2_won 42 = .ok (.ireturn, 1) := dk_172 (dk_at dksX2_won_1 20 rfl rfl)
abbrev cX2_edges : ByteArray := prog_17_method_35_code
def yX2_edges : MethodName := ⟨RX2, "edges", "()I"⟩
def dkwX2_edges_1 : List UInt8 := [185, 0, 52, 1, 0, 192, 0, 62, 78, 27, 45, 182, 0, 128, 96, 60, 167, 255, 230, 27, 172]
abbrev dktX2_edges_1 : List UInt8 := dkwX2_edges_1 ++ []
def dkwX2_edges_0 : List UInt8 := [3, 60, 42, 180, 0, 24, 185, 0, 40, 1, 0, 77, 44, 185, 0, 46, 1, 0, 153, 0, 23, 44]
abbrev dktX2_edges_0 : List UInt8 := dkwX2_edges_0 ++ dktX2_edges_1
theorem dksX2_edges_0 : cX2_edges.data.toList.drop 0 = dktX2_edges_0 := by decide +kernel
theorem dksX2_edges_1 : cX2_edges.data.toList.drop 22 = dktX2_edges_1 := dk_seg dksX2_edges_0 22 rfl rfl
theorem dX2_edges_0 : decode cX2_edges 0 = .ok (.iconst 0, 1) := dk_3 (dk_at dksX2_edges_0 0 rfl rfl)
theorem dX2_edges_1 : decode cX2_edges 1 = .ok (.istore_n 1, 1) := dk_60 (dk_at dksX2_edges_0 1 rfl rfl)
theorem dX2_edges_2 : decode cX2_edges 2 = .ok (.aload_n 0, 1) := dk_42 (dk_at dksX2_edges_0 2 rfl rfl)
theorem dX2_edges_3 : decode cX2_edges 3 = .ok (.getfield 24, 3) := dk_180 0 24 (dk_at dksX2_edges_0 3 rfl rfl)
theorem dX2_edges_6 : decode cX2_edges 6 = .ok (.invokeinterface 40 1, 5) := by decide +kernel
theorem dX2_edges_11 : decode cX2_edges 11 = .ok (.astore_n 2, 1) := dk_77 (dk_at dksX2_edges_0 11 rfl rfl)
theorem dX2_edges_12 : decode cX2_edges 12 = .ok (.aload_n 2, 1) := dk_44 (dk_at dksX2_edges_0 12 rfl rfl)
theorem dX2_edges_13 : decode cX2_edges 13 = .ok (.invokeinterface 46 1, 5) := by decide +kernel
theorem dX2_edges_18 : decode cX2_edges 18 = .ok (.ifCond .eq 23, 3) := dk_153 0 23 (dk_at dksX2_edges_0 18 rfl rfl)
theorem dX2_edges_21 : decode cX2_edges 21 = .ok (.aload_n 2, 1) := dk_44 (dk_at dksX2_edges_0 21 rfl rfl)
theorem dX2_edges_22 : decode cX2_edges 22 = .ok (.invokeinterface 52 1, 5) := by decide +kernel
theorem dX2_edges_27 : decode cX2_edges 27 = .ok (.checkcast 62, 3) := dk_192 0 62 (dk_at dksX2_edges_1 5 rfl rfl)
theorem dX2_edges_30 : decode cX2_edges 30 = .ok (.astore_n 3, 1) := dk_78 (dk_at dksX2_edges_1 8 rfl rfl)
theorem dX2_edges_31 : decode cX2_edges 31 = .ok (.iload_n 1, 1) := dk_27 (dk_at dksX2_edges_1 9 rfl rfl)
theorem dX2_edges_32 : decode cX2_edges 32 = .ok (.aload_n 3, 1) := dk_45 (dk_at dksX2_edges_1 10 rfl rfl)
theorem dX2_edges_33 : decode cX2_edges 33 = .ok (.invokevirtual 128, 3) := dk_182 0 128 (dk_at dksX2_edges_1 11 rfl rfl)
theorem dX2_edges_36 : decode cX2_edges 36 = .ok (.iadd, 1) := dk_96 (dk_at dksX2_edges_1 14 rfl rfl)
theorem dX2_edges_37 : decode cX2_edges 37 = .ok (.istore_n 1, 1) := dk_60 (dk_at dksX2_edges_1 15 rfl rfl)
theorem dX2_edges_38 : decode cX2_edges 38 = .ok (.goto (-26), 3) := dk_167 255 230 (dk_at dksX2_edges_1 16 rfl rfl)
theorem dX2_edges_41 : decode cX2_edges 41 = .ok (.iload_n 1, 1) := dk_27 (dk_at dksX2_edges_1 19 rfl rfl)
theorem dX2_edges_42 : decode cX2_edges 42 = .ok (.ireturn, 1) := dk_172 (dk_at dksX2_edges_1 20 rfl rfl)
theorem q79 : (Jvm.Cond.initialized "FlintMine$Mine") ∈ lw_all := lw_g (lw_at lw_m1 2 rfl) rfl
theorem q129 : (Jvm.Cond.instantiable "FlintMine$Mine" (7 : Nat)) ∈ lw_all := lw_g (lw_at lw_m1 52 rfl) rfl
theorem q131 : (Jvm.Cond.instanceMethod ({ cls := "FlintMine$Mine", name := "<init>", desc := "()V" } : Jvm.MethodName)) ∈ lw_all := lw_g (lw_at lw_m1 54 rfl) rfl
theorem q132 : (Jvm.Cond.code ({ cls := "FlintMine$Mine", name := "<init>", desc := "()V" } : Jvm.MethodName) prog_17_method_1_code (3 : Nat) (Option.none : Option Jvm.ClassFile.FieldType)) ∈ lw_all := lw_g (lw_at lw_m1 55 rfl) rfl
theorem q133 : (Jvm.Cond.methodLink "FlintMine$Mine" (3 : Nat) ({ cls := "java/lang/Object", name := "<init>", desc := "()V" } : Jvm.MethodName)) ∈ lw_all := lw_g (lw_at lw_m1 56 rfl) rfl
theorem q136 : (Jvm.Cond.classLink "FlintMine$Mine" (9 : Nat) "FlintMine$Ground") ∈ lw_all := lw_g (lw_at lw_m1 59 rfl) rfl
theorem q138 : (Jvm.Cond.classLink "FlintMine$Mine" (17 : Nat) "java/util/ArrayList") ∈ lw_all := lw_g (lw_at lw_m1 61 rfl) rfl
theorem q140 : (Jvm.Cond.methodLink "FlintMine$Mine" (19 : Nat) ({ cls := "java/util/ArrayList", name := "<init>", desc := "()V" } : Jvm.MethodName)) ∈ lw_all := lw_g (lw_at lw_m1 63 rfl) rfl
theorem q167 : (Jvm.Cond.classLink "FlintMine$Mine" (31 : Nat) "FlintMine$Chalk") ∈ lw_all := lw_g (lw_at lw_m1 90 rfl) rfl
theorem q169 : (Jvm.Cond.methodLink "FlintMine$Mine" (33 : Nat) ({ cls := "FlintMine$Chalk", name := "<init>", desc := "()V" } : Jvm.MethodName)) ∈ lw_all := lw_g (lw_at lw_m1 92 rfl) rfl
theorem q179 : (Jvm.Cond.fieldLinkNest "FlintMine$Mine" (165 : Nat) "FlintMine$Chalk" "nodules" "I" "FlintMine") ∈ lw_tbl := lw_at lw_m1 102 rfl
theorem q185 : (Jvm.Cond.fieldLink "FlintMine$Mine" (11 : Nat) "FlintMine$Mine" "ground" "[LFlintMine$Ground;") ∈ lw_all := lw_g (lw_at lw_m1 108 rfl) rfl
theorem q187 : (Jvm.Cond.fieldLink "FlintMine$Mine" (20 : Nat) "FlintMine$Mine" "shafts" "Ljava/util/List;") ∈ lw_all := lw_g (lw_at lw_m1 110 rfl) rfl
theorem q189 : (Jvm.Cond.fieldLink "FlintMine$Mine" (24 : Nat) "FlintMine$Mine" "picks" "Ljava/util/List;") ∈ lw_all := lw_g (lw_at lw_m1 112 rfl) rfl
theorem q191 : (Jvm.Cond.fieldLink "FlintMine$Mine" (27 : Nat) "FlintMine$Mine" "roof" "I") ∈ lw_all := lw_g (lw_at lw_m1 114 rfl) rfl
theorem q193 : (Jvm.Cond.fieldLink "FlintMine$Mine" (64 : Nat) "FlintMine$Mine" "props" "I") ∈ lw_all := lw_g (lw_at lw_m1 116 rfl) rfl
theorem q195 : (Jvm.Cond.fieldLink "FlintMine$Mine" (67 : Nat) "FlintMine$Mine" "rubble" "I") ∈ lw_all := lw_g (lw_at lw_m1 118 rfl) rfl
theorem q197 : (Jvm.Cond.fieldLink "FlintMine$Mine" (70 : Nat) "FlintMine$Mine" "strokes" "I") ∈ lw_all := lw_g (lw_at lw_m1 120 rfl) rfl
theorem q199 : (Jvm.Cond.laysFinal "FlintMine$Mine" "FlintMine$Mine" "ground" "[LFlintMine$Ground;") ∈ lw_all := lw_g (lw_at lw_m1 122 rfl) rfl
theorem q200 : (Jvm.Cond.soleField "FlintMine$Mine" "ground") ∈ lw_all := lw_g (lw_at lw_m1 123 rfl) rfl
theorem q201 : (Jvm.Cond.laysFinal "FlintMine$Mine" "FlintMine$Mine" "shafts" "Ljava/util/List;") ∈ lw_all := lw_g (lw_at lw_m1 124 rfl) rfl
theorem q202 : (Jvm.Cond.soleField "FlintMine$Mine" "shafts") ∈ lw_all := lw_g (lw_at lw_m1 125 rfl) rfl
theorem q203 : (Jvm.Cond.laysFinal "FlintMine$Mine" "FlintMine$Mine" "picks" "Ljava/util/List;") ∈ lw_all := lw_g (lw_at lw_m1 126 rfl) rfl
theorem q204 : (Jvm.Cond.soleField "FlintMine$Mine" "picks") ∈ lw_all := lw_g (lw_at lw_m1 127 rfl) rfl
theorem q205 : (Jvm.Cond.lays "FlintMine$Mine" "FlintMine$Mine" "roof" "I") ∈ lw_all := lw_g (lw_at lw_m1 128 rfl) rfl
theorem q206 : (Jvm.Cond.soleField "FlintMine$Mine" "roof") ∈ lw_all := lw_g (lw_at lw_m1 129 rfl) rfl
theorem q207 : (Jvm.Cond.lays "FlintMine$Mine" "FlintMine$Mine" "props" "I") ∈ lw_all := lw_g (lw_at lw_m1 130 rfl) rfl
theorem q208 : (Jvm.Cond.soleField "FlintMine$Mine" "props") ∈ lw_all := lw_g (lw_at lw_m1 131 rfl) rfl
theorem q209 : (Jvm.Cond.lays "FlintMine$Mine" "FlintMine$Mine" "rubble" "I") ∈ lw_all := lw_g (lw_at lw_m1 132 rfl) rfl
theorem q210 : (Jvm.Cond.soleField "FlintMine$Mine" "rubble") ∈ lw_all := lw_g (lw_at lw_m1 133 rfl) rfl
theorem q211 : (Jvm.Cond.lays "FlintMine$Mine" "FlintMine$Mine" "strokes" "I") ∈ lw_all := lw_g (lw_at lw_m1 134 rfl) rfl
theorem q212 : (Jvm.Cond.soleField "FlintMine$Mine" "strokes") ∈ lw_all := lw_g (lw_at lw_m1 135 rfl) rfl
theorem q213 : (Jvm.Cond.superclass "FlintMine$Mine" "java/lang/Object") ∈ lw_all := lw_g (lw_at lw_m1 136 rfl) rfl
theorem q304 : (Jvm.Cond.instanceMethod ({ cls := "FlintMine$Mine", name := "longest", desc := "()I" } : Jvm.MethodName)) ∈ lw_all := lw_g (lw_at lw_m1 227 rfl) rfl
theorem q305 : (Jvm.Cond.selects "FlintMine$Mine" ({ cls := "FlintMine$Mine", name := "longest", desc := "()I" } : Jvm.MethodName) ({ cls := "FlintMine$Mine", name := "longest", desc := "()I" } : Jvm.MethodName)) ∈ lw_all := lw_g (lw_at lw_m1 228 rfl) rfl
theorem q306 : (Jvm.Cond.code ({ cls := "FlintMine$Mine", name := "longest", desc := "()I" } : Jvm.MethodName) prog_17_method_12_code (3 : Nat) (Option.some Jvm.ClassFile.FieldType.int)) ∈ lw_all := lw_g (lw_at lw_m1 229 rfl) rfl
theorem q307 : (Jvm.Cond.methodLink "FlintMine$Mine" (125 : Nat) ({ cls := "FlintMine$Mine", name := "span", desc := "(IZ)I" } : Jvm.MethodName)) ∈ lw_all := lw_g (lw_at lw_m1 230 rfl) rfl
theorem q308 : (Jvm.Cond.instanceMethod ({ cls := "FlintMine$Mine", name := "span", desc := "(IZ)I" } : Jvm.MethodName)) ∈ lw_all := lw_g (lw_at lw_m1 231 rfl) rfl
theorem q309 : (Jvm.Cond.selects "FlintMine$Mine" ({ cls := "FlintMine$Mine", name := "span", desc := "(IZ)I" } : Jvm.MethodName) ({ cls := "FlintMine$Mine", name := "span", desc := "(IZ)I" } : Jvm.MethodName)) ∈ lw_all := lw_g (lw_at lw_m1 232 rfl) rfl
theorem q310 : (Jvm.Cond.code ({ cls := "FlintMine$Mine", name := "span", desc := "(IZ)I" } : Jvm.MethodName) prog_17_method_10_code (3 : Nat) (Option.some Jvm.ClassFile.FieldType.int)) ∈ lw_all := lw_g (lw_at lw_m1 233 rfl) rfl
theorem q311 : (Jvm.Cond.interfaceEntry "FlintMine$Mine" (110 : Nat)) ∈ lw_tbl := lw_at lw_m1 234 rfl
theorem q312 : (Jvm.Cond.methodLink "FlintMine$Mine" (110 : Nat) ({ cls := "FlintMine$Ground", name := "isBare", desc := "()Z" } : Jvm.MethodName)) ∈ lw_all := lw_g (lw_at lw_m1 235 rfl) rfl
theorem q328 : (Jvm.Cond.methodLink "FlintMine$Mine" (116 : Nat) ({ cls := "FlintMine$Mine", name := "spanIf", desc := "(IZ)I" } : Jvm.MethodName)) ∈ lw_all := lw_g (lw_at lw_m2 11 rfl) rfl
theorem q329 : (Jvm.Cond.instanceMethod ({ cls := "FlintMine$Mine", name := "spanIf", desc := "(IZ)I" } : Jvm.MethodName)) ∈ lw_all := lw_g (lw_at lw_m2 12 rfl) rfl
theorem q330 : (Jvm.Cond.selects "FlintMine$Mine" ({ cls := "FlintMine$Mine", name := "spanIf", desc := "(IZ)I" } : Jvm.MethodName) ({ cls := "FlintMine$Mine", name := "spanIf", desc := "(IZ)I" } : Jvm.MethodName)) ∈ lw_all := lw_g (lw_at lw_m2 13 rfl) rfl
theorem q331 : (Jvm.Cond.code ({ cls := "FlintMine$Mine", name := "spanIf", desc := "(IZ)I" } : Jvm.MethodName) prog_17_method_9_code (3 : Nat) (Option.some Jvm.ClassFile.FieldType.int)) ∈ lw_all := lw_g (lw_at lw_m2 14 rfl) rfl
theorem q332 : (Jvm.Cond.methodLink "FlintMine$Mine" (113 : Nat) ({ cls := "FlintMine$Mine", name := "run", desc := "(II)I" } : Jvm.MethodName)) ∈ lw_all := lw_g (lw_at lw_m2 15 rfl) rfl
theorem q333 : (Jvm.Cond.privateMethod ({ cls := "FlintMine$Mine", name := "run", desc := "(II)I" } : Jvm.MethodName)) ∈ lw_tbl := lw_at lw_m2 16 rfl
theorem q334 : (Jvm.Cond.instanceMethod ({ cls := "FlintMine$Mine", name := "run", desc := "(II)I" } : Jvm.MethodName)) ∈ lw_all := lw_g (lw_at lw_m2 17 rfl) rfl
theorem q335 : (Jvm.Cond.code ({ cls := "FlintMine$Mine", name := "run", desc := "(II)I" } : Jvm.MethodName) prog_17_method_8_code (5 : Nat) (Option.some Jvm.ClassFile.FieldType.int)) ∈ lw_all := lw_g (lw_at lw_m2 18 rfl) rfl
theorem q336 : (Jvm.Cond.methodLinkNest "FlintMine$Mine" (99 : Nat) ({ cls := "FlintMine", name := "beside", desc := "(II)I" } : Jvm.MethodName) "FlintMine") ∈ lw_tbl := lw_at lw_m2 19 rfl
theorem q341 : (Jvm.Cond.methodLink "FlintMine$Mine" (120 : Nat) ({ cls := "java/lang/Math", name := "max", desc := "(II)I" } : Jvm.MethodName)) ∈ lw_all := lw_g (lw_at lw_m2 24 rfl) rfl
theorem q363 : (Jvm.Cond.instanceMethod ({ cls := "FlintMine$Mine", name := "<init>", desc := "(LFlintMine$Mine;)V" } : Jvm.MethodName)) ∈ lw_all := lw_g (lw_at lw_m2 46 rfl) rfl
theorem q364 : (Jvm.Cond.code ({ cls := "FlintMine$Mine", name := "<init>", desc := "(LFlintMine$Mine;)V" } : Jvm.MethodName) prog_17_method_2_code (4 : Nat) (Option.none : Option Jvm.ClassFile.FieldType)) ∈ lw_all := lw_g (lw_at lw_m2 47 rfl) rfl
theorem q365 : (Jvm.Cond.methodLink "FlintMine$Mine" (34 : Nat) ({ cls := "java/lang/System", name := "arraycopy", desc := "(Ljava/lang/Object;ILjava/lang/Object;II)V" } : Jvm.MethodName)) ∈ lw_all := lw_g (lw_at lw_m2 48 rfl) rfl
theorem q368 : (Jvm.Cond.interfaceEntry "FlintMine$Mine" (40 : Nat)) ∈ lw_tbl := lw_at lw_m2 51 rfl
theorem q369 : (Jvm.Cond.methodLink "FlintMine$Mine" (40 : Nat) ({ cls := "java/util/List", name := "iterator", desc := "()Ljava/util/Iterator;" } : Jvm.MethodName)) ∈ lw_all := lw_g (lw_at lw_m2 52 rfl) rfl
theorem q397 : (Jvm.Cond.interfaceEntry "FlintMine$Mine" (46 : Nat)) ∈ lw_tbl := lw_at lw_m2 80 rfl
theorem q398 : (Jvm.Cond.methodLink "FlintMine$Mine" (46 : Nat) ({ cls := "java/util/Iterator", name := "hasNext", desc := "()Z" } : Jvm.MethodName)) ∈ lw_all := lw_g (lw_at lw_m2 81 rfl) rfl
theorem q407 : (Jvm.Cond.interfaceEntry "FlintMine$Mine" (52 : Nat)) ∈ lw_tbl := lw_at lw_m2 90 rfl
theorem q408 : (Jvm.Cond.methodLink "FlintMine$Mine" (52 : Nat) ({ cls := "java/util/Iterator", name := "next", desc := "()Ljava/lang/Object;" } : Jvm.MethodName)) ∈ lw_all := lw_g (lw_at lw_m2 91 rfl) rfl
theorem q491 : (Jvm.Cond.classLink "FlintMine$Mine" (56 : Nat) "FlintMine$Shaft") ∈ lw_all := lw_g (lw_at lw_m2 174 rfl) rfl
theorem q492 : (Jvm.Cond.interfaceEntry "FlintMine$Mine" (58 : Nat)) ∈ lw_tbl := lw_at lw_m2 175 rfl
theorem q493 : (Jvm.Cond.methodLink "FlintMine$Mine" (58 : Nat) ({ cls := "java/util/List", name := "add", desc := "(Ljava/lang/Object;)Z" } : Jvm.MethodName)) ∈ lw_all := lw_g (lw_at lw_m2 176 rfl) rfl
theorem q541 : (Jvm.Cond.selects "FlintMine$Mine" ({ cls := "java/lang/Object", name := "getClass", desc := "()Ljava/lang/Class;" } : Jvm.MethodName) ({ cls := "java/lang/Object", name := "getClass", desc := "()Ljava/lang/Class;" } : Jvm.MethodName)) ∈ lw_all := lw_g (lw_at lw_m2 224 rfl) rfl
theorem q574 : (Jvm.Cond.classLink "FlintMine$Mine" (62 : Nat) "java/lang/Integer") ∈ lw_all := lw_g (lw_at lw_m3 17 rfl) rfl
theorem q685 : (Jvm.Cond.instanceMethod ({ cls := "FlintMine$Mine", name := "setRock", desc := "(ILFlintMine$Chalk;)I" } : Jvm.MethodName)) ∈ lw_all := lw_g (lw_at lw_m3 128 rfl) rfl
theorem q686 : (Jvm.Cond.selects "FlintMine$Mine" ({ cls := "FlintMine$Mine", name := "setRock", desc := "(ILFlintMine$Chalk;)I" } : Jvm.MethodName) ({ cls := "FlintMine$Mine", name := "setRock", desc := "(ILFlintMine$Chalk;)I" } : Jvm.MethodName)) ∈ lw_all := lw_g (lw_at lw_m3 129 rfl) rfl
theorem q687 : (Jvm.Cond.code ({ cls := "FlintMine$Mine", name := "setRock", desc := "(ILFlintMine$Chalk;)I" } : Jvm.MethodName) prog_17_method_15_code (4 : Nat) (Option.some Jvm.ClassFile.FieldType.int)) ∈ lw_all := lw_g (lw_at lw_m3 130 rfl) rfl
theorem q688 : (Jvm.Cond.methodLink "FlintMine$Mine" (142 : Nat) ({ cls := "FlintMine$Mine", name := "chalk", desc := "(I)LFlintMine$Chalk;" } : Jvm.MethodName)) ∈ lw_all := lw_g (lw_at lw_m3 131 rfl) rfl
theorem q689 : (Jvm.Cond.privateMethod ({ cls := "FlintMine$Mine", name := "chalk", desc := "(I)LFlintMine$Chalk;" } : Jvm.MethodName)) ∈ lw_tbl := lw_at lw_m3 132 rfl
theorem q690 : (Jvm.Cond.instanceMethod ({ cls := "FlintMine$Mine", name := "chalk", desc := "(I)LFlintMine$Chalk;" } : Jvm.MethodName)) ∈ lw_all := lw_g (lw_at lw_m3 133 rfl) rfl
theorem q691 : (Jvm.Cond.code ({ cls := "FlintMine$Mine", name := "chalk", desc := "(I)LFlintMine$Chalk;" } : Jvm.MethodName) prog_17_method_4_code (4 : Nat) (Option.some (Jvm.ClassFile.FieldType.object "FlintMine$Chalk"))) ∈ lw_all := lw_g (lw_at lw_m3 134 rfl) rfl
theorem q692 : (Jvm.Cond.classLink "FlintMine$Mine" (89 : Nat) "FlintMine$Refusal") ∈ lw_all := lw_g (lw_at lw_m3 135 rfl) rfl
theorem q701 : (Jvm.Cond.methodLink "FlintMine$Mine" (91 : Nat) ({ cls := "FlintMine$Refusal", name := "<init>", desc := "(II)V" } : Jvm.MethodName)) ∈ lw_all := lw_g (lw_at lw_m3 144 rfl) rfl
theorem q720 : (Jvm.Cond.methodLink "FlintMine$Mine" (146 : Nat) ({ cls := "FlintMine$Chalk", name := "strokes", desc := "()I" } : Jvm.MethodName)) ∈ lw_all := lw_g (lw_at lw_m3 163 rfl) rfl
theorem q730 : (Jvm.Cond.instanceMethod ({ cls := "FlintMine$Mine", name := "setRoof", desc := "(I)I" } : Jvm.MethodName)) ∈ lw_all := lw_g (lw_at lw_m3 173 rfl) rfl
theorem q731 : (Jvm.Cond.selects "FlintMine$Mine" ({ cls := "FlintMine$Mine", name := "setRoof", desc := "(I)I" } : Jvm.MethodName) ({ cls := "FlintMine$Mine", name := "setRoof", desc := "(I)I" } : Jvm.MethodName)) ∈ lw_all := lw_g (lw_at lw_m3 174 rfl) rfl
theorem q732 : (Jvm.Cond.code ({ cls := "FlintMine$Mine", name := "setRoof", desc := "(I)I" } : Jvm.MethodName) prog_17_method_16_code (3 : Nat) (Option.some Jvm.ClassFile.FieldType.int)) ∈ lw_all := lw_g (lw_at lw_m3 175 rfl) rfl
theorem q733 : (Jvm.Cond.methodLink "FlintMine$Mine" (148 : Nat) ({ cls := "FlintMine$Mine", name := "longest", desc := "()I" } : Jvm.MethodName)) ∈ lw_all := lw_g (lw_at lw_m3 176 rfl) rfl
theorem q734 : (Jvm.Cond.methodLinkNest "FlintMine$Mine" (151 : Nat) ({ cls := "FlintMine", name := "allow", desc := "(ZII)V" } : Jvm.MethodName) "FlintMine") ∈ lw_tbl := lw_at lw_m3 177 rfl
theorem q744 : (Jvm.Cond.instanceMethod ({ cls := "FlintMine$Mine", name := "addProps", desc := "(I)I" } : Jvm.MethodName)) ∈ lw_all := lw_g (lw_at lw_m3 187 rfl) rfl
theorem q745 : (Jvm.Cond.selects "FlintMine$Mine" ({ cls := "FlintMine$Mine", name := "addProps", desc := "(I)I" } : Jvm.MethodName) ({ cls := "FlintMine$Mine", name := "addProps", desc := "(I)I" } : Jvm.MethodName)) ∈ lw_all := lw_g (lw_at lw_m3 188 rfl) rfl
theorem q746 : (Jvm.Cond.code ({ cls := "FlintMine$Mine", name := "addProps", desc := "(I)I" } : Jvm.MethodName) prog_17_method_17_code (2 : Nat) (Option.some Jvm.ClassFile.FieldType.int)) ∈ lw_all := lw_g (lw_at lw_m3 189 rfl) rfl
theorem q747 : (Jvm.Cond.methodLink "FlintMine$Mine" (155 : Nat) ({ cls := "java/lang/Math", name := "min", desc := "(II)I" } : Jvm.MethodName)) ∈ lw_all := lw_g (lw_at lw_m3 190 rfl) rfl
theorem q754 : (Jvm.Cond.instanceMethod ({ cls := "FlintMine$Mine", name := "addPick", desc := "(I)I" } : Jvm.MethodName)) ∈ lw_all := lw_g (lw_at lw_m3 197 rfl) rfl
theorem q755 : (Jvm.Cond.selects "FlintMine$Mine" ({ cls := "FlintMine$Mine", name := "addPick", desc := "(I)I" } : Jvm.MethodName) ({ cls := "FlintMine$Mine", name := "addPick", desc := "(I)I" } : Jvm.MethodName)) ∈ lw_all := lw_g (lw_at lw_m3 198 rfl) rfl
theorem q756 : (Jvm.Cond.code ({ cls := "FlintMine$Mine", name := "addPick", desc := "(I)I" } : Jvm.MethodName) prog_17_method_18_code (2 : Nat) (Option.some Jvm.ClassFile.FieldType.int)) ∈ lw_all := lw_g (lw_at lw_m3 199 rfl) rfl
theorem q757 : (Jvm.Cond.interfaceEntry "FlintMine$Mine" (73 : Nat)) ∈ lw_tbl := lw_at lw_m3 200 rfl
theorem q758 : (Jvm.Cond.methodLink "FlintMine$Mine" (73 : Nat) ({ cls := "java/util/List", name := "size", desc := "()I" } : Jvm.MethodName)) ∈ lw_all := lw_g (lw_at lw_m3 201 rfl) rfl
theorem q759 : (Jvm.Cond.methodLink "FlintMine$Mine" (131 : Nat) ({ cls := "java/lang/Integer", name := "valueOf", desc := "(I)Ljava/lang/Integer;" } : Jvm.MethodName)) ∈ lw_all := lw_g (lw_at lw_m3 202 rfl) rfl
theorem q784 : (Jvm.Cond.instanceMethod ({ cls := "FlintMine$Mine", name := "sink", desc := "(I)I" } : Jvm.MethodName)) ∈ lw_all := lw_g (lw_at lw_m3 227 rfl) rfl
theorem q785 : (Jvm.Cond.selects "FlintMine$Mine" ({ cls := "FlintMine$Mine", name := "sink", desc := "(I)I" } : Jvm.MethodName) ({ cls := "FlintMine$Mine", name := "sink", desc := "(I)I" } : Jvm.MethodName)) ∈ lw_all := lw_g (lw_at lw_m3 228 rfl) rfl
theorem q786 : (Jvm.Cond.code ({ cls := "FlintMine$Mine", name := "sink", desc := "(I)I" } : Jvm.MethodName) prog_17_method_21_code (4 : Nat) (Option.some Jvm.ClassFile.FieldType.int)) ∈ lw_all := lw_g (lw_at lw_m3 229 rfl) rfl
theorem q787 : (Jvm.Cond.methodLink "FlintMine$Mine" (171 : Nat) ({ cls := "FlintMine$Mine", name := "allowMeeting", desc := "(II)V" } : Jvm.MethodName)) ∈ lw_all := lw_g (lw_at lw_m3 230 rfl) rfl
theorem q788 : (Jvm.Cond.privateMethod ({ cls := "FlintMine$Mine", name := "allowMeeting", desc := "(II)V" } : Jvm.MethodName)) ∈ lw_tbl := lw_at lw_m3 231 rfl
theorem q789 : (Jvm.Cond.instanceMethod ({ cls := "FlintMine$Mine", name := "allowMeeting", desc := "(II)V" } : Jvm.MethodName)) ∈ lw_all := lw_g (lw_at lw_m3 232 rfl) rfl
theorem q790 : (Jvm.Cond.code ({ cls := "FlintMine$Mine", name := "allowMeeting", desc := "(II)V" } : Jvm.MethodName) prog_17_method_20_code (4 : Nat) (Option.none : Option Jvm.ClassFile.FieldType)) ∈ lw_all := lw_g (lw_at lw_m3 233 rfl) rfl
theorem q791 : (Jvm.Cond.methodLink "FlintMine$Mine" (168 : Nat) ({ cls := "FlintMine$Mine", name := "met", desc := "(II)I" } : Jvm.MethodName)) ∈ lw_all := lw_g (lw_at lw_m3 234 rfl) rfl
theorem q792 : (Jvm.Cond.instanceMethod ({ cls := "FlintMine$Mine", name := "met", desc := "(II)I" } : Jvm.MethodName)) ∈ lw_all := lw_g (lw_at lw_m3 235 rfl) rfl
theorem q793 : (Jvm.Cond.selects "FlintMine$Mine" ({ cls := "FlintMine$Mine", name := "met", desc := "(II)I" } : Jvm.MethodName) ({ cls := "FlintMine$Mine", name := "met", desc := "(II)I" } : Jvm.MethodName)) ∈ lw_all := lw_g (lw_at lw_m3 236 rfl) rfl
theorem q794 : (Jvm.Cond.code ({ cls := "FlintMine$Mine", name := "met", desc := "(II)I" } : Jvm.MethodName) prog_17_method_7_code (4 : Nat) (Option.some Jvm.ClassFile.FieldType.int)) ∈ lw_all := lw_g (lw_at lw_m3 237 rfl) rfl
theorem q795 : (Jvm.Cond.methodLink "FlintMine$Mine" (107 : Nat) ({ cls := "FlintMine$Mine", name := "isNextTo", desc := "(II)Z" } : Jvm.MethodName)) ∈ lw_all := lw_g (lw_at lw_m3 238 rfl) rfl
theorem q796 : (Jvm.Cond.instanceMethod ({ cls := "FlintMine$Mine", name := "isNextTo", desc := "(II)Z" } : Jvm.MethodName)) ∈ lw_all := lw_g (lw_at lw_m3 239 rfl) rfl
theorem q797 : (Jvm.Cond.selects "FlintMine$Mine" ({ cls := "FlintMine$Mine", name := "isNextTo", desc := "(II)Z" } : Jvm.MethodName) ({ cls := "FlintMine$Mine", name := "isNextTo", desc := "(II)Z" } : Jvm.MethodName)) ∈ lw_all := lw_g (lw_at lw_m4 0 rfl) rfl
theorem q798 : (Jvm.Cond.code ({ cls := "FlintMine$Mine", name := "isNextTo", desc := "(II)Z" } : Jvm.MethodName) prog_17_method_6_code (5 : Nat) (Option.some Jvm.ClassFile.FieldType.boolean)) ∈ lw_all := lw_g (lw_at lw_m4 1 rfl) rfl
theorem q799 : (Jvm.Cond.methodLink "FlintMine$Mine" (103 : Nat) ({ cls := "FlintMine$Mine", name := "isOpen", desc := "(II)Z" } : Jvm.MethodName)) ∈ lw_all := lw_g (lw_at lw_m4 2 rfl) rfl
theorem q800 : (Jvm.Cond.instanceMethod ({ cls := "FlintMine$Mine", name := "isOpen", desc := "(II)Z" } : Jvm.MethodName)) ∈ lw_all := lw_g (lw_at lw_m4 3 rfl) rfl
theorem q801 : (Jvm.Cond.selects "FlintMine$Mine" ({ cls := "FlintMine$Mine", name := "isOpen", desc := "(II)Z" } : Jvm.MethodName) ({ cls := "FlintMine$Mine", name := "isOpen", desc := "(II)Z" } : Jvm.MethodName)) ∈ lw_all := lw_g (lw_at lw_m4 4 rfl) rfl
theorem q802 : (Jvm.Cond.code ({ cls := "FlintMine$Mine", name := "isOpen", desc := "(II)Z" } : Jvm.MethodName) prog_17_method_5_code (5 : Nat) (Option.some Jvm.ClassFile.FieldType.boolean)) ∈ lw_all := lw_g (lw_at lw_m4 5 rfl) rfl
theorem q803 : (Jvm.Cond.classLink "FlintMine$Mine" (94 : Nat) "FlintMine$Open") ∈ lw_all := lw_g (lw_at lw_m4 6 rfl) rfl
theorem q805 : (Jvm.Cond.methodLink "FlintMine$Mine" (174 : Nat) ({ cls := "FlintMine$Open", name := "<init>", desc := "(IZ)V" } : Jvm.MethodName)) ∈ lw_all := lw_g (lw_at lw_m4 8 rfl) rfl
theorem q811 : (Jvm.Cond.fieldLinkNest "FlintMine$Mine" (96 : Nat) "FlintMine$Open" "shaft" "I" "FlintMine") ∈ lw_tbl := lw_at lw_m4 14 rfl
theorem q813 : (Jvm.Cond.fieldLinkNest "FlintMine$Mine" (199 : Nat) "FlintMine$Open" "isPropped" "Z" "FlintMine") ∈ lw_tbl := lw_at lw_m4 16 rfl
theorem q820 : (Jvm.Cond.methodLink "FlintMine$Mine" (177 : Nat) ({ cls := "FlintMine$Mine", name := "open", desc := "(ILFlintMine$Open;)I" } : Jvm.MethodName)) ∈ lw_all := lw_g (lw_at lw_m4 23 rfl) rfl
theorem q821 : (Jvm.Cond.privateMethod ({ cls := "FlintMine$Mine", name := "open", desc := "(ILFlintMine$Open;)I" } : Jvm.MethodName)) ∈ lw_tbl := lw_at lw_m4 24 rfl
theorem q822 : (Jvm.Cond.instanceMethod ({ cls := "FlintMine$Mine", name := "open", desc := "(ILFlintMine$Open;)I" } : Jvm.MethodName)) ∈ lw_all := lw_g (lw_at lw_m4 25 rfl) rfl
theorem q823 : (Jvm.Cond.code ({ cls := "FlintMine$Mine", name := "open", desc := "(ILFlintMine$Open;)I" } : Jvm.MethodName) prog_17_method_19_code (5 : Nat) (Option.some Jvm.ClassFile.FieldType.int)) ∈ lw_all := lw_g (lw_at lw_m4 26 rfl) rfl
theorem q824 : (Jvm.Cond.methodLink "FlintMine$Mine" (158 : Nat) ({ cls := "FlintMine$Mine", name := "pickFor", desc := "(I)I" } : Jvm.MethodName)) ∈ lw_all := lw_g (lw_at lw_m4 27 rfl) rfl
theorem q825 : (Jvm.Cond.instanceMethod ({ cls := "FlintMine$Mine", name := "pickFor", desc := "(I)I" } : Jvm.MethodName)) ∈ lw_all := lw_g (lw_at lw_m4 28 rfl) rfl
theorem q826 : (Jvm.Cond.selects "FlintMine$Mine" ({ cls := "FlintMine$Mine", name := "pickFor", desc := "(I)I" } : Jvm.MethodName) ({ cls := "FlintMine$Mine", name := "pickFor", desc := "(I)I" } : Jvm.MethodName)) ∈ lw_all := lw_g (lw_at lw_m4 29 rfl) rfl
theorem q827 : (Jvm.Cond.code ({ cls := "FlintMine$Mine", name := "pickFor", desc := "(I)I" } : Jvm.MethodName) prog_17_method_13_code (5 : Nat) (Option.some Jvm.ClassFile.FieldType.int)) ∈ lw_all := lw_g (lw_at lw_m4 30 rfl) rfl
theorem q828 : (Jvm.Cond.interfaceEntry "FlintMine$Mine" (85 : Nat)) ∈ lw_tbl := lw_at lw_m4 31 rfl
theorem q829 : (Jvm.Cond.methodLink "FlintMine$Mine" (85 : Nat) ({ cls := "java/util/List", name := "get", desc := "(I)Ljava/lang/Object;" } : Jvm.MethodName)) ∈ lw_all := lw_g (lw_at lw_m4 32 rfl) rfl
theorem q847 : (Jvm.Cond.methodLink "FlintMine$Mine" (128 : Nat) ({ cls := "java/lang/Integer", name := "intValue", desc := "()I" } : Jvm.MethodName)) ∈ lw_all := lw_g (lw_at lw_m4 50 rfl) rfl
theorem q851 : (Jvm.Cond.methodLink "FlintMine$Mine" (162 : Nat) ({ cls := "FlintMine$Mine", name := "wear", desc := "(II)V" } : Jvm.MethodName)) ∈ lw_all := lw_g (lw_at lw_m4 54 rfl) rfl
theorem q852 : (Jvm.Cond.privateMethod ({ cls := "FlintMine$Mine", name := "wear", desc := "(II)V" } : Jvm.MethodName)) ∈ lw_tbl := lw_at lw_m4 55 rfl
theorem q853 : (Jvm.Cond.instanceMethod ({ cls := "FlintMine$Mine", name := "wear", desc := "(II)V" } : Jvm.MethodName)) ∈ lw_all := lw_g (lw_at lw_m4 56 rfl) rfl
theorem q854 : (Jvm.Cond.code ({ cls := "FlintMine$Mine", name := "wear", desc := "(II)V" } : Jvm.MethodName) prog_17_method_14_code (5 : Nat) (Option.none : Option Jvm.ClassFile.FieldType)) ∈ lw_all := lw_g (lw_at lw_m4 57 rfl) rfl
theorem q855 : (Jvm.Cond.interfaceEntry "FlintMine$Mine" (135 : Nat)) ∈ lw_tbl := lw_at lw_m4 58 rfl
theorem q856 : (Jvm.Cond.methodLink "FlintMine$Mine" (135 : Nat) ({ cls := "java/util/List", name := "set", desc := "(ILjava/lang/Object;)Ljava/lang/Object;" } : Jvm.MethodName)) ∈ lw_all := lw_g (lw_at lw_m4 59 rfl) rfl
theorem q864 : (Jvm.Cond.interfaceEntry "FlintMine$Mine" (139 : Nat)) ∈ lw_tbl := lw_at lw_m4 67 rfl
theorem q865 : (Jvm.Cond.methodLink "FlintMine$Mine" (139 : Nat) ({ cls := "java/util/List", name := "remove", desc := "(I)Ljava/lang/Object;" } : Jvm.MethodName)) ∈ lw_all := lw_g (lw_at lw_m4 68 rfl) rfl
theorem q879 : (Jvm.Cond.methodLink "FlintMine$Mine" (181 : Nat) ({ cls := "FlintMine$Shaft", name := "<init>", desc := "(II)V" } : Jvm.MethodName)) ∈ lw_all := lw_g (lw_at lw_m4 82 rfl) rfl
theorem q889 : (Jvm.Cond.fieldLinkNest "FlintMine$Mine" (225 : Nat) "FlintMine$Shaft" "won" "I" "FlintMine") ∈ lw_tbl := lw_at lw_m4 92 rfl
theorem q893 : (Jvm.Cond.fieldLinkNest "FlintMine$Mine" (189 : Nat) "FlintMine$Shaft" "isClosed" "Z" "FlintMine") ∈ lw_tbl := lw_at lw_m4 96 rfl
theorem q905 : (Jvm.Cond.instanceMethod ({ cls := "FlintMine$Mine", name := "dig", desc := "(IIZ)I" } : Jvm.MethodName)) ∈ lw_all := lw_g (lw_at lw_m4 108 rfl) rfl
theorem q906 : (Jvm.Cond.selects "FlintMine$Mine" ({ cls := "FlintMine$Mine", name := "dig", desc := "(IIZ)I" } : Jvm.MethodName) ({ cls := "FlintMine$Mine", name := "dig", desc := "(IIZ)I" } : Jvm.MethodName)) ∈ lw_all := lw_g (lw_at lw_m4 109 rfl) rfl
theorem q907 : (Jvm.Cond.code ({ cls := "FlintMine$Mine", name := "dig", desc := "(IIZ)I" } : Jvm.MethodName) prog_17_method_22_code (9 : Nat) (Option.some Jvm.ClassFile.FieldType.int)) ∈ lw_all := lw_g (lw_at lw_m4 110 rfl) rfl
theorem q908 : (Jvm.Cond.methodLink "FlintMine$Mine" (182 : Nat) ({ cls := "FlintMine$Mine", name := "shaft", desc := "(I)LFlintMine$Shaft;" } : Jvm.MethodName)) ∈ lw_all := lw_g (lw_at lw_m4 111 rfl) rfl
theorem q909 : (Jvm.Cond.instanceMethod ({ cls := "FlintMine$Mine", name := "shaft", desc := "(I)LFlintMine$Shaft;" } : Jvm.MethodName)) ∈ lw_all := lw_g (lw_at lw_m4 112 rfl) rfl
theorem q910 : (Jvm.Cond.selects "FlintMine$Mine" ({ cls := "FlintMine$Mine", name := "shaft", desc := "(I)LFlintMine$Shaft;" } : Jvm.MethodName) ({ cls := "FlintMine$Mine", name := "shaft", desc := "(I)LFlintMine$Shaft;" } : Jvm.MethodName)) ∈ lw_all := lw_g (lw_at lw_m4 113 rfl) rfl
theorem q911 : (Jvm.Cond.code ({ cls := "FlintMine$Mine", name := "shaft", desc := "(I)LFlintMine$Shaft;" } : Jvm.MethodName) prog_17_method_3_code (2 : Nat) (Option.some (Jvm.ClassFile.FieldType.object "FlintMine$Shaft"))) ∈ lw_all := lw_g (lw_at lw_m4 114 rfl) rfl
theorem q912 : (Jvm.Cond.methodLinkNest "FlintMine$Mine" (77 : Nat) ({ cls := "FlintMine", name := "inRange", desc := "(III)Z" } : Jvm.MethodName) "FlintMine") ∈ lw_tbl := lw_at lw_m4 115 rfl
theorem q913 : (Jvm.Cond.methodLinkNest "FlintMine$Mine" (81 : Nat) ({ cls := "FlintMine", name := "requireIndex", desc := "(Z)V" } : Jvm.MethodName) "FlintMine") ∈ lw_tbl := lw_at lw_m4 116 rfl
theorem q914 : (Jvm.Cond.methodLinkNest "FlintMine$Mine" (185 : Nat) ({ cls := "FlintMine", name := "cellOf", desc := "([I)I" } : Jvm.MethodName) "FlintMine") ∈ lw_tbl := lw_at lw_m4 117 rfl
theorem q915 : (Jvm.Cond.methodLink "FlintMine$Mine" (193 : Nat) ({ cls := "FlintMine$Mine", name := "widest", desc := "(I)I" } : Jvm.MethodName)) ∈ lw_all := lw_g (lw_at lw_m4 118 rfl) rfl
theorem q916 : (Jvm.Cond.instanceMethod ({ cls := "FlintMine$Mine", name := "widest", desc := "(I)I" } : Jvm.MethodName)) ∈ lw_all := lw_g (lw_at lw_m4 119 rfl) rfl
theorem q917 : (Jvm.Cond.selects "FlintMine$Mine" ({ cls := "FlintMine$Mine", name := "widest", desc := "(I)I" } : Jvm.MethodName) ({ cls := "FlintMine$Mine", name := "widest", desc := "(I)I" } : Jvm.MethodName)) ∈ lw_all := lw_g (lw_at lw_m4 120 rfl) rfl
theorem q918 : (Jvm.Cond.code ({ cls := "FlintMine$Mine", name := "widest", desc := "(I)I" } : Jvm.MethodName) prog_17_method_11_code (2 : Nat) (Option.some Jvm.ClassFile.FieldType.int)) ∈ lw_all := lw_g (lw_at lw_m4 121 rfl) rfl
theorem q919 : (Jvm.Cond.methodLink "FlintMine$Mine" (196 : Nat) ({ cls := "FlintMine$Shaft", name := "winning", desc := "(I)LFlintMine$Shaft;" } : Jvm.MethodName)) ∈ lw_all := lw_g (lw_at lw_m4 122 rfl) rfl
theorem q930 : (Jvm.Cond.instanceMethod ({ cls := "FlintMine$Mine", name := "prop", desc := "(I)I" } : Jvm.MethodName)) ∈ lw_all := lw_g (lw_at lw_m4 133 rfl) rfl
theorem q931 : (Jvm.Cond.selects "FlintMine$Mine" ({ cls := "FlintMine$Mine", name := "prop", desc := "(I)I" } : Jvm.MethodName) ({ cls := "FlintMine$Mine", name := "prop", desc := "(I)I" } : Jvm.MethodName)) ∈ lw_all := lw_g (lw_at lw_m4 134 rfl) rfl
theorem q932 : (Jvm.Cond.code ({ cls := "FlintMine$Mine", name := "prop", desc := "(I)I" } : Jvm.MethodName) prog_17_method_24_code (3 : Nat) (Option.some Jvm.ClassFile.FieldType.int)) ∈ lw_all := lw_g (lw_at lw_m4 135 rfl) rfl
theorem q933 : (Jvm.Cond.methodLink "FlintMine$Mine" (202 : Nat) ({ cls := "FlintMine$Mine", name := "open", desc := "(IZ)LFlintMine$Open;" } : Jvm.MethodName)) ∈ lw_all := lw_g (lw_at lw_m4 136 rfl) rfl
theorem q934 : (Jvm.Cond.privateMethod ({ cls := "FlintMine$Mine", name := "open", desc := "(IZ)LFlintMine$Open;" } : Jvm.MethodName)) ∈ lw_tbl := lw_at lw_m4 137 rfl
theorem q935 : (Jvm.Cond.instanceMethod ({ cls := "FlintMine$Mine", name := "open", desc := "(IZ)LFlintMine$Open;" } : Jvm.MethodName)) ∈ lw_all := lw_g (lw_at lw_m4 138 rfl) rfl
theorem q936 : (Jvm.Cond.code ({ cls := "FlintMine$Mine", name := "open", desc := "(IZ)LFlintMine$Open;" } : Jvm.MethodName) prog_17_method_23_code (5 : Nat) (Option.some (Jvm.ClassFile.FieldType.object "FlintMine$Open"))) ∈ lw_all := lw_g (lw_at lw_m4 139 rfl) rfl
theorem q942 : (Jvm.Cond.instanceMethod ({ cls := "FlintMine$Mine", name := "unprop", desc := "(I)I" } : Jvm.MethodName)) ∈ lw_all := lw_g (lw_at lw_m4 145 rfl) rfl
theorem q943 : (Jvm.Cond.selects "FlintMine$Mine" ({ cls := "FlintMine$Mine", name := "unprop", desc := "(I)I" } : Jvm.MethodName) ({ cls := "FlintMine$Mine", name := "unprop", desc := "(I)I" } : Jvm.MethodName)) ∈ lw_all := lw_g (lw_at lw_m4 146 rfl) rfl
theorem q944 : (Jvm.Cond.code ({ cls := "FlintMine$Mine", name := "unprop", desc := "(I)I" } : Jvm.MethodName) prog_17_method_25_code (3 : Nat) (Option.some Jvm.ClassFile.FieldType.int)) ∈ lw_all := lw_g (lw_at lw_m4 147 rfl) rfl
theorem q945 : (Jvm.Cond.methodLink "FlintMine$Mine" (205 : Nat) ({ cls := "FlintMine$Mine", name := "addProps", desc := "(I)I" } : Jvm.MethodName)) ∈ lw_all := lw_g (lw_at lw_m4 148 rfl) rfl
theorem q950 : (Jvm.Cond.instanceMethod ({ cls := "FlintMine$Mine", name := "close", desc := "(I)I" } : Jvm.MethodName)) ∈ lw_all := lw_g (lw_at lw_m4 153 rfl) rfl
theorem q951 : (Jvm.Cond.selects "FlintMine$Mine" ({ cls := "FlintMine$Mine", name := "close", desc := "(I)I" } : Jvm.MethodName) ({ cls := "FlintMine$Mine", name := "close", desc := "(I)I" } : Jvm.MethodName)) ∈ lw_all := lw_g (lw_at lw_m4 154 rfl) rfl
theorem q952 : (Jvm.Cond.code ({ cls := "FlintMine$Mine", name := "close", desc := "(I)I" } : Jvm.MethodName) prog_17_method_26_code (8 : Nat) (Option.some Jvm.ClassFile.FieldType.int)) ∈ lw_all := lw_g (lw_at lw_m4 155 rfl) rfl
theorem q953 : (Jvm.Cond.methodLink "FlintMine$Mine" (208 : Nat) ({ cls := "FlintMine$Mine", name := "openCells", desc := "(I)I" } : Jvm.MethodName)) ∈ lw_all := lw_g (lw_at lw_m4 156 rfl) rfl
theorem q954 : (Jvm.Cond.instanceMethod ({ cls := "FlintMine$Mine", name := "openCells", desc := "(I)I" } : Jvm.MethodName)) ∈ lw_all := lw_g (lw_at lw_m4 157 rfl) rfl
theorem q955 : (Jvm.Cond.selects "FlintMine$Mine" ({ cls := "FlintMine$Mine", name := "openCells", desc := "(I)I" } : Jvm.MethodName) ({ cls := "FlintMine$Mine", name := "openCells", desc := "(I)I" } : Jvm.MethodName)) ∈ lw_all := lw_g (lw_at lw_m4 158 rfl) rfl
theorem q956 : (Jvm.Cond.code ({ cls := "FlintMine$Mine", name := "openCells", desc := "(I)I" } : Jvm.MethodName) prog_17_method_27_code (4 : Nat) (Option.some Jvm.ClassFile.FieldType.int)) ∈ lw_all := lw_g (lw_at lw_m4 159 rfl) rfl
theorem q957 : (Jvm.Cond.methodLink "FlintMine$Mine" (211 : Nat) ({ cls := "FlintMine$Mine", name := "propsOf", desc := "(I)I" } : Jvm.MethodName)) ∈ lw_all := lw_g (lw_at lw_m4 160 rfl) rfl
theorem q958 : (Jvm.Cond.instanceMethod ({ cls := "FlintMine$Mine", name := "propsOf", desc := "(I)I" } : Jvm.MethodName)) ∈ lw_all := lw_g (lw_at lw_m4 161 rfl) rfl
theorem q959 : (Jvm.Cond.selects "FlintMine$Mine" ({ cls := "FlintMine$Mine", name := "propsOf", desc := "(I)I" } : Jvm.MethodName) ({ cls := "FlintMine$Mine", name := "propsOf", desc := "(I)I" } : Jvm.MethodName)) ∈ lw_all := lw_g (lw_at lw_m4 162 rfl) rfl
theorem q960 : (Jvm.Cond.code ({ cls := "FlintMine$Mine", name := "propsOf", desc := "(I)I" } : Jvm.MethodName) prog_17_method_28_code (4 : Nat) (Option.some Jvm.ClassFile.FieldType.int)) ∈ lw_all := lw_g (lw_at lw_m4 163 rfl) rfl
theorem q961 : (Jvm.Cond.classLink "FlintMine$Mine" (214 : Nat) "FlintMine$Filled") ∈ lw_all := lw_g (lw_at lw_m4 164 rfl) rfl
theorem q963 : (Jvm.Cond.methodLink "FlintMine$Mine" (216 : Nat) ({ cls := "FlintMine$Filled", name := "<init>", desc := "(LFlintMine$Open;)V" } : Jvm.MethodName)) ∈ lw_all := lw_g (lw_at lw_m4 166 rfl) rfl
theorem q971 : (Jvm.Cond.methodLink "FlintMine$Mine" (219 : Nat) ({ cls := "FlintMine$Shaft", name := "closed", desc := "()LFlintMine$Shaft;" } : Jvm.MethodName)) ∈ lw_all := lw_g (lw_at lw_m4 174 rfl) rfl
theorem q1104 : (Jvm.Cond.instanceMethod ({ cls := "FlintMine$Mine", name := "nodules", desc := "(I)I" } : Jvm.MethodName)) ∈ lw_all := lw_g (lw_at lw_m5 67 rfl) rfl
theorem q1105 : (Jvm.Cond.selects "FlintMine$Mine" ({ cls := "FlintMine$Mine", name := "nodules", desc := "(I)I" } : Jvm.MethodName) ({ cls := "FlintMine$Mine", name := "nodules", desc := "(I)I" } : Jvm.MethodName)) ∈ lw_all := lw_g (lw_at lw_m5 68 rfl) rfl
theorem q1106 : (Jvm.Cond.code ({ cls := "FlintMine$Mine", name := "nodules", desc := "(I)I" } : Jvm.MethodName) prog_17_method_29_code (4 : Nat) (Option.some Jvm.ClassFile.FieldType.int)) ∈ lw_all := lw_g (lw_at lw_m5 69 rfl) rfl
theorem q1108 : (Jvm.Cond.instanceMethod ({ cls := "FlintMine$Mine", name := "strokes", desc := "(I)I" } : Jvm.MethodName)) ∈ lw_all := lw_g (lw_at lw_m5 71 rfl) rfl
theorem q1109 : (Jvm.Cond.selects "FlintMine$Mine" ({ cls := "FlintMine$Mine", name := "strokes", desc := "(I)I" } : Jvm.MethodName) ({ cls := "FlintMine$Mine", name := "strokes", desc := "(I)I" } : Jvm.MethodName)) ∈ lw_all := lw_g (lw_at lw_m5 72 rfl) rfl
theorem q1110 : (Jvm.Cond.code ({ cls := "FlintMine$Mine", name := "strokes", desc := "(I)I" } : Jvm.MethodName) prog_17_method_30_code (4 : Nat) (Option.some Jvm.ClassFile.FieldType.int)) ∈ lw_all := lw_g (lw_at lw_m5 73 rfl) rfl
theorem q1224 : (Jvm.Cond.instanceMethod ({ cls := "FlintMine$Mine", name := "isPassable", desc := "(II)Z" } : Jvm.MethodName)) ∈ lw_all := lw_g (lw_at lw_m5 187 rfl) rfl
theorem q1225 : (Jvm.Cond.selects "FlintMine$Mine" ({ cls := "FlintMine$Mine", name := "isPassable", desc := "(II)Z" } : Jvm.MethodName) ({ cls := "FlintMine$Mine", name := "isPassable", desc := "(II)Z" } : Jvm.MethodName)) ∈ lw_all := lw_g (lw_at lw_m5 188 rfl) rfl
theorem q1226 : (Jvm.Cond.code ({ cls := "FlintMine$Mine", name := "isPassable", desc := "(II)Z" } : Jvm.MethodName) prog_17_method_32_code (3 : Nat) (Option.some Jvm.ClassFile.FieldType.boolean)) ∈ lw_all := lw_g (lw_at lw_m5 189 rfl) rfl
theorem q1265 : (Jvm.Cond.instanceMethod ({ cls := "FlintMine$Mine", name := "canDig", desc := "(II)Z" } : Jvm.MethodName)) ∈ lw_all := lw_g (lw_at lw_m5 228 rfl) rfl
theorem q1266 : (Jvm.Cond.selects "FlintMine$Mine" ({ cls := "FlintMine$Mine", name := "canDig", desc := "(II)Z" } : Jvm.MethodName) ({ cls := "FlintMine$Mine", name := "canDig", desc := "(II)Z" } : Jvm.MethodName)) ∈ lw_all := lw_g (lw_at lw_m5 229 rfl) rfl
theorem q1267 : (Jvm.Cond.code ({ cls := "FlintMine$Mine", name := "canDig", desc := "(II)Z" } : Jvm.MethodName) prog_17_method_31_code (4 : Nat) (Option.some Jvm.ClassFile.FieldType.boolean)) ∈ lw_all := lw_g (lw_at lw_m5 230 rfl) rfl
theorem q1268 : (Jvm.Cond.methodLink "FlintMine$Mine" (223 : Nat) ({ cls := "FlintMine$Mine", name := "strokes", desc := "(I)I" } : Jvm.MethodName)) ∈ lw_all := lw_g (lw_at lw_m5 231 rfl) rfl
theorem q1333 : (Jvm.Cond.instanceMethod ({ cls := "FlintMine$Mine", name := "shaftsClosed", desc := "()I" } : Jvm.MethodName)) ∈ lw_all := lw_g (lw_at lw_m6 56 rfl) rfl
theorem q1334 : (Jvm.Cond.selects "FlintMine$Mine" ({ cls := "FlintMine$Mine", name := "shaftsClosed", desc := "()I" } : Jvm.MethodName) ({ cls := "FlintMine$Mine", name := "shaftsClosed", desc := "()I" } : Jvm.MethodName)) ∈ lw_all := lw_g (lw_at lw_m6 57 rfl) rfl
theorem q1335 : (Jvm.Cond.code ({ cls := "FlintMine$Mine", name := "shaftsClosed", desc := "()I" } : Jvm.MethodName) prog_17_method_33_code (4 : Nat) (Option.some Jvm.ClassFile.FieldType.int)) ∈ lw_all := lw_g (lw_at lw_m6 58 rfl) rfl
theorem q1341 : (Jvm.Cond.instanceMethod ({ cls := "FlintMine$Mine", name := "won", desc := "()I" } : Jvm.MethodName)) ∈ lw_all := lw_g (lw_at lw_m6 64 rfl) rfl
theorem q1342 : (Jvm.Cond.selects "FlintMine$Mine" ({ cls := "FlintMine$Mine", name := "won", desc := "()I" } : Jvm.MethodName) ({ cls := "FlintMine$Mine", name := "won", desc := "()I" } : Jvm.MethodName)) ∈ lw_all := lw_g (lw_at lw_m6 65 rfl) rfl
theorem q1343 : (Jvm.Cond.code ({ cls := "FlintMine$Mine", name := "won", desc := "()I" } : Jvm.MethodName) prog_17_method_34_code (4 : Nat) (Option.some Jvm.ClassFile.FieldType.int)) ∈ lw_all := lw_g (lw_at lw_m6 66 rfl) rfl
theorem q1345 : (Jvm.Cond.instanceMethod ({ cls := "FlintMine$Mine", name := "edges", desc := "()I" } : Jvm.MethodName)) ∈ lw_all := lw_g (lw_at lw_m6 68 rfl) rfl
theorem q1346 : (Jvm.Cond.selects "FlintMine$Mine" ({ cls := "FlintMine$Mine", name := "edges", desc := "()I" } : Jvm.MethodName) ({ cls := "FlintMine$Mine", name := "edges", desc := "()I" } : Jvm.MethodName)) ∈ lw_all := lw_g (lw_at lw_m6 69 rfl) rfl
theorem q1347 : (Jvm.Cond.code ({ cls := "FlintMine$Mine", name := "edges", desc := "()I" } : Jvm.MethodName) prog_17_method_35_code (4 : Nat) (Option.some Jvm.ClassFile.FieldType.int)) ∈ lw_all := lw_g (lw_at lw_m6 70 rfl) rfl
theorem q2294 : (Jvm.Cond.castable "FlintMine$Mine" "java/lang/Object") ∈ lw_tbl := lw_at lw_m10 57 rfl
theorem in_X2 : ∀ w ∈ wsX20, w ∈ lw_all := lw_in wsX20 [199, 201, 203, 205, 207, 209, 211] (by decide +kernel) (by decide +kernel)
/-! FlintMine$Chalk -/
set_option maxRecDepth 100000
def RX3 : String := "FlintMine$Chalk"
def TX3 : u_T := fun k => match k with
  | 0 => ("FlintMine$Chalk", "hardness", "I", true)
  | _ => ("FlintMine$Chalk", "nodules", "I", true)
def tyX3 : Nat → FieldType := fun k => match k with
  | 0 => .int
  | _ => .int
abbrev wsX30 : List Cond := u_ws RX3 TX3 2
theorem nmX3 : ∀ a, a < 2 → ∀ b, b < 2 → a ≠ b → (TX3 a).2.1 ≠ (TX3 b).2.1 := by decide +kernel
theorem tyX3_ok : ∀ k, k < 2 → parseFieldDescriptor (TX3 k).2.2.1 = some (tyX3 k) := by decide +kernel
abbrev cX3_init : ByteArray := prog_12_method_1_code
def yX3_init : MethodName := ⟨RX3, "<init>", "()V"⟩
def dkwX3_init_0 : List UInt8 := [42, 6, 3, 183, 0, 3, 177]
abbrev dktX3_init_0 : List UInt8 := dkwX3_init_0 ++ []
theorem dksX3_init_0 : cX3_init.data.toList.drop 0 = dktX3_init_0 := by decide +kernel
theorem dX3_init_0 : decode cX3_init 0 = .ok (.aload_n 0, 1) := dk_42 (dk_at dksX3_init_0 0 rfl rfl)
theorem dX3_init_1 : decode cX3_init 1 = .ok (.iconst 3, 1) := dk_6 (dk_at dksX3_init_0 1 rfl rfl)
theorem dX3_init_2 : decode cX3_init 2 = .ok (.iconst 0, 1) := dk_3 (dk_at dksX3_init_0 2 rfl rfl)
theorem dX3_init_3 : decode cX3_init 3 = .ok (.invokespecial 3, 3) := dk_183 0 3 (dk_at dksX3_init_0 3 rfl rfl)
theorem dX3_init_6 : decode cX3_init 6 = .ok (.return_, 1) := dk_177 (dk_at dksX3_init_0 6 rfl rfl)
abbrev cX3_init_2 : ByteArray := prog_12_method_2_code
def yX3_init_2 : MethodName := ⟨RX3, "<init>", "(II)V"⟩
def dkwX3_init_2_0 : List UInt8 := [42, 183, 0, 9, 42, 27, 181, 0, 14, 42, 28, 181, 0, 18, 177]
abbrev dktX3_init_2_0 : List UInt8 := dkwX3_init_2_0 ++ []
theorem dksX3_init_2_0 : cX3_init_2.data.toList.drop 0 = dktX3_init_2_0 := by decide +kernel
theorem dX3_init_2_0 : decode cX3_init_2 0 = .ok (.aload_n 0, 1) := dk_42 (dk_at dksX3_init_2_0 0 rfl rfl)
theorem dX3_init_2_1 : decode cX3_init_2 1 = .ok (.invokespecial 9, 3) := dk_183 0 9 (dk_at dksX3_init_2_0 1 rfl rfl)
theorem dX3_init_2_4 : decode cX3_init_2 4 = .ok (.aload_n 0, 1) := dk_42 (dk_at dksX3_init_2_0 4 rfl rfl)
theorem dX3_init_2_5 : decode cX3_init_2 5 = .ok (.iload_n 1, 1) := dk_27 (dk_at dksX3_init_2_0 5 rfl rfl)
theorem dX3_init_2_6 : decode cX3_init_2 6 = .ok (.putfield 14, 3) := dk_181 0 14 (dk_at dksX3_init_2_0 6 rfl rfl)
theorem dX3_init_2_9 : decode cX3_init_2 9 = .ok (.aload_n 0, 1) := dk_42 (dk_at dksX3_init_2_0 9 rfl rfl)
theorem dX3_init_2_10 : decode cX3_init_2 10 = .ok (.iload_n 2, 1) := dk_28 (dk_at dksX3_init_2_0 10 rfl rfl)
theorem dX3_init_2_11 : decode cX3_init_2 11 = .ok (.putfield 18, 3) := dk_181 0 18 (dk_at dksX3_init_2_0 11 rfl rfl)
theorem dX3_init_2_14 : decode cX3_init_2 14 = .ok (.return_, 1) := dk_177 (dk_at dksX3_init_2_0 14 rfl rfl)
abbrev cX3_strokes : ByteArray := prog_12_method_3_code
def yX3_strokes : MethodName := ⟨RX3, "strokes", "()I"⟩
def dkwX3_strokes_0 : List UInt8 := [5, 42, 180, 0, 14, 104, 42, 180, 0, 18, 96, 172]
abbrev dktX3_strokes_0 : List UInt8 := dkwX3_strokes_0 ++ []
theorem dksX3_strokes_0 : cX3_strokes.data.toList.drop 0 = dktX3_strokes_0 := by decide +kernel
theorem dX3_strokes_0 : decode cX3_strokes 0 = .ok (.iconst 2, 1) := dk_5 (dk_at dksX3_strokes_0 0 rfl rfl)
theorem dX3_strokes_1 : decode cX3_strokes 1 = .ok (.aload_n 0, 1) := dk_42 (dk_at dksX3_strokes_0 1 rfl rfl)
theorem dX3_strokes_2 : decode cX3_strokes 2 = .ok (.getfield 14, 3) := dk_180 0 14 (dk_at dksX3_strokes_0 2 rfl rfl)
theorem dX3_strokes_5 : decode cX3_strokes 5 = .ok (.imul, 1) := dk_104 (dk_at dksX3_strokes_0 5 rfl rfl)
theorem dX3_strokes_6 : decode cX3_strokes 6 = .ok (.aload_n 0, 1) := dk_42 (dk_at dksX3_strokes_0 6 rfl rfl)
theorem dX3_strokes_7 : decode cX3_strokes 7 = .ok (.getfield 18, 3) := dk_180 0 18 (dk_at dksX3_strokes_0 7 rfl rfl)
theorem dX3_strokes_10 : decode cX3_strokes 10 = .ok (.iadd, 1) := dk_96 (dk_at dksX3_strokes_0 10 rfl rfl)
theorem dX3_strokes_11 : decode cX3_strokes 11 = .ok (.ireturn, 1) := dk_172 (dk_at dksX3_strokes_0 11 rfl rfl)
abbrev cX3_shaft : ByteArray := prog_12_method_4_code
def yX3_shaft : MethodName := ⟨RX3, "shaft", "()I"⟩
theorem dX3_shaft_0 : decode cX3_shaft 0 = .ok (.iconst (-1), 1) := by decide +kernel
theorem dX3_shaft_1 : decode cX3_shaft 1 = .ok (.ireturn, 1) := by decide +kernel
theorem q83 : (Jvm.Cond.initialized "FlintMine$Chalk") ∈ lw_all := lw_g (lw_at lw_m1 6 rfl) rfl
theorem q168 : (Jvm.Cond.instantiable "FlintMine$Chalk" (2 : Nat)) ∈ lw_all := lw_g (lw_at lw_m1 91 rfl) rfl
theorem q170 : (Jvm.Cond.instanceMethod ({ cls := "FlintMine$Chalk", name := "<init>", desc := "()V" } : Jvm.MethodName)) ∈ lw_all := lw_g (lw_at lw_m1 93 rfl) rfl
theorem q171 : (Jvm.Cond.code ({ cls := "FlintMine$Chalk", name := "<init>", desc := "()V" } : Jvm.MethodName) prog_12_method_1_code (1 : Nat) (Option.none : Option Jvm.ClassFile.FieldType)) ∈ lw_all := lw_g (lw_at lw_m1 94 rfl) rfl
theorem q172 : (Jvm.Cond.methodLink "FlintMine$Chalk" (3 : Nat) ({ cls := "FlintMine$Chalk", name := "<init>", desc := "(II)V" } : Jvm.MethodName)) ∈ lw_all := lw_g (lw_at lw_m1 95 rfl) rfl
theorem q173 : (Jvm.Cond.instanceMethod ({ cls := "FlintMine$Chalk", name := "<init>", desc := "(II)V" } : Jvm.MethodName)) ∈ lw_all := lw_g (lw_at lw_m1 96 rfl) rfl
theorem q174 : (Jvm.Cond.code ({ cls := "FlintMine$Chalk", name := "<init>", desc := "(II)V" } : Jvm.MethodName) prog_12_method_2_code (3 : Nat) (Option.none : Option Jvm.ClassFile.FieldType)) ∈ lw_all := lw_g (lw_at lw_m1 97 rfl) rfl
theorem q175 : (Jvm.Cond.methodLink "FlintMine$Chalk" (9 : Nat) ({ cls := "java/lang/Object", name := "<init>", desc := "()V" } : Jvm.MethodName)) ∈ lw_all := lw_g (lw_at lw_m1 98 rfl) rfl
theorem q176 : (Jvm.Cond.fieldLink "FlintMine$Chalk" (14 : Nat) "FlintMine$Chalk" "hardness" "I") ∈ lw_all := lw_g (lw_at lw_m1 99 rfl) rfl
theorem q178 : (Jvm.Cond.fieldLink "FlintMine$Chalk" (18 : Nat) "FlintMine$Chalk" "nodules" "I") ∈ lw_all := lw_g (lw_at lw_m1 101 rfl) rfl
theorem q180 : (Jvm.Cond.laysFinal "FlintMine$Chalk" "FlintMine$Chalk" "hardness" "I") ∈ lw_all := lw_g (lw_at lw_m1 103 rfl) rfl
theorem q181 : (Jvm.Cond.soleField "FlintMine$Chalk" "hardness") ∈ lw_all := lw_g (lw_at lw_m1 104 rfl) rfl
theorem q182 : (Jvm.Cond.laysFinal "FlintMine$Chalk" "FlintMine$Chalk" "nodules" "I") ∈ lw_all := lw_g (lw_at lw_m1 105 rfl) rfl
theorem q183 : (Jvm.Cond.soleField "FlintMine$Chalk" "nodules") ∈ lw_all := lw_g (lw_at lw_m1 106 rfl) rfl
theorem q184 : (Jvm.Cond.superclass "FlintMine$Chalk" "java/lang/Object") ∈ lw_all := lw_g (lw_at lw_m1 107 rfl) rfl
theorem q315 : (Jvm.Cond.castable "FlintMine$Chalk" "FlintMine$Ground") ∈ lw_tbl := lw_at lw_m1 238 rfl
theorem q316 : (Jvm.Cond.unhidden "FlintMine$Chalk" "isBare" "()Z") ∈ lw_tbl := lw_at lw_m1 239 rfl
theorem q537 : (Jvm.Cond.selects "FlintMine$Chalk" ({ cls := "java/lang/Object", name := "getClass", desc := "()Ljava/lang/Class;" } : Jvm.MethodName) ({ cls := "java/lang/Object", name := "getClass", desc := "()Ljava/lang/Class;" } : Jvm.MethodName)) ∈ lw_all := lw_g (lw_at lw_m2 220 rfl) rfl
theorem q721 : (Jvm.Cond.instanceMethod ({ cls := "FlintMine$Chalk", name := "strokes", desc := "()I" } : Jvm.MethodName)) ∈ lw_all := lw_g (lw_at lw_m3 164 rfl) rfl
theorem q722 : (Jvm.Cond.selects "FlintMine$Chalk" ({ cls := "FlintMine$Chalk", name := "strokes", desc := "()I" } : Jvm.MethodName) ({ cls := "FlintMine$Chalk", name := "strokes", desc := "()I" } : Jvm.MethodName)) ∈ lw_all := lw_g (lw_at lw_m3 165 rfl) rfl
theorem q723 : (Jvm.Cond.code ({ cls := "FlintMine$Chalk", name := "strokes", desc := "()I" } : Jvm.MethodName) prog_12_method_3_code (1 : Nat) (Option.some Jvm.ClassFile.FieldType.int)) ∈ lw_all := lw_g (lw_at lw_m3 166 rfl) rfl
theorem q1115 : (Jvm.Cond.selects "FlintMine$Chalk" ({ cls := "FlintMine$Ground", name := "shaft", desc := "()I" } : Jvm.MethodName) ({ cls := "FlintMine$Chalk", name := "shaft", desc := "()I" } : Jvm.MethodName)) ∈ lw_all := lw_g (lw_at lw_m5 78 rfl) rfl
theorem q1116 : (Jvm.Cond.unhidden "FlintMine$Chalk" "shaft" "()I") ∈ lw_tbl := lw_at lw_m5 79 rfl
theorem q1117 : (Jvm.Cond.instanceMethod ({ cls := "FlintMine$Chalk", name := "shaft", desc := "()I" } : Jvm.MethodName)) ∈ lw_all := lw_g (lw_at lw_m5 80 rfl) rfl
theorem q1118 : (Jvm.Cond.publicMethod ({ cls := "FlintMine$Chalk", name := "shaft", desc := "()I" } : Jvm.MethodName)) ∈ lw_tbl := lw_at lw_m5 81 rfl
theorem q1119 : (Jvm.Cond.code ({ cls := "FlintMine$Chalk", name := "shaft", desc := "()I" } : Jvm.MethodName) prog_12_method_4_code (1 : Nat) (Option.some Jvm.ClassFile.FieldType.int)) ∈ lw_all := lw_g (lw_at lw_m5 82 rfl) rfl
theorem q2296 : (Jvm.Cond.castable "FlintMine$Chalk" "java/lang/Object") ∈ lw_tbl := lw_at lw_m10 59 rfl
theorem in_X3 : ∀ w ∈ wsX30, w ∈ lw_all := lw_in wsX30 [180, 182] (by decide +kernel) (by decide +kernel)
/-! FlintMine$Refusal -/
set_option maxRecDepth 100000
def RX5 : String := "FlintMine$Refusal"
def TX5 : u_T := fun k => match k with
  | 0 => ("java/lang/Throwable", "cause", "Ljava/lang/Throwable;", false)
  | 1 => ("java/lang/Throwable", "stackTrace", "[Ljava/lang/StackTraceElement;", false)
  | 2 => ("java/lang/Throwable", "suppressedExceptions", "Ljava/util/List;", false)
  | 3 => ("java/lang/Throwable", "detailMessage", "Ljava/lang/String;", false)
  | 4 => ("java/lang/Throwable", "backtrace", "Ljava/lang/Object;", false)
  | 5 => ("java/lang/Throwable", "depth", "I", false)
  | 6 => ("FlintMine$Refusal", "reason", "I", true)
  | _ => ("FlintMine$Refusal", "detail", "I", true)
def tyX5 : Nat → FieldType := fun k => match k with
  | 0 => .object "java/lang/Throwable"
  | 1 => .array (.object "java/lang/StackTraceElement")
  | 2 => .object "java/util/List"
  | 3 => .object "java/lang/String"
  | 4 => .object "java/lang/Object"
  | 5 => .int
  | 6 => .int
  | _ => .int
abbrev wsX50 : List Cond := u_ws RX5 TX5 8
theorem nmX5 : ∀ a, a < 8 → ∀ b, b < 8 → a ≠ b → (TX5 a).2.1 ≠ (TX5 b).2.1 := by decide +kernel
theorem tyX5_ok : ∀ k, k < 8 → parseFieldDescriptor (TX5 k).2.2.1 = some (tyX5 k) := by decide +kernel
abbrev cX5_init : ByteArray := prog_20_method_1_code
def yX5_init : MethodName := ⟨RX5, "<init>", "(II)V"⟩
def dkwX5_init_0 : List UInt8 := [42, 1, 1, 3, 3, 183, 0, 1, 42, 27, 181, 0, 7, 42, 28, 181, 0, 13, 177]
abbrev dktX5_init_0 : List UInt8 := dkwX5_init_0 ++ []
theorem dksX5_init_0 : cX5_init.data.toList.drop 0 = dktX5_init_0 := by decide +kernel
theorem dX5_init_0 : decode cX5_init 0 = .ok (.aload_n 0, 1) := dk_42 (dk_at dksX5_init_0 0 rfl rfl)
theorem dX5_init_1 : decode cX5_init 1 = .ok (.aconst_null, 1) := dk_1 (dk_at dksX5_init_0 1 rfl rfl)
theorem dX5_init_2 : decode cX5_init 2 = .ok (.aconst_null, 1) := dk_1 (dk_at dksX5_init_0 2 rfl rfl)
theorem dX5_init_3 : decode cX5_init 3 = .ok (.iconst 0, 1) := dk_3 (dk_at dksX5_init_0 3 rfl rfl)
theorem dX5_init_4 : decode cX5_init 4 = .ok (.iconst 0, 1) := dk_3 (dk_at dksX5_init_0 4 rfl rfl)
theorem dX5_init_5 : decode cX5_init 5 = .ok (.invokespecial 1, 3) := dk_183 0 1 (dk_at dksX5_init_0 5 rfl rfl)
theorem dX5_init_8 : decode cX5_init 8 = .ok (.aload_n 0, 1) := dk_42 (dk_at dksX5_init_0 8 rfl rfl)
theorem dX5_init_9 : decode cX5_init 9 = .ok (.iload_n 1, 1) := dk_27 (dk_at dksX5_init_0 9 rfl rfl)
theorem dX5_init_10 : decode cX5_init 10 = .ok (.putfield 7, 3) := dk_181 0 7 (dk_at dksX5_init_0 10 rfl rfl)
theorem dX5_init_13 : decode cX5_init 13 = .ok (.aload_n 0, 1) := dk_42 (dk_at dksX5_init_0 13 rfl rfl)
theorem dX5_init_14 : decode cX5_init 14 = .ok (.iload_n 2, 1) := dk_28 (dk_at dksX5_init_0 14 rfl rfl)
theorem dX5_init_15 : decode cX5_init 15 = .ok (.putfield 13, 3) := dk_181 0 13 (dk_at dksX5_init_0 15 rfl rfl)
theorem dX5_init_18 : decode cX5_init 18 = .ok (.return_, 1) := dk_177 (dk_at dksX5_init_0 18 rfl rfl)
theorem q104 : (Jvm.Cond.initialized "FlintMine$Refusal") ∈ lw_all := lw_g (lw_at lw_m1 27 rfl) rfl
theorem q454 : (Jvm.Cond.selects "FlintMine$Refusal" ({ cls := "java/lang/Throwable", name := "fillInStackTrace", desc := "()Ljava/lang/Throwable;" } : Jvm.MethodName) ({ cls := "java/lang/Throwable", name := "fillInStackTrace", desc := "()Ljava/lang/Throwable;" } : Jvm.MethodName)) ∈ lw_all := lw_g (lw_at lw_m2 137 rfl) rfl
theorem q544 : (Jvm.Cond.selects "FlintMine$Refusal" ({ cls := "java/lang/Object", name := "getClass", desc := "()Ljava/lang/Class;" } : Jvm.MethodName) ({ cls := "java/lang/Object", name := "getClass", desc := "()Ljava/lang/Class;" } : Jvm.MethodName)) ∈ lw_all := lw_g (lw_at lw_m2 227 rfl) rfl
theorem q693 : (Jvm.Cond.instantiable "FlintMine$Refusal" (8 : Nat)) ∈ lw_all := lw_g (lw_at lw_m3 136 rfl) rfl
theorem q694 : (Jvm.Cond.castable "FlintMine$Refusal" "FlintMine$Refusal") ∈ lw_tbl := lw_at lw_m3 137 rfl
theorem q695 : (Jvm.Cond.selects "FlintMine$Refusal" ({ cls := "java/lang/Throwable", name := "fillInStackTrace", desc := "(I)Ljava/lang/Throwable;" } : Jvm.MethodName) ({ cls := "java/lang/Throwable", name := "fillInStackTrace", desc := "(I)Ljava/lang/Throwable;" } : Jvm.MethodName)) ∈ lw_all := lw_g (lw_at lw_m3 138 rfl) rfl
theorem q696 : (Jvm.Cond.lays "FlintMine$Refusal" "java/lang/Throwable" "cause" "Ljava/lang/Throwable;") ∈ lw_all := lw_g (lw_at lw_m3 139 rfl) rfl
theorem q697 : (Jvm.Cond.lays "FlintMine$Refusal" "java/lang/Throwable" "stackTrace" "[Ljava/lang/StackTraceElement;") ∈ lw_all := lw_g (lw_at lw_m3 140 rfl) rfl
theorem q698 : (Jvm.Cond.lays "FlintMine$Refusal" "java/lang/Throwable" "suppressedExceptions" "Ljava/util/List;") ∈ lw_all := lw_g (lw_at lw_m3 141 rfl) rfl
theorem q699 : (Jvm.Cond.lays "FlintMine$Refusal" "java/lang/Throwable" "detailMessage" "Ljava/lang/String;") ∈ lw_all := lw_g (lw_at lw_m3 142 rfl) rfl
theorem q700 : (Jvm.Cond.lays "FlintMine$Refusal" "java/lang/Throwable" "backtrace" "Ljava/lang/Object;") ∈ lw_all := lw_g (lw_at lw_m3 143 rfl) rfl
theorem q702 : (Jvm.Cond.instanceMethod ({ cls := "FlintMine$Refusal", name := "<init>", desc := "(II)V" } : Jvm.MethodName)) ∈ lw_all := lw_g (lw_at lw_m3 145 rfl) rfl
theorem q703 : (Jvm.Cond.code ({ cls := "FlintMine$Refusal", name := "<init>", desc := "(II)V" } : Jvm.MethodName) prog_20_method_1_code (3 : Nat) (Option.none : Option Jvm.ClassFile.FieldType)) ∈ lw_all := lw_g (lw_at lw_m3 146 rfl) rfl
theorem q704 : (Jvm.Cond.methodLink "FlintMine$Refusal" (1 : Nat) ({ cls := "java/lang/Exception", name := "<init>", desc := "(Ljava/lang/String;Ljava/lang/Throwable;ZZ)V" } : Jvm.MethodName)) ∈ lw_all := lw_g (lw_at lw_m3 147 rfl) rfl
theorem q710 : (Jvm.Cond.fieldLink "FlintMine$Refusal" (7 : Nat) "FlintMine$Refusal" "reason" "I") ∈ lw_all := lw_g (lw_at lw_m3 153 rfl) rfl
theorem q712 : (Jvm.Cond.fieldLink "FlintMine$Refusal" (13 : Nat) "FlintMine$Refusal" "detail" "I") ∈ lw_all := lw_g (lw_at lw_m3 155 rfl) rfl
theorem q714 : (Jvm.Cond.laysFinal "FlintMine$Refusal" "FlintMine$Refusal" "reason" "I") ∈ lw_all := lw_g (lw_at lw_m3 157 rfl) rfl
theorem q715 : (Jvm.Cond.soleField "FlintMine$Refusal" "reason") ∈ lw_all := lw_g (lw_at lw_m3 158 rfl) rfl
theorem q716 : (Jvm.Cond.laysFinal "FlintMine$Refusal" "FlintMine$Refusal" "detail" "I") ∈ lw_all := lw_g (lw_at lw_m3 159 rfl) rfl
theorem q717 : (Jvm.Cond.soleField "FlintMine$Refusal" "detail") ∈ lw_all := lw_g (lw_at lw_m3 160 rfl) rfl
theorem q718 : (Jvm.Cond.lays "FlintMine$Refusal" "java/lang/Throwable" "depth" "I") ∈ lw_all := lw_g (lw_at lw_m3 161 rfl) rfl
theorem q719 : (Jvm.Cond.superclass "FlintMine$Refusal" "java/lang/Exception") ∈ lw_all := lw_g (lw_at lw_m3 162 rfl) rfl
theorem q2306 : (Jvm.Cond.castable "FlintMine$Refusal" "java/lang/Object") ∈ lw_tbl := lw_at lw_m10 69 rfl
theorem in_X5 : ∀ w ∈ wsX50, w ∈ lw_all := lw_in wsX50 [696, 697, 698, 699, 700, 718, 714, 716] (by decide +kernel) (by decide +kernel)
/-! FlintMine$Open -/
set_option maxRecDepth 100000
def RX6 : String := "FlintMine$Open"
def TX6 : u_T := fun k => match k with
  | 0 => ("FlintMine$Open", "shaft", "I", true)
  | _ => ("FlintMine$Open", "isPropped", "Z", true)
def tyX6 : Nat → FieldType := fun k => match k with
  | 0 => .int
  | _ => .boolean
abbrev wsX60 : List Cond := u_ws RX6 TX6 2
theorem nmX6 : ∀ a, a < 2 → ∀ b, b < 2 → a ≠ b → (TX6 a).2.1 ≠ (TX6 b).2.1 := by decide +kernel
theorem tyX6_ok : ∀ k, k < 2 → parseFieldDescriptor (TX6 k).2.2.1 = some (tyX6 k) := by decide +kernel
abbrev cX6_isBare : ByteArray := prog_18_method_3_code
def yX6_isBare : MethodName := ⟨RX6, "isBare", "()Z"⟩
def dkwX6_isBare_0 : List UInt8 := [42, 180, 0, 13, 154, 0, 7, 4, 167, 0, 4, 3, 172]
abbrev dktX6_isBare_0 : List UInt8 := dkwX6_isBare_0 ++ []
theorem dksX6_isBare_0 : cX6_isBare.data.toList.drop 0 = dktX6_isBare_0 := by decide +kernel
theorem dX6_isBare_0 : decode cX6_isBare 0 = .ok (.aload_n 0, 1) := dk_42 (dk_at dksX6_isBare_0 0 rfl rfl)
theorem dX6_isBare_1 : decode cX6_isBare 1 = .ok (.getfield 13, 3) := dk_180 0 13 (dk_at dksX6_isBare_0 1 rfl rfl)
theorem dX6_isBare_4 : decode cX6_isBare 4 = .ok (.ifCond .ne 7, 3) := dk_154 0 7 (dk_at dksX6_isBare_0 4 rfl rfl)
theorem dX6_isBare_7 : decode cX6_isBare 7 = .ok (.iconst 1, 1) := dk_4 (dk_at dksX6_isBare_0 7 rfl rfl)
theorem dX6_isBare_8 : decode cX6_isBare 8 = .ok (.goto 4, 3) := dk_167 0 4 (dk_at dksX6_isBare_0 8 rfl rfl)
theorem dX6_isBare_11 : decode cX6_isBare 11 = .ok (.iconst 0, 1) := dk_3 (dk_at dksX6_isBare_0 11 rfl rfl)
theorem dX6_isBare_12 : decode cX6_isBare 12 = .ok (.ireturn, 1) := dk_172 (dk_at dksX6_isBare_0 12 rfl rfl)
abbrev cX6_init : ByteArray := prog_18_method_1_code
def yX6_init : MethodName := ⟨RX6, "<init>", "(IZ)V"⟩
def dkwX6_init_0 : List UInt8 := [42, 183, 0, 1, 42, 27, 181, 0, 7, 42, 28, 181, 0, 13, 177]
abbrev dktX6_init_0 : List UInt8 := dkwX6_init_0 ++ []
theorem dksX6_init_0 : cX6_init.data.toList.drop 0 = dktX6_init_0 := by decide +kernel
theorem dX6_init_0 : decode cX6_init 0 = .ok (.aload_n 0, 1) := dk_42 (dk_at dksX6_init_0 0 rfl rfl)
theorem dX6_init_1 : decode cX6_init 1 = .ok (.invokespecial 1, 3) := dk_183 0 1 (dk_at dksX6_init_0 1 rfl rfl)
theorem dX6_init_4 : decode cX6_init 4 = .ok (.aload_n 0, 1) := dk_42 (dk_at dksX6_init_0 4 rfl rfl)
theorem dX6_init_5 : decode cX6_init 5 = .ok (.iload_n 1, 1) := dk_27 (dk_at dksX6_init_0 5 rfl rfl)
theorem dX6_init_6 : decode cX6_init 6 = .ok (.putfield 7, 3) := dk_181 0 7 (dk_at dksX6_init_0 6 rfl rfl)
theorem dX6_init_9 : decode cX6_init 9 = .ok (.aload_n 0, 1) := dk_42 (dk_at dksX6_init_0 9 rfl rfl)
theorem dX6_init_10 : decode cX6_init 10 = .ok (.iload_n 2, 1) := dk_28 (dk_at dksX6_init_0 10 rfl rfl)
theorem dX6_init_11 : decode cX6_init 11 = .ok (.putfield 13, 3) := dk_181 0 13 (dk_at dksX6_init_0 11 rfl rfl)
theorem dX6_init_14 : decode cX6_init 14 = .ok (.return_, 1) := dk_177 (dk_at dksX6_init_0 14 rfl rfl)
abbrev cX6_shaft : ByteArray := prog_18_method_2_code
def yX6_shaft : MethodName := ⟨RX6, "shaft", "()I"⟩
theorem dX6_shaft_0 : decode cX6_shaft 0 = .ok (.aload_n 0, 1) := by decide +kernel
theorem dX6_shaft_1 : decode cX6_shaft 1 = .ok (.getfield 7, 3) := by decide +kernel
theorem dX6_shaft_4 : decode cX6_shaft 4 = .ok (.ireturn, 1) := by decide +kernel
theorem q108 : (Jvm.Cond.initialized "FlintMine$Open") ∈ lw_all := lw_g (lw_at lw_m1 31 rfl) rfl
theorem q322 : (Jvm.Cond.castable "FlintMine$Open" "FlintMine$Ground") ∈ lw_tbl := lw_at lw_m2 5 rfl
theorem q323 : (Jvm.Cond.selects "FlintMine$Open" ({ cls := "FlintMine$Ground", name := "isBare", desc := "()Z" } : Jvm.MethodName) ({ cls := "FlintMine$Open", name := "isBare", desc := "()Z" } : Jvm.MethodName)) ∈ lw_all := lw_g (lw_at lw_m2 6 rfl) rfl
theorem q324 : (Jvm.Cond.unhidden "FlintMine$Open" "isBare" "()Z") ∈ lw_tbl := lw_at lw_m2 7 rfl
theorem q325 : (Jvm.Cond.instanceMethod ({ cls := "FlintMine$Open", name := "isBare", desc := "()Z" } : Jvm.MethodName)) ∈ lw_all := lw_g (lw_at lw_m2 8 rfl) rfl
theorem q326 : (Jvm.Cond.publicMethod ({ cls := "FlintMine$Open", name := "isBare", desc := "()Z" } : Jvm.MethodName)) ∈ lw_tbl := lw_at lw_m2 9 rfl
theorem q327 : (Jvm.Cond.code ({ cls := "FlintMine$Open", name := "isBare", desc := "()Z" } : Jvm.MethodName) prog_18_method_3_code (1 : Nat) (Option.some Jvm.ClassFile.FieldType.boolean)) ∈ lw_all := lw_g (lw_at lw_m2 10 rfl) rfl
theorem q542 : (Jvm.Cond.selects "FlintMine$Open" ({ cls := "java/lang/Object", name := "getClass", desc := "()Ljava/lang/Class;" } : Jvm.MethodName) ({ cls := "java/lang/Object", name := "getClass", desc := "()Ljava/lang/Class;" } : Jvm.MethodName)) ∈ lw_all := lw_g (lw_at lw_m2 225 rfl) rfl
theorem q804 : (Jvm.Cond.instantiable "FlintMine$Open" (2 : Nat)) ∈ lw_all := lw_g (lw_at lw_m4 7 rfl) rfl
theorem q806 : (Jvm.Cond.instanceMethod ({ cls := "FlintMine$Open", name := "<init>", desc := "(IZ)V" } : Jvm.MethodName)) ∈ lw_all := lw_g (lw_at lw_m4 9 rfl) rfl
theorem q807 : (Jvm.Cond.code ({ cls := "FlintMine$Open", name := "<init>", desc := "(IZ)V" } : Jvm.MethodName) prog_18_method_1_code (3 : Nat) (Option.none : Option Jvm.ClassFile.FieldType)) ∈ lw_all := lw_g (lw_at lw_m4 10 rfl) rfl
theorem q808 : (Jvm.Cond.methodLink "FlintMine$Open" (1 : Nat) ({ cls := "java/lang/Object", name := "<init>", desc := "()V" } : Jvm.MethodName)) ∈ lw_all := lw_g (lw_at lw_m4 11 rfl) rfl
theorem q809 : (Jvm.Cond.fieldLink "FlintMine$Open" (7 : Nat) "FlintMine$Open" "shaft" "I") ∈ lw_all := lw_g (lw_at lw_m4 12 rfl) rfl
theorem q812 : (Jvm.Cond.fieldLink "FlintMine$Open" (13 : Nat) "FlintMine$Open" "isPropped" "Z") ∈ lw_all := lw_g (lw_at lw_m4 15 rfl) rfl
theorem q815 : (Jvm.Cond.laysFinal "FlintMine$Open" "FlintMine$Open" "shaft" "I") ∈ lw_all := lw_g (lw_at lw_m4 18 rfl) rfl
theorem q816 : (Jvm.Cond.soleField "FlintMine$Open" "shaft") ∈ lw_all := lw_g (lw_at lw_m4 19 rfl) rfl
theorem q817 : (Jvm.Cond.laysFinal "FlintMine$Open" "FlintMine$Open" "isPropped" "Z") ∈ lw_all := lw_g (lw_at lw_m4 20 rfl) rfl
theorem q818 : (Jvm.Cond.soleField "FlintMine$Open" "isPropped") ∈ lw_all := lw_g (lw_at lw_m4 21 rfl) rfl
theorem q819 : (Jvm.Cond.superclass "FlintMine$Open" "java/lang/Object") ∈ lw_all := lw_g (lw_at lw_m4 22 rfl) rfl
theorem q1125 : (Jvm.Cond.selects "FlintMine$Open" ({ cls := "FlintMine$Ground", name := "shaft", desc := "()I" } : Jvm.MethodName) ({ cls := "FlintMine$Open", name := "shaft", desc := "()I" } : Jvm.MethodName)) ∈ lw_all := lw_g (lw_at lw_m5 88 rfl) rfl
theorem q1126 : (Jvm.Cond.unhidden "FlintMine$Open" "shaft" "()I") ∈ lw_tbl := lw_at lw_m5 89 rfl
theorem q1127 : (Jvm.Cond.instanceMethod ({ cls := "FlintMine$Open", name := "shaft", desc := "()I" } : Jvm.MethodName)) ∈ lw_all := lw_g (lw_at lw_m5 90 rfl) rfl
theorem q1128 : (Jvm.Cond.publicMethod ({ cls := "FlintMine$Open", name := "shaft", desc := "()I" } : Jvm.MethodName)) ∈ lw_tbl := lw_at lw_m5 91 rfl
theorem q1129 : (Jvm.Cond.code ({ cls := "FlintMine$Open", name := "shaft", desc := "()I" } : Jvm.MethodName) prog_18_method_2_code (1 : Nat) (Option.some Jvm.ClassFile.FieldType.int)) ∈ lw_all := lw_g (lw_at lw_m5 92 rfl) rfl
theorem q2325 : (Jvm.Cond.castable "FlintMine$Open" "java/lang/Object") ∈ lw_tbl := lw_at lw_m10 88 rfl
theorem in_X6 : ∀ w ∈ wsX60, w ∈ lw_all := lw_in wsX60 [815, 817] (by decide +kernel) (by decide +kernel)
/-! FlintMine$Shaft -/
set_option maxRecDepth 100000
def RX7 : String := "FlintMine$Shaft"
def TX7 : u_T := fun k => match k with
  | 0 => ("FlintMine$Shaft", "cell", "I", true)
  | 1 => ("FlintMine$Shaft", "won", "I", true)
  | _ => ("FlintMine$Shaft", "isClosed", "Z", true)
def tyX7 : Nat → FieldType := fun k => match k with
  | 0 => .int
  | 1 => .int
  | _ => .boolean
abbrev wsX70 : List Cond := u_ws RX7 TX7 3
theorem nmX7 : ∀ a, a < 3 → ∀ b, b < 3 → a ≠ b → (TX7 a).2.1 ≠ (TX7 b).2.1 := by decide +kernel
theorem tyX7_ok : ∀ k, k < 3 → parseFieldDescriptor (TX7 k).2.2.1 = some (tyX7 k) := by decide +kernel
abbrev cX7_init : ByteArray := prog_21_method_1_code
def yX7_init : MethodName := ⟨RX7, "<init>", "(II)V"⟩
def dkwX7_init_0 : List UInt8 := [42, 27, 28, 3, 183, 0, 1, 177]
abbrev dktX7_init_0 : List UInt8 := dkwX7_init_0 ++ []
theorem dksX7_init_0 : cX7_init.data.toList.drop 0 = dktX7_init_0 := by decide +kernel
theorem dX7_init_0 : decode cX7_init 0 = .ok (.aload_n 0, 1) := dk_42 (dk_at dksX7_init_0 0 rfl rfl)
theorem dX7_init_1 : decode cX7_init 1 = .ok (.iload_n 1, 1) := dk_27 (dk_at dksX7_init_0 1 rfl rfl)
theorem dX7_init_2 : decode cX7_init 2 = .ok (.iload_n 2, 1) := dk_28 (dk_at dksX7_init_0 2 rfl rfl)
theorem dX7_init_3 : decode cX7_init 3 = .ok (.iconst 0, 1) := dk_3 (dk_at dksX7_init_0 3 rfl rfl)
theorem dX7_init_4 : decode cX7_init 4 = .ok (.invokespecial 1, 3) := dk_183 0 1 (dk_at dksX7_init_0 4 rfl rfl)
theorem dX7_init_7 : decode cX7_init 7 = .ok (.return_, 1) := dk_177 (dk_at dksX7_init_0 7 rfl rfl)
abbrev cX7_init_2 : ByteArray := prog_21_method_2_code
def yX7_init_2 : MethodName := ⟨RX7, "<init>", "(IIZ)V"⟩
def dkwX7_init_2_0 : List UInt8 := [42, 183, 0, 7, 42, 27, 181, 0, 12, 42, 28, 181, 0, 16, 42, 29, 181, 0, 19, 177]
abbrev dktX7_init_2_0 : List UInt8 := dkwX7_init_2_0 ++ []
theorem dksX7_init_2_0 : cX7_init_2.data.toList.drop 0 = dktX7_init_2_0 := by decide +kernel
theorem dX7_init_2_0 : decode cX7_init_2 0 = .ok (.aload_n 0, 1) := dk_42 (dk_at dksX7_init_2_0 0 rfl rfl)
theorem dX7_init_2_1 : decode cX7_init_2 1 = .ok (.invokespecial 7, 3) := dk_183 0 7 (dk_at dksX7_init_2_0 1 rfl rfl)
theorem dX7_init_2_4 : decode cX7_init_2 4 = .ok (.aload_n 0, 1) := dk_42 (dk_at dksX7_init_2_0 4 rfl rfl)
theorem dX7_init_2_5 : decode cX7_init_2 5 = .ok (.iload_n 1, 1) := dk_27 (dk_at dksX7_init_2_0 5 rfl rfl)
theorem dX7_init_2_6 : decode cX7_init_2 6 = .ok (.putfield 12, 3) := dk_181 0 12 (dk_at dksX7_init_2_0 6 rfl rfl)
theorem dX7_init_2_9 : decode cX7_init_2 9 = .ok (.aload_n 0, 1) := dk_42 (dk_at dksX7_init_2_0 9 rfl rfl)
theorem dX7_init_2_10 : decode cX7_init_2 10 = .ok (.iload_n 2, 1) := dk_28 (dk_at dksX7_init_2_0 10 rfl rfl)
theorem dX7_init_2_11 : decode cX7_init_2 11 = .ok (.putfield 16, 3) := dk_181 0 16 (dk_at dksX7_init_2_0 11 rfl rfl)
theorem dX7_init_2_14 : decode cX7_init_2 14 = .ok (.aload_n 0, 1) := dk_42 (dk_at dksX7_init_2_0 14 rfl rfl)
theorem dX7_init_2_15 : decode cX7_init_2 15 = .ok (.iload_n 3, 1) := dk_29 (dk_at dksX7_init_2_0 15 rfl rfl)
theorem dX7_init_2_16 : decode cX7_init_2 16 = .ok (.putfield 19, 3) := dk_181 0 19 (dk_at dksX7_init_2_0 16 rfl rfl)
theorem dX7_init_2_19 : decode cX7_init_2 19 = .ok (.return_, 1) := dk_177 (dk_at dksX7_init_2_0 19 rfl rfl)
abbrev cX7_winning : ByteArray := prog_21_method_3_code
def yX7_winning : MethodName := ⟨RX7, "winning", "(I)LFlintMine$Shaft;"⟩
def dkwX7_winning_0 : List UInt8 := [187, 0, 2, 89, 42, 180, 0, 12, 42, 180, 0, 16, 27, 96, 183, 0, 23, 176]
abbrev dktX7_winning_0 : List UInt8 := dkwX7_winning_0 ++ []
theorem dksX7_winning_0 : cX7_winning.data.toList.drop 0 = dktX7_winning_0 := by decide +kernel
theorem dX7_winning_0 : decode cX7_winning 0 = .ok (.new 2, 3) := dk_187 0 2 (dk_at dksX7_winning_0 0 rfl rfl)
theorem dX7_winning_3 : decode cX7_winning 3 = .ok (.dup, 1) := dk_89 (dk_at dksX7_winning_0 3 rfl rfl)
theorem dX7_winning_4 : decode cX7_winning 4 = .ok (.aload_n 0, 1) := dk_42 (dk_at dksX7_winning_0 4 rfl rfl)
theorem dX7_winning_5 : decode cX7_winning 5 = .ok (.getfield 12, 3) := dk_180 0 12 (dk_at dksX7_winning_0 5 rfl rfl)
theorem dX7_winning_8 : decode cX7_winning 8 = .ok (.aload_n 0, 1) := dk_42 (dk_at dksX7_winning_0 8 rfl rfl)
theorem dX7_winning_9 : decode cX7_winning 9 = .ok (.getfield 16, 3) := dk_180 0 16 (dk_at dksX7_winning_0 9 rfl rfl)
theorem dX7_winning_12 : decode cX7_winning 12 = .ok (.iload_n 1, 1) := dk_27 (dk_at dksX7_winning_0 12 rfl rfl)
theorem dX7_winning_13 : decode cX7_winning 13 = .ok (.iadd, 1) := dk_96 (dk_at dksX7_winning_0 13 rfl rfl)
theorem dX7_winning_14 : decode cX7_winning 14 = .ok (.invokespecial 23, 3) := dk_183 0 23 (dk_at dksX7_winning_0 14 rfl rfl)
theorem dX7_winning_17 : decode cX7_winning 17 = .ok (.areturn, 1) := dk_176 (dk_at dksX7_winning_0 17 rfl rfl)
abbrev cX7_closed : ByteArray := prog_21_method_4_code
def yX7_closed : MethodName := ⟨RX7, "closed", "()LFlintMine$Shaft;"⟩
def dkwX7_closed_0 : List UInt8 := [187, 0, 2, 89, 42, 180, 0, 12, 42, 180, 0, 16, 4, 183, 0, 1, 176]
abbrev dktX7_closed_0 : List UInt8 := dkwX7_closed_0 ++ []
theorem dksX7_closed_0 : cX7_closed.data.toList.drop 0 = dktX7_closed_0 := by decide +kernel
theorem dX7_closed_0 : decode cX7_closed 0 = .ok (.new 2, 3) := dk_187 0 2 (dk_at dksX7_closed_0 0 rfl rfl)
theorem dX7_closed_3 : decode cX7_closed 3 = .ok (.dup, 1) := dk_89 (dk_at dksX7_closed_0 3 rfl rfl)
theorem dX7_closed_4 : decode cX7_closed 4 = .ok (.aload_n 0, 1) := dk_42 (dk_at dksX7_closed_0 4 rfl rfl)
theorem dX7_closed_5 : decode cX7_closed 5 = .ok (.getfield 12, 3) := dk_180 0 12 (dk_at dksX7_closed_0 5 rfl rfl)
theorem dX7_closed_8 : decode cX7_closed 8 = .ok (.aload_n 0, 1) := dk_42 (dk_at dksX7_closed_0 8 rfl rfl)
theorem dX7_closed_9 : decode cX7_closed 9 = .ok (.getfield 16, 3) := dk_180 0 16 (dk_at dksX7_closed_0 9 rfl rfl)
theorem dX7_closed_12 : decode cX7_closed 12 = .ok (.iconst 1, 1) := dk_4 (dk_at dksX7_closed_0 12 rfl rfl)
theorem dX7_closed_13 : decode cX7_closed 13 = .ok (.invokespecial 1, 3) := dk_183 0 1 (dk_at dksX7_closed_0 13 rfl rfl)
theorem dX7_closed_16 : decode cX7_closed 16 = .ok (.areturn, 1) := dk_176 (dk_at dksX7_closed_0 16 rfl rfl)
theorem q111 : (Jvm.Cond.initialized "FlintMine$Shaft") ∈ lw_all := lw_g (lw_at lw_m1 34 rfl) rfl
theorem q545 : (Jvm.Cond.selects "FlintMine$Shaft" ({ cls := "java/lang/Object", name := "getClass", desc := "()Ljava/lang/Class;" } : Jvm.MethodName) ({ cls := "java/lang/Object", name := "getClass", desc := "()Ljava/lang/Class;" } : Jvm.MethodName)) ∈ lw_all := lw_g (lw_at lw_m2 228 rfl) rfl
theorem q878 : (Jvm.Cond.instantiable "FlintMine$Shaft" (3 : Nat)) ∈ lw_all := lw_g (lw_at lw_m4 81 rfl) rfl
theorem q880 : (Jvm.Cond.instanceMethod ({ cls := "FlintMine$Shaft", name := "<init>", desc := "(II)V" } : Jvm.MethodName)) ∈ lw_all := lw_g (lw_at lw_m4 83 rfl) rfl
theorem q881 : (Jvm.Cond.code ({ cls := "FlintMine$Shaft", name := "<init>", desc := "(II)V" } : Jvm.MethodName) prog_21_method_1_code (3 : Nat) (Option.none : Option Jvm.ClassFile.FieldType)) ∈ lw_all := lw_g (lw_at lw_m4 84 rfl) rfl
theorem q882 : (Jvm.Cond.methodLink "FlintMine$Shaft" (1 : Nat) ({ cls := "FlintMine$Shaft", name := "<init>", desc := "(IIZ)V" } : Jvm.MethodName)) ∈ lw_all := lw_g (lw_at lw_m4 85 rfl) rfl
theorem q883 : (Jvm.Cond.instanceMethod ({ cls := "FlintMine$Shaft", name := "<init>", desc := "(IIZ)V" } : Jvm.MethodName)) ∈ lw_all := lw_g (lw_at lw_m4 86 rfl) rfl
theorem q884 : (Jvm.Cond.code ({ cls := "FlintMine$Shaft", name := "<init>", desc := "(IIZ)V" } : Jvm.MethodName) prog_21_method_2_code (4 : Nat) (Option.none : Option Jvm.ClassFile.FieldType)) ∈ lw_all := lw_g (lw_at lw_m4 87 rfl) rfl
theorem q885 : (Jvm.Cond.methodLink "FlintMine$Shaft" (7 : Nat) ({ cls := "java/lang/Object", name := "<init>", desc := "()V" } : Jvm.MethodName)) ∈ lw_all := lw_g (lw_at lw_m4 88 rfl) rfl
theorem q886 : (Jvm.Cond.fieldLink "FlintMine$Shaft" (12 : Nat) "FlintMine$Shaft" "cell" "I") ∈ lw_all := lw_g (lw_at lw_m4 89 rfl) rfl
theorem q888 : (Jvm.Cond.fieldLink "FlintMine$Shaft" (16 : Nat) "FlintMine$Shaft" "won" "I") ∈ lw_all := lw_g (lw_at lw_m4 91 rfl) rfl
theorem q891 : (Jvm.Cond.fieldLink "FlintMine$Shaft" (19 : Nat) "FlintMine$Shaft" "isClosed" "Z") ∈ lw_all := lw_g (lw_at lw_m4 94 rfl) rfl
theorem q894 : (Jvm.Cond.laysFinal "FlintMine$Shaft" "FlintMine$Shaft" "cell" "I") ∈ lw_all := lw_g (lw_at lw_m4 97 rfl) rfl
theorem q895 : (Jvm.Cond.soleField "FlintMine$Shaft" "cell") ∈ lw_all := lw_g (lw_at lw_m4 98 rfl) rfl
theorem q896 : (Jvm.Cond.laysFinal "FlintMine$Shaft" "FlintMine$Shaft" "won" "I") ∈ lw_all := lw_g (lw_at lw_m4 99 rfl) rfl
theorem q897 : (Jvm.Cond.soleField "FlintMine$Shaft" "won") ∈ lw_all := lw_g (lw_at lw_m4 100 rfl) rfl
theorem q898 : (Jvm.Cond.laysFinal "FlintMine$Shaft" "FlintMine$Shaft" "isClosed" "Z") ∈ lw_all := lw_g (lw_at lw_m4 101 rfl) rfl
theorem q899 : (Jvm.Cond.soleField "FlintMine$Shaft" "isClosed") ∈ lw_all := lw_g (lw_at lw_m4 102 rfl) rfl
theorem q900 : (Jvm.Cond.superclass "FlintMine$Shaft" "java/lang/Object") ∈ lw_all := lw_g (lw_at lw_m4 103 rfl) rfl
theorem q920 : (Jvm.Cond.instanceMethod ({ cls := "FlintMine$Shaft", name := "winning", desc := "(I)LFlintMine$Shaft;" } : Jvm.MethodName)) ∈ lw_all := lw_g (lw_at lw_m4 123 rfl) rfl
theorem q921 : (Jvm.Cond.selects "FlintMine$Shaft" ({ cls := "FlintMine$Shaft", name := "winning", desc := "(I)LFlintMine$Shaft;" } : Jvm.MethodName) ({ cls := "FlintMine$Shaft", name := "winning", desc := "(I)LFlintMine$Shaft;" } : Jvm.MethodName)) ∈ lw_all := lw_g (lw_at lw_m4 124 rfl) rfl
theorem q922 : (Jvm.Cond.code ({ cls := "FlintMine$Shaft", name := "winning", desc := "(I)LFlintMine$Shaft;" } : Jvm.MethodName) prog_21_method_3_code (2 : Nat) (Option.some (Jvm.ClassFile.FieldType.object "FlintMine$Shaft"))) ∈ lw_all := lw_g (lw_at lw_m4 125 rfl) rfl
theorem q923 : (Jvm.Cond.classLink "FlintMine$Shaft" (2 : Nat) "FlintMine$Shaft") ∈ lw_all := lw_g (lw_at lw_m4 126 rfl) rfl
theorem q924 : (Jvm.Cond.methodLink "FlintMine$Shaft" (23 : Nat) ({ cls := "FlintMine$Shaft", name := "<init>", desc := "(II)V" } : Jvm.MethodName)) ∈ lw_all := lw_g (lw_at lw_m4 127 rfl) rfl
theorem q972 : (Jvm.Cond.instanceMethod ({ cls := "FlintMine$Shaft", name := "closed", desc := "()LFlintMine$Shaft;" } : Jvm.MethodName)) ∈ lw_all := lw_g (lw_at lw_m4 175 rfl) rfl
theorem q973 : (Jvm.Cond.selects "FlintMine$Shaft" ({ cls := "FlintMine$Shaft", name := "closed", desc := "()LFlintMine$Shaft;" } : Jvm.MethodName) ({ cls := "FlintMine$Shaft", name := "closed", desc := "()LFlintMine$Shaft;" } : Jvm.MethodName)) ∈ lw_all := lw_g (lw_at lw_m4 176 rfl) rfl
theorem q974 : (Jvm.Cond.code ({ cls := "FlintMine$Shaft", name := "closed", desc := "()LFlintMine$Shaft;" } : Jvm.MethodName) prog_21_method_4_code (1 : Nat) (Option.some (Jvm.ClassFile.FieldType.object "FlintMine$Shaft"))) ∈ lw_all := lw_g (lw_at lw_m4 177 rfl) rfl
theorem q2326 : (Jvm.Cond.castable "FlintMine$Shaft" "java/lang/Object") ∈ lw_tbl := lw_at lw_m10 89 rfl
theorem in_X7 : ∀ w ∈ wsX70, w ∈ lw_all := lw_in wsX70 [894, 896, 898] (by decide +kernel) (by decide +kernel)
/-! FlintMine$Filled -/
set_option maxRecDepth 100000
def RX8 : String := "FlintMine$Filled"
def TX8 : u_T := fun k => match k with
  | _ => ("FlintMine$Filled", "shaft", "I", true)
def tyX8 : Nat → FieldType := fun k => match k with
  | _ => .int
abbrev wsX80 : List Cond := u_ws RX8 TX8 1
theorem nmX8 : ∀ a, a < 1 → ∀ b, b < 1 → a ≠ b → (TX8 a).2.1 ≠ (TX8 b).2.1 := by decide +kernel
theorem tyX8_ok : ∀ k, k < 1 → parseFieldDescriptor (TX8 k).2.2.1 = some (tyX8 k) := by decide +kernel
abbrev cX8_init : ByteArray := prog_15_method_1_code
def yX8_init : MethodName := ⟨RX8, "<init>", "(LFlintMine$Open;)V"⟩
def dkwX8_init_0 : List UInt8 := [42, 183, 0, 1, 42, 43, 180, 0, 7, 181, 0, 13, 177]
abbrev dktX8_init_0 : List UInt8 := dkwX8_init_0 ++ []
theorem dksX8_init_0 : cX8_init.data.toList.drop 0 = dktX8_init_0 := by decide +kernel
theorem dX8_init_0 : decode cX8_init 0 = .ok (.aload_n 0, 1) := dk_42 (dk_at dksX8_init_0 0 rfl rfl)
theorem dX8_init_1 : decode cX8_init 1 = .ok (.invokespecial 1, 3) := dk_183 0 1 (dk_at dksX8_init_0 1 rfl rfl)
theorem dX8_init_4 : decode cX8_init 4 = .ok (.aload_n 0, 1) := dk_42 (dk_at dksX8_init_0 4 rfl rfl)
theorem dX8_init_5 : decode cX8_init 5 = .ok (.aload_n 1, 1) := dk_43 (dk_at dksX8_init_0 5 rfl rfl)
theorem dX8_init_6 : decode cX8_init 6 = .ok (.getfield 7, 3) := dk_180 0 7 (dk_at dksX8_init_0 6 rfl rfl)
theorem dX8_init_9 : decode cX8_init 9 = .ok (.putfield 13, 3) := dk_181 0 13 (dk_at dksX8_init_0 9 rfl rfl)
theorem dX8_init_12 : decode cX8_init 12 = .ok (.return_, 1) := dk_177 (dk_at dksX8_init_0 12 rfl rfl)
abbrev cX8_shaft : ByteArray := prog_15_method_2_code
def yX8_shaft : MethodName := ⟨RX8, "shaft", "()I"⟩
theorem dX8_shaft_0 : decode cX8_shaft 0 = .ok (.aload_n 0, 1) := by decide +kernel
theorem dX8_shaft_1 : decode cX8_shaft 1 = .ok (.getfield 13, 3) := by decide +kernel
theorem dX8_shaft_4 : decode cX8_shaft 4 = .ok (.ireturn, 1) := by decide +kernel
theorem q112 : (Jvm.Cond.initialized "FlintMine$Filled") ∈ lw_all := lw_g (lw_at lw_m1 35 rfl) rfl
theorem q320 : (Jvm.Cond.castable "FlintMine$Filled" "FlintMine$Ground") ∈ lw_tbl := lw_at lw_m2 3 rfl
theorem q321 : (Jvm.Cond.unhidden "FlintMine$Filled" "isBare" "()Z") ∈ lw_tbl := lw_at lw_m2 4 rfl
theorem q540 : (Jvm.Cond.selects "FlintMine$Filled" ({ cls := "java/lang/Object", name := "getClass", desc := "()Ljava/lang/Class;" } : Jvm.MethodName) ({ cls := "java/lang/Object", name := "getClass", desc := "()Ljava/lang/Class;" } : Jvm.MethodName)) ∈ lw_all := lw_g (lw_at lw_m2 223 rfl) rfl
theorem q810 : (Jvm.Cond.fieldLinkNest "FlintMine$Filled" (7 : Nat) "FlintMine$Open" "shaft" "I" "FlintMine") ∈ lw_tbl := lw_at lw_m4 13 rfl
theorem q962 : (Jvm.Cond.instantiable "FlintMine$Filled" (1 : Nat)) ∈ lw_all := lw_g (lw_at lw_m4 165 rfl) rfl
theorem q964 : (Jvm.Cond.instanceMethod ({ cls := "FlintMine$Filled", name := "<init>", desc := "(LFlintMine$Open;)V" } : Jvm.MethodName)) ∈ lw_all := lw_g (lw_at lw_m4 167 rfl) rfl
theorem q965 : (Jvm.Cond.code ({ cls := "FlintMine$Filled", name := "<init>", desc := "(LFlintMine$Open;)V" } : Jvm.MethodName) prog_15_method_1_code (2 : Nat) (Option.none : Option Jvm.ClassFile.FieldType)) ∈ lw_all := lw_g (lw_at lw_m4 168 rfl) rfl
theorem q966 : (Jvm.Cond.methodLink "FlintMine$Filled" (1 : Nat) ({ cls := "java/lang/Object", name := "<init>", desc := "()V" } : Jvm.MethodName)) ∈ lw_all := lw_g (lw_at lw_m4 169 rfl) rfl
theorem q967 : (Jvm.Cond.fieldLink "FlintMine$Filled" (13 : Nat) "FlintMine$Filled" "shaft" "I") ∈ lw_all := lw_g (lw_at lw_m4 170 rfl) rfl
theorem q968 : (Jvm.Cond.laysFinal "FlintMine$Filled" "FlintMine$Filled" "shaft" "I") ∈ lw_all := lw_g (lw_at lw_m4 171 rfl) rfl
theorem q969 : (Jvm.Cond.soleField "FlintMine$Filled" "shaft") ∈ lw_all := lw_g (lw_at lw_m4 172 rfl) rfl
theorem q970 : (Jvm.Cond.superclass "FlintMine$Filled" "java/lang/Object") ∈ lw_all := lw_g (lw_at lw_m4 173 rfl) rfl
theorem q1120 : (Jvm.Cond.selects "FlintMine$Filled" ({ cls := "FlintMine$Ground", name := "shaft", desc := "()I" } : Jvm.MethodName) ({ cls := "FlintMine$Filled", name := "shaft", desc := "()I" } : Jvm.MethodName)) ∈ lw_all := lw_g (lw_at lw_m5 83 rfl) rfl
theorem q1121 : (Jvm.Cond.unhidden "FlintMine$Filled" "shaft" "()I") ∈ lw_tbl := lw_at lw_m5 84 rfl
theorem q1122 : (Jvm.Cond.instanceMethod ({ cls := "FlintMine$Filled", name := "shaft", desc := "()I" } : Jvm.MethodName)) ∈ lw_all := lw_g (lw_at lw_m5 85 rfl) rfl
theorem q1123 : (Jvm.Cond.publicMethod ({ cls := "FlintMine$Filled", name := "shaft", desc := "()I" } : Jvm.MethodName)) ∈ lw_tbl := lw_at lw_m5 86 rfl
theorem q1124 : (Jvm.Cond.code ({ cls := "FlintMine$Filled", name := "shaft", desc := "()I" } : Jvm.MethodName) prog_15_method_2_code (1 : Nat) (Option.some Jvm.ClassFile.FieldType.int)) ∈ lw_all := lw_g (lw_at lw_m5 87 rfl) rfl
theorem q2327 : (Jvm.Cond.castable "FlintMine$Filled" "java/lang/Object") ∈ lw_tbl := lw_at lw_m10 90 rfl
theorem in_X8 : ∀ w ∈ wsX80, w ∈ lw_all := lw_in wsX80 [968] (by decide +kernel) (by decide +kernel)
/-! FlintMine$Trail -/
set_option maxRecDepth 100000
def RX9 : String := "FlintMine$Trail"
def TX9 : u_T := fun k => match k with
  | 0 => ("FlintMine$Trail", "cell", "I", true)
  | 1 => ("FlintMine$Trail", "ahead", "LFlintMine$Trail;", true)
  | _ => ("FlintMine$Trail", "length", "I", true)
def tyX9 : Nat → FieldType := fun k => match k with
  | 0 => .int
  | 1 => .object "FlintMine$Trail"
  | _ => .int
abbrev wsX90 : List Cond := u_ws RX9 TX9 3
theorem nmX9 : ∀ a, a < 3 → ∀ b, b < 3 → a ≠ b → (TX9 a).2.1 ≠ (TX9 b).2.1 := by decide +kernel
theorem tyX9_ok : ∀ k, k < 3 → parseFieldDescriptor (TX9 k).2.2.1 = some (tyX9 k) := by decide +kernel
abbrev cX9_init : ByteArray := prog_22_method_1_code
def yX9_init : MethodName := ⟨RX9, "<init>", "(I)V"⟩
def dkwX9_init_0 : List UInt8 := [42, 27, 1, 4, 183, 0, 1, 177]
abbrev dktX9_init_0 : List UInt8 := dkwX9_init_0 ++ []
theorem dksX9_init_0 : cX9_init.data.toList.drop 0 = dktX9_init_0 := by decide +kernel
theorem dX9_init_0 : decode cX9_init 0 = .ok (.aload_n 0, 1) := dk_42 (dk_at dksX9_init_0 0 rfl rfl)
theorem dX9_init_1 : decode cX9_init 1 = .ok (.iload_n 1, 1) := dk_27 (dk_at dksX9_init_0 1 rfl rfl)
theorem dX9_init_2 : decode cX9_init 2 = .ok (.aconst_null, 1) := dk_1 (dk_at dksX9_init_0 2 rfl rfl)
theorem dX9_init_3 : decode cX9_init 3 = .ok (.iconst 1, 1) := dk_4 (dk_at dksX9_init_0 3 rfl rfl)
theorem dX9_init_4 : decode cX9_init 4 = .ok (.invokespecial 1, 3) := dk_183 0 1 (dk_at dksX9_init_0 4 rfl rfl)
theorem dX9_init_7 : decode cX9_init 7 = .ok (.return_, 1) := dk_177 (dk_at dksX9_init_0 7 rfl rfl)
abbrev cX9_init_2 : ByteArray := prog_22_method_3_code
def yX9_init_2 : MethodName := ⟨RX9, "<init>", "(ILFlintMine$Trail;I)V"⟩
def dkwX9_init_2_0 : List UInt8 := [42, 183, 0, 11, 42, 27, 181, 0, 16, 42, 44, 181, 0, 19, 42, 29, 181, 0, 7, 177]
abbrev dktX9_init_2_0 : List UInt8 := dkwX9_init_2_0 ++ []
theorem dksX9_init_2_0 : cX9_init_2.data.toList.drop 0 = dktX9_init_2_0 := by decide +kernel
theorem dX9_init_2_0 : decode cX9_init_2 0 = .ok (.aload_n 0, 1) := dk_42 (dk_at dksX9_init_2_0 0 rfl rfl)
theorem dX9_init_2_1 : decode cX9_init_2 1 = .ok (.invokespecial 11, 3) := dk_183 0 11 (dk_at dksX9_init_2_0 1 rfl rfl)
theorem dX9_init_2_4 : decode cX9_init_2 4 = .ok (.aload_n 0, 1) := dk_42 (dk_at dksX9_init_2_0 4 rfl rfl)
theorem dX9_init_2_5 : decode cX9_init_2 5 = .ok (.iload_n 1, 1) := dk_27 (dk_at dksX9_init_2_0 5 rfl rfl)
theorem dX9_init_2_6 : decode cX9_init_2 6 = .ok (.putfield 16, 3) := dk_181 0 16 (dk_at dksX9_init_2_0 6 rfl rfl)
theorem dX9_init_2_9 : decode cX9_init_2 9 = .ok (.aload_n 0, 1) := dk_42 (dk_at dksX9_init_2_0 9 rfl rfl)
theorem dX9_init_2_10 : decode cX9_init_2 10 = .ok (.aload_n 2, 1) := dk_44 (dk_at dksX9_init_2_0 10 rfl rfl)
theorem dX9_init_2_11 : decode cX9_init_2 11 = .ok (.putfield 19, 3) := dk_181 0 19 (dk_at dksX9_init_2_0 11 rfl rfl)
theorem dX9_init_2_14 : decode cX9_init_2 14 = .ok (.aload_n 0, 1) := dk_42 (dk_at dksX9_init_2_0 14 rfl rfl)
theorem dX9_init_2_15 : decode cX9_init_2 15 = .ok (.iload_n 3, 1) := dk_29 (dk_at dksX9_init_2_0 15 rfl rfl)
theorem dX9_init_2_16 : decode cX9_init_2 16 = .ok (.putfield 7, 3) := dk_181 0 7 (dk_at dksX9_init_2_0 16 rfl rfl)
theorem dX9_init_2_19 : decode cX9_init_2 19 = .ok (.return_, 1) := dk_177 (dk_at dksX9_init_2_0 19 rfl rfl)
abbrev cX9_init_3 : ByteArray := prog_22_method_2_code
def yX9_init_3 : MethodName := ⟨RX9, "<init>", "(ILFlintMine$Trail;)V"⟩
def dkwX9_init_3_0 : List UInt8 := [42, 27, 44, 44, 180, 0, 7, 4, 96, 183, 0, 1, 177]
abbrev dktX9_init_3_0 : List UInt8 := dkwX9_init_3_0 ++ []
theorem dksX9_init_3_0 : cX9_init_3.data.toList.drop 0 = dktX9_init_3_0 := by decide +kernel
theorem dX9_init_3_0 : decode cX9_init_3 0 = .ok (.aload_n 0, 1) := dk_42 (dk_at dksX9_init_3_0 0 rfl rfl)
theorem dX9_init_3_1 : decode cX9_init_3 1 = .ok (.iload_n 1, 1) := dk_27 (dk_at dksX9_init_3_0 1 rfl rfl)
theorem dX9_init_3_2 : decode cX9_init_3 2 = .ok (.aload_n 2, 1) := dk_44 (dk_at dksX9_init_3_0 2 rfl rfl)
theorem dX9_init_3_3 : decode cX9_init_3 3 = .ok (.aload_n 2, 1) := dk_44 (dk_at dksX9_init_3_0 3 rfl rfl)
theorem dX9_init_3_4 : decode cX9_init_3 4 = .ok (.getfield 7, 3) := dk_180 0 7 (dk_at dksX9_init_3_0 4 rfl rfl)
theorem dX9_init_3_7 : decode cX9_init_3 7 = .ok (.iconst 1, 1) := dk_4 (dk_at dksX9_init_3_0 7 rfl rfl)
theorem dX9_init_3_8 : decode cX9_init_3 8 = .ok (.iadd, 1) := dk_96 (dk_at dksX9_init_3_0 8 rfl rfl)
theorem dX9_init_3_9 : decode cX9_init_3 9 = .ok (.invokespecial 1, 3) := dk_183 0 1 (dk_at dksX9_init_3_0 9 rfl rfl)
theorem dX9_init_3_12 : decode cX9_init_3 12 = .ok (.return_, 1) := dk_177 (dk_at dksX9_init_3_0 12 rfl rfl)
abbrev cX9_cell : ByteArray := prog_22_method_4_code
def yX9_cell : MethodName := ⟨RX9, "cell", "(I)I"⟩
def dkwX9_cell_1 : List UInt8 := [182, 0, 23, 172]
abbrev dktX9_cell_1 : List UInt8 := dkwX9_cell_1 ++ []
def dkwX9_cell_0 : List UInt8 := [27, 42, 180, 0, 7, 4, 100, 160, 0, 10, 42, 180, 0, 16, 167, 0, 11, 42, 180, 0, 19, 27]
abbrev dktX9_cell_0 : List UInt8 := dkwX9_cell_0 ++ dktX9_cell_1
theorem dksX9_cell_0 : cX9_cell.data.toList.drop 0 = dktX9_cell_0 := by decide +kernel
theorem dksX9_cell_1 : cX9_cell.data.toList.drop 22 = dktX9_cell_1 := dk_seg dksX9_cell_0 22 rfl rfl
theorem dX9_cell_0 : decode cX9_cell 0 = .ok (.iload_n 1, 1) := dk_27 (dk_at dksX9_cell_0 0 rfl rfl)
theorem dX9_cell_1 : decode cX9_cell 1 = .ok (.aload_n 0, 1) := dk_42 (dk_at dksX9_cell_0 1 rfl rfl)
theorem dX9_cell_2 : decode cX9_cell 2 = .ok (.getfield 7, 3) := dk_180 0 7 (dk_at dksX9_cell_0 2 rfl rfl)
theorem dX9_cell_5 : decode cX9_cell 5 = .ok (.iconst 1, 1) := dk_4 (dk_at dksX9_cell_0 5 rfl rfl)
theorem dX9_cell_6 : decode cX9_cell 6 = .ok (.isub, 1) := dk_100 (dk_at dksX9_cell_0 6 rfl rfl)
theorem dX9_cell_7 : decode cX9_cell 7 = .ok (.if_icmp .ne 10, 3) := dk_160 0 10 (dk_at dksX9_cell_0 7 rfl rfl)
theorem dX9_cell_10 : decode cX9_cell 10 = .ok (.aload_n 0, 1) := dk_42 (dk_at dksX9_cell_0 10 rfl rfl)
theorem dX9_cell_11 : decode cX9_cell 11 = .ok (.getfield 16, 3) := dk_180 0 16 (dk_at dksX9_cell_0 11 rfl rfl)
theorem dX9_cell_14 : decode cX9_cell 14 = .ok (.goto 11, 3) := dk_167 0 11 (dk_at dksX9_cell_0 14 rfl rfl)
theorem dX9_cell_17 : decode cX9_cell 17 = .ok (.aload_n 0, 1) := dk_42 (dk_at dksX9_cell_0 17 rfl rfl)
theorem dX9_cell_18 : decode cX9_cell 18 = .ok (.getfield 19, 3) := dk_180 0 19 (dk_at dksX9_cell_0 18 rfl rfl)
theorem dX9_cell_21 : decode cX9_cell 21 = .ok (.iload_n 1, 1) := dk_27 (dk_at dksX9_cell_0 21 rfl rfl)
theorem dX9_cell_22 : decode cX9_cell 22 = .ok (.invokevirtual 23, 3) := dk_182 0 23 (dk_at dksX9_cell_1 0 rfl rfl)
theorem dX9_cell_25 : decode cX9_cell 25 = .ok (.ireturn, 1) := dk_172 (dk_at dksX9_cell_1 3 rfl rfl)
abbrev cX9_strokes : ByteArray := prog_22_method_5_code
def yX9_strokes : MethodName := ⟨RX9, "strokes", "(LFlintMine$Mine;)I"⟩
def dkwX9_strokes_1 : List UInt8 := [182, 0, 31, 96, 172]
abbrev dktX9_strokes_1 : List UInt8 := dkwX9_strokes_1 ++ []
def dkwX9_strokes_0 : List UInt8 := [43, 42, 180, 0, 16, 182, 0, 26, 42, 180, 0, 19, 199, 0, 7, 3, 167, 0, 11, 42, 180, 0, 19, 43]
abbrev dktX9_strokes_0 : List UInt8 := dkwX9_strokes_0 ++ dktX9_strokes_1
theorem dksX9_strokes_0 : cX9_strokes.data.toList.drop 0 = dktX9_strokes_0 := by decide +kernel
theorem dksX9_strokes_1 : cX9_strokes.data.toList.drop 24 = dktX9_strokes_1 := dk_seg dksX9_strokes_0 24 rfl rfl
theorem dX9_strokes_0 : decode cX9_strokes 0 = .ok (.aload_n 1, 1) := dk_43 (dk_at dksX9_strokes_0 0 rfl rfl)
theorem dX9_strokes_1 : decode cX9_strokes 1 = .ok (.aload_n 0, 1) := dk_42 (dk_at dksX9_strokes_0 1 rfl rfl)
theorem dX9_strokes_2 : decode cX9_strokes 2 = .ok (.getfield 16, 3) := dk_180 0 16 (dk_at dksX9_strokes_0 2 rfl rfl)
theorem dX9_strokes_5 : decode cX9_strokes 5 = .ok (.invokevirtual 26, 3) := dk_182 0 26 (dk_at dksX9_strokes_0 5 rfl rfl)
theorem dX9_strokes_8 : decode cX9_strokes 8 = .ok (.aload_n 0, 1) := dk_42 (dk_at dksX9_strokes_0 8 rfl rfl)
theorem dX9_strokes_9 : decode cX9_strokes 9 = .ok (.getfield 19, 3) := dk_180 0 19 (dk_at dksX9_strokes_0 9 rfl rfl)
theorem dX9_strokes_12 : decode cX9_strokes 12 = .ok (.ifnonnull 7, 3) := dk_199 0 7 (dk_at dksX9_strokes_0 12 rfl rfl)
theorem dX9_strokes_15 : decode cX9_strokes 15 = .ok (.iconst 0, 1) := dk_3 (dk_at dksX9_strokes_0 15 rfl rfl)
theorem dX9_strokes_16 : decode cX9_strokes 16 = .ok (.goto 11, 3) := dk_167 0 11 (dk_at dksX9_strokes_0 16 rfl rfl)
theorem dX9_strokes_19 : decode cX9_strokes 19 = .ok (.aload_n 0, 1) := dk_42 (dk_at dksX9_strokes_0 19 rfl rfl)
theorem dX9_strokes_20 : decode cX9_strokes 20 = .ok (.getfield 19, 3) := dk_180 0 19 (dk_at dksX9_strokes_0 20 rfl rfl)
theorem dX9_strokes_23 : decode cX9_strokes 23 = .ok (.aload_n 1, 1) := dk_43 (dk_at dksX9_strokes_0 23 rfl rfl)
theorem dX9_strokes_24 : decode cX9_strokes 24 = .ok (.invokevirtual 31, 3) := dk_182 0 31 (dk_at dksX9_strokes_1 0 rfl rfl)
theorem dX9_strokes_27 : decode cX9_strokes 27 = .ok (.iadd, 1) := dk_96 (dk_at dksX9_strokes_1 3 rfl rfl)
theorem dX9_strokes_28 : decode cX9_strokes 28 = .ok (.ireturn, 1) := dk_172 (dk_at dksX9_strokes_1 4 rfl rfl)
theorem q115 : (Jvm.Cond.initialized "FlintMine$Trail") ∈ lw_all := lw_g (lw_at lw_m1 38 rfl) rfl
theorem q546 : (Jvm.Cond.selects "FlintMine$Trail" ({ cls := "java/lang/Object", name := "getClass", desc := "()Ljava/lang/Class;" } : Jvm.MethodName) ({ cls := "java/lang/Object", name := "getClass", desc := "()Ljava/lang/Class;" } : Jvm.MethodName)) ∈ lw_all := lw_g (lw_at lw_m2 229 rfl) rfl
theorem q1229 : (Jvm.Cond.instantiable "FlintMine$Trail" (3 : Nat)) ∈ lw_all := lw_g (lw_at lw_m5 192 rfl) rfl
theorem q1231 : (Jvm.Cond.instanceMethod ({ cls := "FlintMine$Trail", name := "<init>", desc := "(I)V" } : Jvm.MethodName)) ∈ lw_all := lw_g (lw_at lw_m5 194 rfl) rfl
theorem q1232 : (Jvm.Cond.code ({ cls := "FlintMine$Trail", name := "<init>", desc := "(I)V" } : Jvm.MethodName) prog_22_method_1_code (2 : Nat) (Option.none : Option Jvm.ClassFile.FieldType)) ∈ lw_all := lw_g (lw_at lw_m5 195 rfl) rfl
theorem q1233 : (Jvm.Cond.methodLink "FlintMine$Trail" (1 : Nat) ({ cls := "FlintMine$Trail", name := "<init>", desc := "(ILFlintMine$Trail;I)V" } : Jvm.MethodName)) ∈ lw_all := lw_g (lw_at lw_m5 196 rfl) rfl
theorem q1234 : (Jvm.Cond.instanceMethod ({ cls := "FlintMine$Trail", name := "<init>", desc := "(ILFlintMine$Trail;I)V" } : Jvm.MethodName)) ∈ lw_all := lw_g (lw_at lw_m5 197 rfl) rfl
theorem q1235 : (Jvm.Cond.code ({ cls := "FlintMine$Trail", name := "<init>", desc := "(ILFlintMine$Trail;I)V" } : Jvm.MethodName) prog_22_method_3_code (4 : Nat) (Option.none : Option Jvm.ClassFile.FieldType)) ∈ lw_all := lw_g (lw_at lw_m5 198 rfl) rfl
theorem q1236 : (Jvm.Cond.methodLink "FlintMine$Trail" (11 : Nat) ({ cls := "java/lang/Object", name := "<init>", desc := "()V" } : Jvm.MethodName)) ∈ lw_all := lw_g (lw_at lw_m5 199 rfl) rfl
theorem q1237 : (Jvm.Cond.fieldLink "FlintMine$Trail" (16 : Nat) "FlintMine$Trail" "cell" "I") ∈ lw_all := lw_g (lw_at lw_m5 200 rfl) rfl
theorem q1239 : (Jvm.Cond.fieldLink "FlintMine$Trail" (19 : Nat) "FlintMine$Trail" "ahead" "LFlintMine$Trail;") ∈ lw_all := lw_g (lw_at lw_m5 202 rfl) rfl
theorem q1240 : (Jvm.Cond.fieldLink "FlintMine$Trail" (7 : Nat) "FlintMine$Trail" "length" "I") ∈ lw_all := lw_g (lw_at lw_m5 203 rfl) rfl
theorem q1242 : (Jvm.Cond.laysFinal "FlintMine$Trail" "FlintMine$Trail" "cell" "I") ∈ lw_all := lw_g (lw_at lw_m5 205 rfl) rfl
theorem q1243 : (Jvm.Cond.soleField "FlintMine$Trail" "cell") ∈ lw_all := lw_g (lw_at lw_m5 206 rfl) rfl
theorem q1244 : (Jvm.Cond.laysFinal "FlintMine$Trail" "FlintMine$Trail" "ahead" "LFlintMine$Trail;") ∈ lw_all := lw_g (lw_at lw_m5 207 rfl) rfl
theorem q1245 : (Jvm.Cond.soleField "FlintMine$Trail" "ahead") ∈ lw_all := lw_g (lw_at lw_m5 208 rfl) rfl
theorem q1246 : (Jvm.Cond.laysFinal "FlintMine$Trail" "FlintMine$Trail" "length" "I") ∈ lw_all := lw_g (lw_at lw_m5 209 rfl) rfl
theorem q1247 : (Jvm.Cond.soleField "FlintMine$Trail" "length") ∈ lw_all := lw_g (lw_at lw_m5 210 rfl) rfl
theorem q1248 : (Jvm.Cond.superclass "FlintMine$Trail" "java/lang/Object") ∈ lw_all := lw_g (lw_at lw_m5 211 rfl) rfl
theorem q1254 : (Jvm.Cond.instanceMethod ({ cls := "FlintMine$Trail", name := "<init>", desc := "(ILFlintMine$Trail;)V" } : Jvm.MethodName)) ∈ lw_all := lw_g (lw_at lw_m5 217 rfl) rfl
theorem q1255 : (Jvm.Cond.code ({ cls := "FlintMine$Trail", name := "<init>", desc := "(ILFlintMine$Trail;)V" } : Jvm.MethodName) prog_22_method_2_code (3 : Nat) (Option.none : Option Jvm.ClassFile.FieldType)) ∈ lw_all := lw_g (lw_at lw_m5 218 rfl) rfl
theorem q1308 : (Jvm.Cond.instanceMethod ({ cls := "FlintMine$Trail", name := "cell", desc := "(I)I" } : Jvm.MethodName)) ∈ lw_all := lw_g (lw_at lw_m6 31 rfl) rfl
theorem q1309 : (Jvm.Cond.selects "FlintMine$Trail" ({ cls := "FlintMine$Trail", name := "cell", desc := "(I)I" } : Jvm.MethodName) ({ cls := "FlintMine$Trail", name := "cell", desc := "(I)I" } : Jvm.MethodName)) ∈ lw_all := lw_g (lw_at lw_m6 32 rfl) rfl
theorem q1310 : (Jvm.Cond.code ({ cls := "FlintMine$Trail", name := "cell", desc := "(I)I" } : Jvm.MethodName) prog_22_method_4_code (2 : Nat) (Option.some Jvm.ClassFile.FieldType.int)) ∈ lw_all := lw_g (lw_at lw_m6 33 rfl) rfl
theorem q1311 : (Jvm.Cond.methodLink "FlintMine$Trail" (23 : Nat) ({ cls := "FlintMine$Trail", name := "cell", desc := "(I)I" } : Jvm.MethodName)) ∈ lw_all := lw_g (lw_at lw_m6 34 rfl) rfl
theorem q1320 : (Jvm.Cond.instanceMethod ({ cls := "FlintMine$Trail", name := "strokes", desc := "(LFlintMine$Mine;)I" } : Jvm.MethodName)) ∈ lw_all := lw_g (lw_at lw_m6 43 rfl) rfl
theorem q1321 : (Jvm.Cond.selects "FlintMine$Trail" ({ cls := "FlintMine$Trail", name := "strokes", desc := "(LFlintMine$Mine;)I" } : Jvm.MethodName) ({ cls := "FlintMine$Trail", name := "strokes", desc := "(LFlintMine$Mine;)I" } : Jvm.MethodName)) ∈ lw_all := lw_g (lw_at lw_m6 44 rfl) rfl
theorem q1322 : (Jvm.Cond.code ({ cls := "FlintMine$Trail", name := "strokes", desc := "(LFlintMine$Mine;)I" } : Jvm.MethodName) prog_22_method_5_code (2 : Nat) (Option.some Jvm.ClassFile.FieldType.int)) ∈ lw_all := lw_g (lw_at lw_m6 45 rfl) rfl
theorem q1323 : (Jvm.Cond.methodLink "FlintMine$Trail" (26 : Nat) ({ cls := "FlintMine$Mine", name := "strokes", desc := "(I)I" } : Jvm.MethodName)) ∈ lw_all := lw_g (lw_at lw_m6 46 rfl) rfl
theorem q1324 : (Jvm.Cond.methodLink "FlintMine$Trail" (31 : Nat) ({ cls := "FlintMine$Trail", name := "strokes", desc := "(LFlintMine$Mine;)I" } : Jvm.MethodName)) ∈ lw_all := lw_g (lw_at lw_m6 47 rfl) rfl
theorem q2317 : (Jvm.Cond.castable "FlintMine$Trail" "java/lang/Object") ∈ lw_tbl := lw_at lw_m10 80 rfl
theorem in_X9 : ∀ w ∈ wsX90, w ∈ lw_all := lw_in wsX90 [1242, 1244, 1246] (by decide +kernel) (by decide +kernel)
/-! FlintMine$Parser -/
set_option maxRecDepth 100000
def RX10 : String := "FlintMine$Parser"
def TX10 : u_T := fun k => match k with
  | 0 => ("FlintMine$Parser", "position", "I", false)
  | _ => ("FlintMine$Parser", "this$0", "LFlintMine;", true)
def tyX10 : Nat → FieldType := fun k => match k with
  | 0 => .int
  | _ => .object "FlintMine"
abbrev wsX100 : List Cond := u_ws RX10 TX10 2
theorem nmX10 : ∀ a, a < 2 → ∀ b, b < 2 → a ≠ b → (TX10 a).2.1 ≠ (TX10 b).2.1 := by decide +kernel
theorem tyX10_ok : ∀ k, k < 2 → parseFieldDescriptor (TX10 k).2.2.1 = some (tyX10 k) := by decide +kernel
abbrev cX10_init : ByteArray := prog_19_method_1_code
def yX10_init : MethodName := ⟨RX10, "<init>", "(LFlintMine;)V"⟩
def dkwX10_init_0 : List UInt8 := [42, 43, 181, 0, 1, 42, 183, 0, 7, 177]
abbrev dktX10_init_0 : List UInt8 := dkwX10_init_0 ++ []
theorem dksX10_init_0 : cX10_init.data.toList.drop 0 = dktX10_init_0 := by decide +kernel
theorem dX10_init_0 : decode cX10_init 0 = .ok (.aload_n 0, 1) := dk_42 (dk_at dksX10_init_0 0 rfl rfl)
theorem dX10_init_1 : decode cX10_init 1 = .ok (.aload_n 1, 1) := dk_43 (dk_at dksX10_init_0 1 rfl rfl)
theorem dX10_init_2 : decode cX10_init 2 = .ok (.putfield 1, 3) := dk_181 0 1 (dk_at dksX10_init_0 2 rfl rfl)
theorem dX10_init_5 : decode cX10_init 5 = .ok (.aload_n 0, 1) := dk_42 (dk_at dksX10_init_0 5 rfl rfl)
theorem dX10_init_6 : decode cX10_init 6 = .ok (.invokespecial 7, 3) := dk_183 0 7 (dk_at dksX10_init_0 6 rfl rfl)
theorem dX10_init_9 : decode cX10_init 9 = .ok (.return_, 1) := dk_177 (dk_at dksX10_init_0 9 rfl rfl)
abbrev cX10_text : ByteArray := prog_19_method_8_code
def yX10_text : MethodName := ⟨RX10, "text", "()Ljava/util/List;"⟩
def dkwX10_text_2 : List UInt8 := [182, 0, 101, 185, 0, 104, 2, 0, 87, 167, 255, 219, 43, 176]
abbrev dktX10_text_2 : List UInt8 := dkwX10_text_2 ++ []
def dkwX10_text_1 : List UInt8 := [180, 0, 1, 180, 0, 17, 182, 0, 23, 162, 0, 26, 42, 16, 59, 16, 59, 182, 0, 46, 61, 43, 42]
abbrev dktX10_text_1 : List UInt8 := dkwX10_text_1 ++ dktX10_text_2
def dkwX10_text_0 : List UInt8 := [187, 0, 98, 89, 183, 0, 100, 76, 43, 42, 182, 0, 101, 185, 0, 104, 2, 0, 87, 42, 180, 0, 13, 42]
abbrev dktX10_text_0 : List UInt8 := dkwX10_text_0 ++ dktX10_text_1
theorem dksX10_text_0 : cX10_text.data.toList.drop 0 = dktX10_text_0 := by decide +kernel
theorem dksX10_text_1 : cX10_text.data.toList.drop 24 = dktX10_text_1 := dk_seg dksX10_text_0 24 rfl rfl
theorem dksX10_text_2 : cX10_text.data.toList.drop 47 = dktX10_text_2 := dk_seg dksX10_text_1 23 rfl rfl
theorem dX10_text_0 : decode cX10_text 0 = .ok (.new 98, 3) := dk_187 0 98 (dk_at dksX10_text_0 0 rfl rfl)
theorem dX10_text_3 : decode cX10_text 3 = .ok (.dup, 1) := dk_89 (dk_at dksX10_text_0 3 rfl rfl)
theorem dX10_text_4 : decode cX10_text 4 = .ok (.invokespecial 100, 3) := dk_183 0 100 (dk_at dksX10_text_0 4 rfl rfl)
theorem dX10_text_7 : decode cX10_text 7 = .ok (.astore_n 1, 1) := dk_76 (dk_at dksX10_text_0 7 rfl rfl)
theorem dX10_text_8 : decode cX10_text 8 = .ok (.aload_n 1, 1) := dk_43 (dk_at dksX10_text_0 8 rfl rfl)
theorem dX10_text_9 : decode cX10_text 9 = .ok (.aload_n 0, 1) := dk_42 (dk_at dksX10_text_0 9 rfl rfl)
theorem dX10_text_10 : decode cX10_text 10 = .ok (.invokevirtual 101, 3) := dk_182 0 101 (dk_at dksX10_text_0 10 rfl rfl)
theorem dX10_text_13 : decode cX10_text 13 = .ok (.invokeinterface 104 2, 5) := by decide +kernel
theorem dX10_text_18 : decode cX10_text 18 = .ok (.pop, 1) := dk_87 (dk_at dksX10_text_0 18 rfl rfl)
theorem dX10_text_19 : decode cX10_text 19 = .ok (.aload_n 0, 1) := dk_42 (dk_at dksX10_text_0 19 rfl rfl)
theorem dX10_text_20 : decode cX10_text 20 = .ok (.getfield 13, 3) := dk_180 0 13 (dk_at dksX10_text_0 20 rfl rfl)
theorem dX10_text_23 : decode cX10_text 23 = .ok (.aload_n 0, 1) := dk_42 (dk_at dksX10_text_0 23 rfl rfl)
theorem dX10_text_24 : decode cX10_text 24 = .ok (.getfield 1, 3) := dk_180 0 1 (dk_at dksX10_text_1 0 rfl rfl)
theorem dX10_text_27 : decode cX10_text 27 = .ok (.getfield 17, 3) := dk_180 0 17 (dk_at dksX10_text_1 3 rfl rfl)
theorem dX10_text_30 : decode cX10_text 30 = .ok (.invokevirtual 23, 3) := dk_182 0 23 (dk_at dksX10_text_1 6 rfl rfl)
theorem dX10_text_33 : decode cX10_text 33 = .ok (.if_icmp .ge 26, 3) := dk_162 0 26 (dk_at dksX10_text_1 9 rfl rfl)
theorem dX10_text_36 : decode cX10_text 36 = .ok (.aload_n 0, 1) := dk_42 (dk_at dksX10_text_1 12 rfl rfl)
theorem dX10_text_37 : decode cX10_text 37 = .ok (.bipush 59, 2) := dk_16 59 (dk_at dksX10_text_1 13 rfl rfl)
theorem dX10_text_39 : decode cX10_text 39 = .ok (.bipush 59, 2) := dk_16 59 (dk_at dksX10_text_1 15 rfl rfl)
theorem dX10_text_41 : decode cX10_text 41 = .ok (.invokevirtual 46, 3) := dk_182 0 46 (dk_at dksX10_text_1 17 rfl rfl)
theorem dX10_text_44 : decode cX10_text 44 = .ok (.istore_n 2, 1) := dk_61 (dk_at dksX10_text_1 20 rfl rfl)
theorem dX10_text_45 : decode cX10_text 45 = .ok (.aload_n 1, 1) := dk_43 (dk_at dksX10_text_1 21 rfl rfl)
theorem dX10_text_46 : decode cX10_text 46 = .ok (.aload_n 0, 1) := dk_42 (dk_at dksX10_text_1 22 rfl rfl)
theorem dX10_text_47 : decode cX10_text 47 = .ok (.invokevirtual 101, 3) := dk_182 0 101 (dk_at dksX10_text_2 0 rfl rfl)
theorem dX10_text_50 : decode cX10_text 50 = .ok (.invokeinterface 104 2, 5) := by decide +kernel
theorem dX10_text_55 : decode cX10_text 55 = .ok (.pop, 1) := dk_87 (dk_at dksX10_text_2 8 rfl rfl)
theorem dX10_text_56 : decode cX10_text 56 = .ok (.goto (-37), 3) := dk_167 255 219 (dk_at dksX10_text_2 9 rfl rfl)
theorem dX10_text_59 : decode cX10_text 59 = .ok (.aload_n 1, 1) := dk_43 (dk_at dksX10_text_2 12 rfl rfl)
theorem dX10_text_60 : decode cX10_text 60 = .ok (.areturn, 1) := dk_176 (dk_at dksX10_text_2 13 rfl rfl)
abbrev cX10_command : ByteArray := prog_19_method_7_code
def yX10_command : MethodName := ⟨RX10, "command", "()LFlintMine$Command;"⟩
def dkwX10_command_7 : List UInt8 := [178, 0, 95, 4, 188, 10, 89, 3, 42, 182, 0, 50, 79, 183, 0, 61, 176]
abbrev dktX10_command_7 : List UInt8 := dkwX10_command_7 ++ []
def dkwX10_command_6 : List UInt8 := [89, 178, 0, 92, 4, 188, 10, 89, 3, 42, 182, 0, 50, 79, 183, 0, 61, 176, 187, 0, 53, 89]
abbrev dktX10_command_6 : List UInt8 := dkwX10_command_6 ++ dktX10_command_7
def dkwX10_command_5 : List UInt8 := [187, 0, 53, 89, 178, 0, 89, 4, 188, 10, 89, 3, 42, 182, 0, 50, 79, 183, 0, 61, 176, 187, 0, 53]
abbrev dktX10_command_5 : List UInt8 := dkwX10_command_5 ++ dktX10_command_6
def dkwX10_command_4 : List UInt8 := [176, 187, 0, 53, 89, 178, 0, 86, 4, 188, 10, 89, 3, 42, 182, 0, 50, 79, 183, 0, 61, 176]
abbrev dktX10_command_4 : List UInt8 := dkwX10_command_4 ++ dktX10_command_5
def dkwX10_command_3 : List UInt8 := [182, 0, 79, 176, 187, 0, 53, 89, 178, 0, 83, 4, 188, 10, 89, 3, 42, 182, 0, 50, 79, 183, 0, 61]
abbrev dktX10_command_3 : List UInt8 := dkwX10_command_3 ++ dktX10_command_4
def dkwX10_command_2 : List UInt8 := [187, 0, 53, 89, 178, 0, 76, 4, 188, 10, 89, 3, 42, 182, 0, 50, 79, 183, 0, 61, 176, 42]
abbrev dktX10_command_2 : List UInt8 := dkwX10_command_2 ++ dktX10_command_3
def dkwX10_command_1 : List UInt8 := [170, 0, 0, 0, 0, 0, 0, 202, 0, 0, 0, 99, 0, 0, 0, 117, 0, 0, 0, 160, 0, 0, 0, 113, 0, 0, 0, 202, 0, 0, 0, 202, 0, 0, 0, 202, 0, 0, 0, 202, 0, 0, 0, 202, 0, 0, 0, 202, 0, 0, 0, 202, 0, 0, 0, 202, 0, 0, 0, 202, 0, 0, 0, 202, 0, 0, 0, 202, 0, 0, 0, 118, 0, 0, 0, 202, 0, 0, 0, 202, 0, 0, 0, 92, 0, 0, 0, 181, 0, 0, 0, 139]
abbrev dktX10_command_1 : List UInt8 := dkwX10_command_1 ++ dktX10_command_2
def dkwX10_command_0 : List UInt8 := [42, 182, 0, 72]
abbrev dktX10_command_0 : List UInt8 := dkwX10_command_0 ++ dktX10_command_1
theorem dksX10_command_0 : cX10_command.data.toList.drop 0 = dktX10_command_0 := by decide +kernel
theorem dksX10_command_1 : cX10_command.data.toList.drop 4 = dktX10_command_1 := dk_seg dksX10_command_0 4 rfl rfl
theorem dksX10_command_2 : cX10_command.data.toList.drop 96 = dktX10_command_2 := dk_seg dksX10_command_1 92 rfl rfl
theorem dksX10_command_3 : cX10_command.data.toList.drop 118 = dktX10_command_3 := dk_seg dksX10_command_2 22 rfl rfl
theorem dksX10_command_4 : cX10_command.data.toList.drop 142 = dktX10_command_4 := dk_seg dksX10_command_3 24 rfl rfl
theorem dksX10_command_5 : cX10_command.data.toList.drop 164 = dktX10_command_5 := dk_seg dksX10_command_4 22 rfl rfl
theorem dksX10_command_6 : cX10_command.data.toList.drop 188 = dktX10_command_6 := dk_seg dksX10_command_5 24 rfl rfl
theorem dksX10_command_7 : cX10_command.data.toList.drop 210 = dktX10_command_7 := dk_seg dksX10_command_6 22 rfl rfl
theorem dX10_command_0 : decode cX10_command 0 = .ok (.aload_n 0, 1) := dk_42 (dk_at dksX10_command_0 0 rfl rfl)
theorem dX10_command_1 : decode cX10_command 1 = .ok (.invokevirtual 72, 3) := dk_182 0 72 (dk_at dksX10_command_0 1 rfl rfl)
theorem dX10_command_4 : decode cX10_command 4 = .ok (.tableswitch 202 99 117 #[160, 113, 202, 202, 202, 202, 202, 202, 202, 202, 202, 202, 202, 118, 202, 202, 92, 181, 139], 92) := by decide +kernel
theorem dX10_command_96 : decode cX10_command 96 = .ok (.new 53, 3) := dk_187 0 53 (dk_at dksX10_command_2 0 rfl rfl)
theorem dX10_command_99 : decode cX10_command 99 = .ok (.dup, 1) := dk_89 (dk_at dksX10_command_2 3 rfl rfl)
theorem dX10_command_100 : decode cX10_command 100 = .ok (.getstatic 76, 3) := dk_178 0 76 (dk_at dksX10_command_2 4 rfl rfl)
theorem dX10_command_103 : decode cX10_command 103 = .ok (.iconst 1, 1) := dk_4 (dk_at dksX10_command_2 7 rfl rfl)
theorem dX10_command_104 : decode cX10_command 104 = .ok (.newarray .int, 2) := dk_188_10 (dk_at dksX10_command_2 8 rfl rfl)
theorem dX10_command_106 : decode cX10_command 106 = .ok (.dup, 1) := dk_89 (dk_at dksX10_command_2 10 rfl rfl)
theorem dX10_command_107 : decode cX10_command 107 = .ok (.iconst 0, 1) := dk_3 (dk_at dksX10_command_2 11 rfl rfl)
theorem dX10_command_108 : decode cX10_command 108 = .ok (.aload_n 0, 1) := dk_42 (dk_at dksX10_command_2 12 rfl rfl)
theorem dX10_command_109 : decode cX10_command 109 = .ok (.invokevirtual 50, 3) := dk_182 0 50 (dk_at dksX10_command_2 13 rfl rfl)
theorem dX10_command_112 : decode cX10_command 112 = .ok (.iastore, 1) := dk_79 (dk_at dksX10_command_2 16 rfl rfl)
theorem dX10_command_113 : decode cX10_command 113 = .ok (.invokespecial 61, 3) := dk_183 0 61 (dk_at dksX10_command_2 17 rfl rfl)
theorem dX10_command_116 : decode cX10_command 116 = .ok (.areturn, 1) := dk_176 (dk_at dksX10_command_2 20 rfl rfl)
theorem dX10_command_117 : decode cX10_command 117 = .ok (.aload_n 0, 1) := dk_42 (dk_at dksX10_command_2 21 rfl rfl)
theorem dX10_command_118 : decode cX10_command 118 = .ok (.invokevirtual 79, 3) := dk_182 0 79 (dk_at dksX10_command_3 0 rfl rfl)
theorem dX10_command_121 : decode cX10_command 121 = .ok (.areturn, 1) := dk_176 (dk_at dksX10_command_3 3 rfl rfl)
theorem dX10_command_122 : decode cX10_command 122 = .ok (.new 53, 3) := dk_187 0 53 (dk_at dksX10_command_3 4 rfl rfl)
theorem dX10_command_125 : decode cX10_command 125 = .ok (.dup, 1) := dk_89 (dk_at dksX10_command_3 7 rfl rfl)
theorem dX10_command_126 : decode cX10_command 126 = .ok (.getstatic 83, 3) := dk_178 0 83 (dk_at dksX10_command_3 8 rfl rfl)
theorem dX10_command_129 : decode cX10_command 129 = .ok (.iconst 1, 1) := dk_4 (dk_at dksX10_command_3 11 rfl rfl)
theorem dX10_command_130 : decode cX10_command 130 = .ok (.newarray .int, 2) := dk_188_10 (dk_at dksX10_command_3 12 rfl rfl)
theorem dX10_command_132 : decode cX10_command 132 = .ok (.dup, 1) := dk_89 (dk_at dksX10_command_3 14 rfl rfl)
theorem dX10_command_133 : decode cX10_command 133 = .ok (.iconst 0, 1) := dk_3 (dk_at dksX10_command_3 15 rfl rfl)
theorem dX10_command_134 : decode cX10_command 134 = .ok (.aload_n 0, 1) := dk_42 (dk_at dksX10_command_3 16 rfl rfl)
theorem dX10_command_135 : decode cX10_command 135 = .ok (.invokevirtual 50, 3) := dk_182 0 50 (dk_at dksX10_command_3 17 rfl rfl)
theorem dX10_command_138 : decode cX10_command 138 = .ok (.iastore, 1) := dk_79 (dk_at dksX10_command_3 20 rfl rfl)
theorem dX10_command_139 : decode cX10_command 139 = .ok (.invokespecial 61, 3) := dk_183 0 61 (dk_at dksX10_command_3 21 rfl rfl)
theorem dX10_command_142 : decode cX10_command 142 = .ok (.areturn, 1) := dk_176 (dk_at dksX10_command_4 0 rfl rfl)
theorem dX10_command_143 : decode cX10_command 143 = .ok (.new 53, 3) := dk_187 0 53 (dk_at dksX10_command_4 1 rfl rfl)
theorem dX10_command_146 : decode cX10_command 146 = .ok (.dup, 1) := dk_89 (dk_at dksX10_command_4 4 rfl rfl)
theorem dX10_command_147 : decode cX10_command 147 = .ok (.getstatic 86, 3) := dk_178 0 86 (dk_at dksX10_command_4 5 rfl rfl)
theorem dX10_command_150 : decode cX10_command 150 = .ok (.iconst 1, 1) := dk_4 (dk_at dksX10_command_4 8 rfl rfl)
theorem dX10_command_151 : decode cX10_command 151 = .ok (.newarray .int, 2) := dk_188_10 (dk_at dksX10_command_4 9 rfl rfl)
theorem dX10_command_153 : decode cX10_command 153 = .ok (.dup, 1) := dk_89 (dk_at dksX10_command_4 11 rfl rfl)
theorem dX10_command_154 : decode cX10_command 154 = .ok (.iconst 0, 1) := dk_3 (dk_at dksX10_command_4 12 rfl rfl)
theorem dX10_command_155 : decode cX10_command 155 = .ok (.aload_n 0, 1) := dk_42 (dk_at dksX10_command_4 13 rfl rfl)
theorem dX10_command_156 : decode cX10_command 156 = .ok (.invokevirtual 50, 3) := dk_182 0 50 (dk_at dksX10_command_4 14 rfl rfl)
theorem dX10_command_159 : decode cX10_command 159 = .ok (.iastore, 1) := dk_79 (dk_at dksX10_command_4 17 rfl rfl)
theorem dX10_command_160 : decode cX10_command 160 = .ok (.invokespecial 61, 3) := dk_183 0 61 (dk_at dksX10_command_4 18 rfl rfl)
theorem dX10_command_163 : decode cX10_command 163 = .ok (.areturn, 1) := dk_176 (dk_at dksX10_command_4 21 rfl rfl)
theorem dX10_command_164 : decode cX10_command 164 = .ok (.new 53, 3) := dk_187 0 53 (dk_at dksX10_command_5 0 rfl rfl)
theorem dX10_command_167 : decode cX10_command 167 = .ok (.dup, 1) := dk_89 (dk_at dksX10_command_5 3 rfl rfl)
theorem dX10_command_168 : decode cX10_command 168 = .ok (.getstatic 89, 3) := dk_178 0 89 (dk_at dksX10_command_5 4 rfl rfl)
theorem dX10_command_171 : decode cX10_command 171 = .ok (.iconst 1, 1) := dk_4 (dk_at dksX10_command_5 7 rfl rfl)
theorem dX10_command_172 : decode cX10_command 172 = .ok (.newarray .int, 2) := dk_188_10 (dk_at dksX10_command_5 8 rfl rfl)
theorem dX10_command_174 : decode cX10_command 174 = .ok (.dup, 1) := dk_89 (dk_at dksX10_command_5 10 rfl rfl)
theorem dX10_command_175 : decode cX10_command 175 = .ok (.iconst 0, 1) := dk_3 (dk_at dksX10_command_5 11 rfl rfl)
theorem dX10_command_176 : decode cX10_command 176 = .ok (.aload_n 0, 1) := dk_42 (dk_at dksX10_command_5 12 rfl rfl)
theorem dX10_command_177 : decode cX10_command 177 = .ok (.invokevirtual 50, 3) := dk_182 0 50 (dk_at dksX10_command_5 13 rfl rfl)
theorem dX10_command_180 : decode cX10_command 180 = .ok (.iastore, 1) := dk_79 (dk_at dksX10_command_5 16 rfl rfl)
theorem dX10_command_181 : decode cX10_command 181 = .ok (.invokespecial 61, 3) := dk_183 0 61 (dk_at dksX10_command_5 17 rfl rfl)
theorem dX10_command_184 : decode cX10_command 184 = .ok (.areturn, 1) := dk_176 (dk_at dksX10_command_5 20 rfl rfl)
theorem dX10_command_185 : decode cX10_command 185 = .ok (.new 53, 3) := dk_187 0 53 (dk_at dksX10_command_5 21 rfl rfl)
theorem dX10_command_188 : decode cX10_command 188 = .ok (.dup, 1) := dk_89 (dk_at dksX10_command_6 0 rfl rfl)
theorem dX10_command_189 : decode cX10_command 189 = .ok (.getstatic 92, 3) := dk_178 0 92 (dk_at dksX10_command_6 1 rfl rfl)
theorem dX10_command_192 : decode cX10_command 192 = .ok (.iconst 1, 1) := dk_4 (dk_at dksX10_command_6 4 rfl rfl)
theorem dX10_command_193 : decode cX10_command 193 = .ok (.newarray .int, 2) := dk_188_10 (dk_at dksX10_command_6 5 rfl rfl)
theorem dX10_command_195 : decode cX10_command 195 = .ok (.dup, 1) := dk_89 (dk_at dksX10_command_6 7 rfl rfl)
theorem dX10_command_196 : decode cX10_command 196 = .ok (.iconst 0, 1) := dk_3 (dk_at dksX10_command_6 8 rfl rfl)
theorem dX10_command_197 : decode cX10_command 197 = .ok (.aload_n 0, 1) := dk_42 (dk_at dksX10_command_6 9 rfl rfl)
theorem dX10_command_198 : decode cX10_command 198 = .ok (.invokevirtual 50, 3) := dk_182 0 50 (dk_at dksX10_command_6 10 rfl rfl)
theorem dX10_command_201 : decode cX10_command 201 = .ok (.iastore, 1) := dk_79 (dk_at dksX10_command_6 13 rfl rfl)
theorem dX10_command_202 : decode cX10_command 202 = .ok (.invokespecial 61, 3) := dk_183 0 61 (dk_at dksX10_command_6 14 rfl rfl)
theorem dX10_command_205 : decode cX10_command 205 = .ok (.areturn, 1) := dk_176 (dk_at dksX10_command_6 17 rfl rfl)
theorem dX10_command_206 : decode cX10_command 206 = .ok (.new 53, 3) := dk_187 0 53 (dk_at dksX10_command_6 18 rfl rfl)
theorem dX10_command_209 : decode cX10_command 209 = .ok (.dup, 1) := dk_89 (dk_at dksX10_command_6 21 rfl rfl)
theorem dX10_command_210 : decode cX10_command 210 = .ok (.getstatic 95, 3) := dk_178 0 95 (dk_at dksX10_command_7 0 rfl rfl)
theorem dX10_command_213 : decode cX10_command 213 = .ok (.iconst 1, 1) := dk_4 (dk_at dksX10_command_7 3 rfl rfl)
theorem dX10_command_214 : decode cX10_command 214 = .ok (.newarray .int, 2) := dk_188_10 (dk_at dksX10_command_7 4 rfl rfl)
theorem dX10_command_216 : decode cX10_command 216 = .ok (.dup, 1) := dk_89 (dk_at dksX10_command_7 6 rfl rfl)
theorem dX10_command_217 : decode cX10_command 217 = .ok (.iconst 0, 1) := dk_3 (dk_at dksX10_command_7 7 rfl rfl)
theorem dX10_command_218 : decode cX10_command 218 = .ok (.aload_n 0, 1) := dk_42 (dk_at dksX10_command_7 8 rfl rfl)
theorem dX10_command_219 : decode cX10_command 219 = .ok (.invokevirtual 50, 3) := dk_182 0 50 (dk_at dksX10_command_7 9 rfl rfl)
theorem dX10_command_222 : decode cX10_command 222 = .ok (.iastore, 1) := dk_79 (dk_at dksX10_command_7 12 rfl rfl)
theorem dX10_command_223 : decode cX10_command 223 = .ok (.invokespecial 61, 3) := dk_183 0 61 (dk_at dksX10_command_7 13 rfl rfl)
theorem dX10_command_226 : decode cX10_command 226 = .ok (.areturn, 1) := dk_176 (dk_at dksX10_command_7 16 rfl rfl)
abbrev cX10_letter : ByteArray := prog_19_method_6_code
def yX10_letter : MethodName := ⟨RX10, "letter", "()C"⟩
def dkwX10_letter_3 : List UInt8 := [172]
abbrev dktX10_letter_3 : List UInt8 := dkwX10_letter_3 ++ []
def dkwX10_letter_2 : List UInt8 := [61, 28, 153, 0, 14, 42, 16, 97, 16, 122, 182, 0, 46, 167, 0, 11, 42, 16, 115, 16, 115, 182, 0, 46]
abbrev dktX10_letter_2 : List UInt8 := dkwX10_letter_2 ++ dktX10_letter_3
def dkwX10_letter_1 : List UInt8 := [180, 0, 1, 180, 0, 17, 42, 180, 0, 13, 182, 0, 29, 182, 0, 66, 155, 0, 7, 4, 167, 0, 4, 3]
abbrev dktX10_letter_1 : List UInt8 := dkwX10_letter_1 ++ dktX10_letter_2
def dkwX10_letter_0 : List UInt8 := [18, 64, 76, 42, 180, 0, 13, 42, 180, 0, 1, 180, 0, 17, 182, 0, 23, 162, 0, 28, 43, 42]
abbrev dktX10_letter_0 : List UInt8 := dkwX10_letter_0 ++ dktX10_letter_1
theorem dksX10_letter_0 : cX10_letter.data.toList.drop 0 = dktX10_letter_0 := by decide +kernel
theorem dksX10_letter_1 : cX10_letter.data.toList.drop 22 = dktX10_letter_1 := dk_seg dksX10_letter_0 22 rfl rfl
theorem dksX10_letter_2 : cX10_letter.data.toList.drop 46 = dktX10_letter_2 := dk_seg dksX10_letter_1 24 rfl rfl
theorem dksX10_letter_3 : cX10_letter.data.toList.drop 70 = dktX10_letter_3 := dk_seg dksX10_letter_2 24 rfl rfl
theorem dX10_letter_0 : decode cX10_letter 0 = .ok (.ldc 64, 2) := dk_18 64 (dk_at dksX10_letter_0 0 rfl rfl)
theorem dX10_letter_2 : decode cX10_letter 2 = .ok (.astore_n 1, 1) := dk_76 (dk_at dksX10_letter_0 2 rfl rfl)
theorem dX10_letter_3 : decode cX10_letter 3 = .ok (.aload_n 0, 1) := dk_42 (dk_at dksX10_letter_0 3 rfl rfl)
theorem dX10_letter_4 : decode cX10_letter 4 = .ok (.getfield 13, 3) := dk_180 0 13 (dk_at dksX10_letter_0 4 rfl rfl)
theorem dX10_letter_7 : decode cX10_letter 7 = .ok (.aload_n 0, 1) := dk_42 (dk_at dksX10_letter_0 7 rfl rfl)
theorem dX10_letter_8 : decode cX10_letter 8 = .ok (.getfield 1, 3) := dk_180 0 1 (dk_at dksX10_letter_0 8 rfl rfl)
theorem dX10_letter_11 : decode cX10_letter 11 = .ok (.getfield 17, 3) := dk_180 0 17 (dk_at dksX10_letter_0 11 rfl rfl)
theorem dX10_letter_14 : decode cX10_letter 14 = .ok (.invokevirtual 23, 3) := dk_182 0 23 (dk_at dksX10_letter_0 14 rfl rfl)
theorem dX10_letter_17 : decode cX10_letter 17 = .ok (.if_icmp .ge 28, 3) := dk_162 0 28 (dk_at dksX10_letter_0 17 rfl rfl)
theorem dX10_letter_20 : decode cX10_letter 20 = .ok (.aload_n 1, 1) := dk_43 (dk_at dksX10_letter_0 20 rfl rfl)
theorem dX10_letter_21 : decode cX10_letter 21 = .ok (.aload_n 0, 1) := dk_42 (dk_at dksX10_letter_0 21 rfl rfl)
theorem dX10_letter_22 : decode cX10_letter 22 = .ok (.getfield 1, 3) := dk_180 0 1 (dk_at dksX10_letter_1 0 rfl rfl)
theorem dX10_letter_25 : decode cX10_letter 25 = .ok (.getfield 17, 3) := dk_180 0 17 (dk_at dksX10_letter_1 3 rfl rfl)
theorem dX10_letter_28 : decode cX10_letter 28 = .ok (.aload_n 0, 1) := dk_42 (dk_at dksX10_letter_1 6 rfl rfl)
theorem dX10_letter_29 : decode cX10_letter 29 = .ok (.getfield 13, 3) := dk_180 0 13 (dk_at dksX10_letter_1 7 rfl rfl)
theorem dX10_letter_32 : decode cX10_letter 32 = .ok (.invokevirtual 29, 3) := dk_182 0 29 (dk_at dksX10_letter_1 10 rfl rfl)
theorem dX10_letter_35 : decode cX10_letter 35 = .ok (.invokevirtual 66, 3) := dk_182 0 66 (dk_at dksX10_letter_1 13 rfl rfl)
theorem dX10_letter_38 : decode cX10_letter 38 = .ok (.ifCond .lt 7, 3) := dk_155 0 7 (dk_at dksX10_letter_1 16 rfl rfl)
theorem dX10_letter_41 : decode cX10_letter 41 = .ok (.iconst 1, 1) := dk_4 (dk_at dksX10_letter_1 19 rfl rfl)
theorem dX10_letter_42 : decode cX10_letter 42 = .ok (.goto 4, 3) := dk_167 0 4 (dk_at dksX10_letter_1 20 rfl rfl)
theorem dX10_letter_45 : decode cX10_letter 45 = .ok (.iconst 0, 1) := dk_3 (dk_at dksX10_letter_1 23 rfl rfl)
theorem dX10_letter_46 : decode cX10_letter 46 = .ok (.istore_n 2, 1) := dk_61 (dk_at dksX10_letter_2 0 rfl rfl)
theorem dX10_letter_47 : decode cX10_letter 47 = .ok (.iload_n 2, 1) := dk_28 (dk_at dksX10_letter_2 1 rfl rfl)
theorem dX10_letter_48 : decode cX10_letter 48 = .ok (.ifCond .eq 14, 3) := dk_153 0 14 (dk_at dksX10_letter_2 2 rfl rfl)
theorem dX10_letter_51 : decode cX10_letter 51 = .ok (.aload_n 0, 1) := dk_42 (dk_at dksX10_letter_2 5 rfl rfl)
theorem dX10_letter_52 : decode cX10_letter 52 = .ok (.bipush 97, 2) := dk_16 97 (dk_at dksX10_letter_2 6 rfl rfl)
theorem dX10_letter_54 : decode cX10_letter 54 = .ok (.bipush 122, 2) := dk_16 122 (dk_at dksX10_letter_2 8 rfl rfl)
theorem dX10_letter_56 : decode cX10_letter 56 = .ok (.invokevirtual 46, 3) := dk_182 0 46 (dk_at dksX10_letter_2 10 rfl rfl)
theorem dX10_letter_59 : decode cX10_letter 59 = .ok (.goto 11, 3) := dk_167 0 11 (dk_at dksX10_letter_2 13 rfl rfl)
theorem dX10_letter_62 : decode cX10_letter 62 = .ok (.aload_n 0, 1) := dk_42 (dk_at dksX10_letter_2 16 rfl rfl)
theorem dX10_letter_63 : decode cX10_letter 63 = .ok (.bipush 115, 2) := dk_16 115 (dk_at dksX10_letter_2 17 rfl rfl)
theorem dX10_letter_65 : decode cX10_letter 65 = .ok (.bipush 115, 2) := dk_16 115 (dk_at dksX10_letter_2 19 rfl rfl)
theorem dX10_letter_67 : decode cX10_letter 67 = .ok (.invokevirtual 46, 3) := dk_182 0 46 (dk_at dksX10_letter_2 21 rfl rfl)
theorem dX10_letter_70 : decode cX10_letter 70 = .ok (.ireturn, 1) := dk_172 (dk_at dksX10_letter_3 0 rfl rfl)
abbrev cX10_take : ByteArray := prog_19_method_3_code
def yX10_take : MethodName := ⟨RX10, "take", "(CC)C"⟩
def dkwX10_take_2 : List UInt8 := [172]
abbrev dktX10_take_2 : List UInt8 := dkwX10_take_2 ++ []
def dkwX10_take_1 : List UInt8 := [180, 0, 13, 4, 96, 181, 0, 13, 42, 180, 0, 1, 180, 0, 17, 42, 180, 0, 13, 4, 100, 182, 0, 29]
abbrev dktX10_take_1 : List UInt8 := dkwX10_take_1 ++ dktX10_take_2
def dkwX10_take_0 : List UInt8 := [42, 27, 28, 182, 0, 37, 154, 0, 15, 187, 0, 41, 89, 42, 180, 0, 13, 183, 0, 43, 191, 42, 89]
abbrev dktX10_take_0 : List UInt8 := dkwX10_take_0 ++ dktX10_take_1
theorem dksX10_take_0 : cX10_take.data.toList.drop 0 = dktX10_take_0 := by decide +kernel
theorem dksX10_take_1 : cX10_take.data.toList.drop 23 = dktX10_take_1 := dk_seg dksX10_take_0 23 rfl rfl
theorem dksX10_take_2 : cX10_take.data.toList.drop 47 = dktX10_take_2 := dk_seg dksX10_take_1 24 rfl rfl
theorem dX10_take_0 : decode cX10_take 0 = .ok (.aload_n 0, 1) := dk_42 (dk_at dksX10_take_0 0 rfl rfl)
theorem dX10_take_1 : decode cX10_take 1 = .ok (.iload_n 1, 1) := dk_27 (dk_at dksX10_take_0 1 rfl rfl)
theorem dX10_take_2 : decode cX10_take 2 = .ok (.iload_n 2, 1) := dk_28 (dk_at dksX10_take_0 2 rfl rfl)
theorem dX10_take_3 : decode cX10_take 3 = .ok (.invokevirtual 37, 3) := dk_182 0 37 (dk_at dksX10_take_0 3 rfl rfl)
theorem dX10_take_6 : decode cX10_take 6 = .ok (.ifCond .ne 15, 3) := dk_154 0 15 (dk_at dksX10_take_0 6 rfl rfl)
theorem dX10_take_9 : decode cX10_take 9 = .ok (.new 41, 3) := dk_187 0 41 (dk_at dksX10_take_0 9 rfl rfl)
theorem dX10_take_12 : decode cX10_take 12 = .ok (.dup, 1) := dk_89 (dk_at dksX10_take_0 12 rfl rfl)
theorem dX10_take_13 : decode cX10_take 13 = .ok (.aload_n 0, 1) := dk_42 (dk_at dksX10_take_0 13 rfl rfl)
theorem dX10_take_14 : decode cX10_take 14 = .ok (.getfield 13, 3) := dk_180 0 13 (dk_at dksX10_take_0 14 rfl rfl)
theorem dX10_take_17 : decode cX10_take 17 = .ok (.invokespecial 43, 3) := dk_183 0 43 (dk_at dksX10_take_0 17 rfl rfl)
theorem dX10_take_20 : decode cX10_take 20 = .ok (.athrow, 1) := dk_191 (dk_at dksX10_take_0 20 rfl rfl)
theorem dX10_take_21 : decode cX10_take 21 = .ok (.aload_n 0, 1) := dk_42 (dk_at dksX10_take_0 21 rfl rfl)
theorem dX10_take_22 : decode cX10_take 22 = .ok (.dup, 1) := dk_89 (dk_at dksX10_take_0 22 rfl rfl)
theorem dX10_take_23 : decode cX10_take 23 = .ok (.getfield 13, 3) := dk_180 0 13 (dk_at dksX10_take_1 0 rfl rfl)
theorem dX10_take_26 : decode cX10_take 26 = .ok (.iconst 1, 1) := dk_4 (dk_at dksX10_take_1 3 rfl rfl)
theorem dX10_take_27 : decode cX10_take 27 = .ok (.iadd, 1) := dk_96 (dk_at dksX10_take_1 4 rfl rfl)
theorem dX10_take_28 : decode cX10_take 28 = .ok (.putfield 13, 3) := dk_181 0 13 (dk_at dksX10_take_1 5 rfl rfl)
theorem dX10_take_31 : decode cX10_take 31 = .ok (.aload_n 0, 1) := dk_42 (dk_at dksX10_take_1 8 rfl rfl)
theorem dX10_take_32 : decode cX10_take 32 = .ok (.getfield 1, 3) := dk_180 0 1 (dk_at dksX10_take_1 9 rfl rfl)
theorem dX10_take_35 : decode cX10_take 35 = .ok (.getfield 17, 3) := dk_180 0 17 (dk_at dksX10_take_1 12 rfl rfl)
theorem dX10_take_38 : decode cX10_take 38 = .ok (.aload_n 0, 1) := dk_42 (dk_at dksX10_take_1 15 rfl rfl)
theorem dX10_take_39 : decode cX10_take 39 = .ok (.getfield 13, 3) := dk_180 0 13 (dk_at dksX10_take_1 16 rfl rfl)
theorem dX10_take_42 : decode cX10_take 42 = .ok (.iconst 1, 1) := dk_4 (dk_at dksX10_take_1 19 rfl rfl)
theorem dX10_take_43 : decode cX10_take 43 = .ok (.isub, 1) := dk_100 (dk_at dksX10_take_1 20 rfl rfl)
theorem dX10_take_44 : decode cX10_take 44 = .ok (.invokevirtual 29, 3) := dk_182 0 29 (dk_at dksX10_take_1 21 rfl rfl)
theorem dX10_take_47 : decode cX10_take 47 = .ok (.ireturn, 1) := dk_172 (dk_at dksX10_take_2 0 rfl rfl)
abbrev cX10_isAt : ByteArray := prog_19_method_2_code
def yX10_isAt : MethodName := ⟨RX10, "isAt", "(CC)Z"⟩
def dkwX10_isAt_1 : List UInt8 := [42, 180, 0, 13, 182, 0, 29, 27, 28, 184, 0, 33, 153, 0, 7, 4, 167, 0, 4, 3, 172]
abbrev dktX10_isAt_1 : List UInt8 := dkwX10_isAt_1 ++ []
def dkwX10_isAt_0 : List UInt8 := [42, 180, 0, 13, 42, 180, 0, 1, 180, 0, 17, 182, 0, 23, 162, 0, 29, 42, 180, 0, 1, 180, 0, 17]
abbrev dktX10_isAt_0 : List UInt8 := dkwX10_isAt_0 ++ dktX10_isAt_1
theorem dksX10_isAt_0 : cX10_isAt.data.toList.drop 0 = dktX10_isAt_0 := by decide +kernel
theorem dksX10_isAt_1 : cX10_isAt.data.toList.drop 24 = dktX10_isAt_1 := dk_seg dksX10_isAt_0 24 rfl rfl
theorem dX10_isAt_0 : decode cX10_isAt 0 = .ok (.aload_n 0, 1) := dk_42 (dk_at dksX10_isAt_0 0 rfl rfl)
theorem dX10_isAt_1 : decode cX10_isAt 1 = .ok (.getfield 13, 3) := dk_180 0 13 (dk_at dksX10_isAt_0 1 rfl rfl)
theorem dX10_isAt_4 : decode cX10_isAt 4 = .ok (.aload_n 0, 1) := dk_42 (dk_at dksX10_isAt_0 4 rfl rfl)
theorem dX10_isAt_5 : decode cX10_isAt 5 = .ok (.getfield 1, 3) := dk_180 0 1 (dk_at dksX10_isAt_0 5 rfl rfl)
theorem dX10_isAt_8 : decode cX10_isAt 8 = .ok (.getfield 17, 3) := dk_180 0 17 (dk_at dksX10_isAt_0 8 rfl rfl)
theorem dX10_isAt_11 : decode cX10_isAt 11 = .ok (.invokevirtual 23, 3) := dk_182 0 23 (dk_at dksX10_isAt_0 11 rfl rfl)
theorem dX10_isAt_14 : decode cX10_isAt 14 = .ok (.if_icmp .ge 29, 3) := dk_162 0 29 (dk_at dksX10_isAt_0 14 rfl rfl)
theorem dX10_isAt_17 : decode cX10_isAt 17 = .ok (.aload_n 0, 1) := dk_42 (dk_at dksX10_isAt_0 17 rfl rfl)
theorem dX10_isAt_18 : decode cX10_isAt 18 = .ok (.getfield 1, 3) := dk_180 0 1 (dk_at dksX10_isAt_0 18 rfl rfl)
theorem dX10_isAt_21 : decode cX10_isAt 21 = .ok (.getfield 17, 3) := dk_180 0 17 (dk_at dksX10_isAt_0 21 rfl rfl)
theorem dX10_isAt_24 : decode cX10_isAt 24 = .ok (.aload_n 0, 1) := dk_42 (dk_at dksX10_isAt_1 0 rfl rfl)
theorem dX10_isAt_25 : decode cX10_isAt 25 = .ok (.getfield 13, 3) := dk_180 0 13 (dk_at dksX10_isAt_1 1 rfl rfl)
theorem dX10_isAt_28 : decode cX10_isAt 28 = .ok (.invokevirtual 29, 3) := dk_182 0 29 (dk_at dksX10_isAt_1 4 rfl rfl)
theorem dX10_isAt_31 : decode cX10_isAt 31 = .ok (.iload_n 1, 1) := dk_27 (dk_at dksX10_isAt_1 7 rfl rfl)
theorem dX10_isAt_32 : decode cX10_isAt 32 = .ok (.iload_n 2, 1) := dk_28 (dk_at dksX10_isAt_1 8 rfl rfl)
theorem dX10_isAt_33 : decode cX10_isAt 33 = .ok (.invokestatic 33, 3) := dk_184 0 33 (dk_at dksX10_isAt_1 9 rfl rfl)
theorem dX10_isAt_36 : decode cX10_isAt 36 = .ok (.ifCond .eq 7, 3) := dk_153 0 7 (dk_at dksX10_isAt_1 12 rfl rfl)
theorem dX10_isAt_39 : decode cX10_isAt 39 = .ok (.iconst 1, 1) := dk_4 (dk_at dksX10_isAt_1 15 rfl rfl)
theorem dX10_isAt_40 : decode cX10_isAt 40 = .ok (.goto 4, 3) := dk_167 0 4 (dk_at dksX10_isAt_1 16 rfl rfl)
theorem dX10_isAt_43 : decode cX10_isAt 43 = .ok (.iconst 0, 1) := dk_3 (dk_at dksX10_isAt_1 19 rfl rfl)
theorem dX10_isAt_44 : decode cX10_isAt 44 = .ok (.ireturn, 1) := dk_172 (dk_at dksX10_isAt_1 20 rfl rfl)
abbrev cX10_number : ByteArray := prog_19_method_4_code
def yX10_number : MethodName := ⟨RX10, "number", "()I"⟩
def dkwX10_number_1 : List UInt8 := [16, 10, 27, 104, 42, 16, 48, 16, 57, 182, 0, 46, 96, 16, 48, 100, 167, 0, 4, 27, 172]
abbrev dktX10_number_1 : List UInt8 := dkwX10_number_1 ++ []
def dkwX10_number_0 : List UInt8 := [42, 16, 48, 16, 57, 182, 0, 46, 16, 48, 100, 60, 42, 16, 48, 16, 57, 182, 0, 37, 153, 0, 22]
abbrev dktX10_number_0 : List UInt8 := dkwX10_number_0 ++ dktX10_number_1
theorem dksX10_number_0 : cX10_number.data.toList.drop 0 = dktX10_number_0 := by decide +kernel
theorem dksX10_number_1 : cX10_number.data.toList.drop 23 = dktX10_number_1 := dk_seg dksX10_number_0 23 rfl rfl
theorem dX10_number_0 : decode cX10_number 0 = .ok (.aload_n 0, 1) := dk_42 (dk_at dksX10_number_0 0 rfl rfl)
theorem dX10_number_1 : decode cX10_number 1 = .ok (.bipush 48, 2) := dk_16 48 (dk_at dksX10_number_0 1 rfl rfl)
theorem dX10_number_3 : decode cX10_number 3 = .ok (.bipush 57, 2) := dk_16 57 (dk_at dksX10_number_0 3 rfl rfl)
theorem dX10_number_5 : decode cX10_number 5 = .ok (.invokevirtual 46, 3) := dk_182 0 46 (dk_at dksX10_number_0 5 rfl rfl)
theorem dX10_number_8 : decode cX10_number 8 = .ok (.bipush 48, 2) := dk_16 48 (dk_at dksX10_number_0 8 rfl rfl)
theorem dX10_number_10 : decode cX10_number 10 = .ok (.isub, 1) := dk_100 (dk_at dksX10_number_0 10 rfl rfl)
theorem dX10_number_11 : decode cX10_number 11 = .ok (.istore_n 1, 1) := dk_60 (dk_at dksX10_number_0 11 rfl rfl)
theorem dX10_number_12 : decode cX10_number 12 = .ok (.aload_n 0, 1) := dk_42 (dk_at dksX10_number_0 12 rfl rfl)
theorem dX10_number_13 : decode cX10_number 13 = .ok (.bipush 48, 2) := dk_16 48 (dk_at dksX10_number_0 13 rfl rfl)
theorem dX10_number_15 : decode cX10_number 15 = .ok (.bipush 57, 2) := dk_16 57 (dk_at dksX10_number_0 15 rfl rfl)
theorem dX10_number_17 : decode cX10_number 17 = .ok (.invokevirtual 37, 3) := dk_182 0 37 (dk_at dksX10_number_0 17 rfl rfl)
theorem dX10_number_20 : decode cX10_number 20 = .ok (.ifCond .eq 22, 3) := dk_153 0 22 (dk_at dksX10_number_0 20 rfl rfl)
theorem dX10_number_23 : decode cX10_number 23 = .ok (.bipush 10, 2) := dk_16 10 (dk_at dksX10_number_1 0 rfl rfl)
theorem dX10_number_25 : decode cX10_number 25 = .ok (.iload_n 1, 1) := dk_27 (dk_at dksX10_number_1 2 rfl rfl)
theorem dX10_number_26 : decode cX10_number 26 = .ok (.imul, 1) := dk_104 (dk_at dksX10_number_1 3 rfl rfl)
theorem dX10_number_27 : decode cX10_number 27 = .ok (.aload_n 0, 1) := dk_42 (dk_at dksX10_number_1 4 rfl rfl)
theorem dX10_number_28 : decode cX10_number 28 = .ok (.bipush 48, 2) := dk_16 48 (dk_at dksX10_number_1 5 rfl rfl)
theorem dX10_number_30 : decode cX10_number 30 = .ok (.bipush 57, 2) := dk_16 57 (dk_at dksX10_number_1 7 rfl rfl)
theorem dX10_number_32 : decode cX10_number 32 = .ok (.invokevirtual 46, 3) := dk_182 0 46 (dk_at dksX10_number_1 9 rfl rfl)
theorem dX10_number_35 : decode cX10_number 35 = .ok (.iadd, 1) := dk_96 (dk_at dksX10_number_1 12 rfl rfl)
theorem dX10_number_36 : decode cX10_number 36 = .ok (.bipush 48, 2) := dk_16 48 (dk_at dksX10_number_1 13 rfl rfl)
theorem dX10_number_38 : decode cX10_number 38 = .ok (.isub, 1) := dk_100 (dk_at dksX10_number_1 15 rfl rfl)
theorem dX10_number_39 : decode cX10_number 39 = .ok (.goto 4, 3) := dk_167 0 4 (dk_at dksX10_number_1 16 rfl rfl)
theorem dX10_number_42 : decode cX10_number 42 = .ok (.iload_n 1, 1) := dk_27 (dk_at dksX10_number_1 19 rfl rfl)
theorem dX10_number_43 : decode cX10_number 43 = .ok (.ireturn, 1) := dk_172 (dk_at dksX10_number_1 20 rfl rfl)
abbrev cX10_digging : ByteArray := prog_19_method_5_code
def yX10_digging : MethodName := ⟨RX10, "digging", "()LFlintMine$Command;"⟩
def dkwX10_digging_3 : List UInt8 := [153, 0, 7, 4, 167, 0, 4, 3, 79, 183, 0, 61, 176]
abbrev dktX10_digging_3 : List UInt8 := dkwX10_digging_3 ++ []
def dkwX10_digging_2 : List UInt8 := [187, 0, 53, 89, 178, 0, 55, 6, 188, 10, 89, 3, 27, 79, 89, 4, 29, 79, 89, 5, 21, 4]
abbrev dktX10_digging_2 : List UInt8 := dkwX10_digging_2 ++ dktX10_digging_3
def dkwX10_digging_1 : List UInt8 := [182, 0, 37, 54, 4, 42, 89, 180, 0, 13, 21, 4, 153, 0, 7, 4, 167, 0, 4, 3, 96, 181, 0, 13]
abbrev dktX10_digging_1 : List UInt8 := dkwX10_digging_1 ++ dktX10_digging_2
def dkwX10_digging_0 : List UInt8 := [42, 182, 0, 50, 60, 42, 16, 44, 16, 44, 182, 0, 46, 61, 42, 182, 0, 50, 62, 42, 16, 112, 16, 112]
abbrev dktX10_digging_0 : List UInt8 := dkwX10_digging_0 ++ dktX10_digging_1
theorem dksX10_digging_0 : cX10_digging.data.toList.drop 0 = dktX10_digging_0 := by decide +kernel
theorem dksX10_digging_1 : cX10_digging.data.toList.drop 24 = dktX10_digging_1 := dk_seg dksX10_digging_0 24 rfl rfl
theorem dksX10_digging_2 : cX10_digging.data.toList.drop 48 = dktX10_digging_2 := dk_seg dksX10_digging_1 24 rfl rfl
theorem dksX10_digging_3 : cX10_digging.data.toList.drop 70 = dktX10_digging_3 := dk_seg dksX10_digging_2 22 rfl rfl
theorem dX10_digging_0 : decode cX10_digging 0 = .ok (.aload_n 0, 1) := dk_42 (dk_at dksX10_digging_0 0 rfl rfl)
theorem dX10_digging_1 : decode cX10_digging 1 = .ok (.invokevirtual 50, 3) := dk_182 0 50 (dk_at dksX10_digging_0 1 rfl rfl)
theorem dX10_digging_4 : decode cX10_digging 4 = .ok (.istore_n 1, 1) := dk_60 (dk_at dksX10_digging_0 4 rfl rfl)
theorem dX10_digging_5 : decode cX10_digging 5 = .ok (.aload_n 0, 1) := dk_42 (dk_at dksX10_digging_0 5 rfl rfl)
theorem dX10_digging_6 : decode cX10_digging 6 = .ok (.bipush 44, 2) := dk_16 44 (dk_at dksX10_digging_0 6 rfl rfl)
theorem dX10_digging_8 : decode cX10_digging 8 = .ok (.bipush 44, 2) := dk_16 44 (dk_at dksX10_digging_0 8 rfl rfl)
theorem dX10_digging_10 : decode cX10_digging 10 = .ok (.invokevirtual 46, 3) := dk_182 0 46 (dk_at dksX10_digging_0 10 rfl rfl)
theorem dX10_digging_13 : decode cX10_digging 13 = .ok (.istore_n 2, 1) := dk_61 (dk_at dksX10_digging_0 13 rfl rfl)
theorem dX10_digging_14 : decode cX10_digging 14 = .ok (.aload_n 0, 1) := dk_42 (dk_at dksX10_digging_0 14 rfl rfl)
theorem dX10_digging_15 : decode cX10_digging 15 = .ok (.invokevirtual 50, 3) := dk_182 0 50 (dk_at dksX10_digging_0 15 rfl rfl)
theorem dX10_digging_18 : decode cX10_digging 18 = .ok (.istore_n 3, 1) := dk_62 (dk_at dksX10_digging_0 18 rfl rfl)
theorem dX10_digging_19 : decode cX10_digging 19 = .ok (.aload_n 0, 1) := dk_42 (dk_at dksX10_digging_0 19 rfl rfl)
theorem dX10_digging_20 : decode cX10_digging 20 = .ok (.bipush 112, 2) := dk_16 112 (dk_at dksX10_digging_0 20 rfl rfl)
theorem dX10_digging_22 : decode cX10_digging 22 = .ok (.bipush 112, 2) := dk_16 112 (dk_at dksX10_digging_0 22 rfl rfl)
theorem dX10_digging_24 : decode cX10_digging 24 = .ok (.invokevirtual 37, 3) := dk_182 0 37 (dk_at dksX10_digging_1 0 rfl rfl)
theorem dX10_digging_27 : decode cX10_digging 27 = .ok (.istore 4, 2) := dk_54 4 (dk_at dksX10_digging_1 3 rfl rfl)
theorem dX10_digging_29 : decode cX10_digging 29 = .ok (.aload_n 0, 1) := dk_42 (dk_at dksX10_digging_1 5 rfl rfl)
theorem dX10_digging_30 : decode cX10_digging 30 = .ok (.dup, 1) := dk_89 (dk_at dksX10_digging_1 6 rfl rfl)
theorem dX10_digging_31 : decode cX10_digging 31 = .ok (.getfield 13, 3) := dk_180 0 13 (dk_at dksX10_digging_1 7 rfl rfl)
theorem dX10_digging_34 : decode cX10_digging 34 = .ok (.iload 4, 2) := dk_21 4 (dk_at dksX10_digging_1 10 rfl rfl)
theorem dX10_digging_36 : decode cX10_digging 36 = .ok (.ifCond .eq 7, 3) := dk_153 0 7 (dk_at dksX10_digging_1 12 rfl rfl)
theorem dX10_digging_39 : decode cX10_digging 39 = .ok (.iconst 1, 1) := dk_4 (dk_at dksX10_digging_1 15 rfl rfl)
theorem dX10_digging_40 : decode cX10_digging 40 = .ok (.goto 4, 3) := dk_167 0 4 (dk_at dksX10_digging_1 16 rfl rfl)
theorem dX10_digging_43 : decode cX10_digging 43 = .ok (.iconst 0, 1) := dk_3 (dk_at dksX10_digging_1 19 rfl rfl)
theorem dX10_digging_44 : decode cX10_digging 44 = .ok (.iadd, 1) := dk_96 (dk_at dksX10_digging_1 20 rfl rfl)
theorem dX10_digging_45 : decode cX10_digging 45 = .ok (.putfield 13, 3) := dk_181 0 13 (dk_at dksX10_digging_1 21 rfl rfl)
theorem dX10_digging_48 : decode cX10_digging 48 = .ok (.new 53, 3) := dk_187 0 53 (dk_at dksX10_digging_2 0 rfl rfl)
theorem dX10_digging_51 : decode cX10_digging 51 = .ok (.dup, 1) := dk_89 (dk_at dksX10_digging_2 3 rfl rfl)
theorem dX10_digging_52 : decode cX10_digging 52 = .ok (.getstatic 55, 3) := dk_178 0 55 (dk_at dksX10_digging_2 4 rfl rfl)
theorem dX10_digging_55 : decode cX10_digging 55 = .ok (.iconst 3, 1) := dk_6 (dk_at dksX10_digging_2 7 rfl rfl)
theorem dX10_digging_56 : decode cX10_digging 56 = .ok (.newarray .int, 2) := dk_188_10 (dk_at dksX10_digging_2 8 rfl rfl)
theorem dX10_digging_58 : decode cX10_digging 58 = .ok (.dup, 1) := dk_89 (dk_at dksX10_digging_2 10 rfl rfl)
theorem dX10_digging_59 : decode cX10_digging 59 = .ok (.iconst 0, 1) := dk_3 (dk_at dksX10_digging_2 11 rfl rfl)
theorem dX10_digging_60 : decode cX10_digging 60 = .ok (.iload_n 1, 1) := dk_27 (dk_at dksX10_digging_2 12 rfl rfl)
theorem dX10_digging_61 : decode cX10_digging 61 = .ok (.iastore, 1) := dk_79 (dk_at dksX10_digging_2 13 rfl rfl)
theorem dX10_digging_62 : decode cX10_digging 62 = .ok (.dup, 1) := dk_89 (dk_at dksX10_digging_2 14 rfl rfl)
theorem dX10_digging_63 : decode cX10_digging 63 = .ok (.iconst 1, 1) := dk_4 (dk_at dksX10_digging_2 15 rfl rfl)
theorem dX10_digging_64 : decode cX10_digging 64 = .ok (.iload_n 3, 1) := dk_29 (dk_at dksX10_digging_2 16 rfl rfl)
theorem dX10_digging_65 : decode cX10_digging 65 = .ok (.iastore, 1) := dk_79 (dk_at dksX10_digging_2 17 rfl rfl)
theorem dX10_digging_66 : decode cX10_digging 66 = .ok (.dup, 1) := dk_89 (dk_at dksX10_digging_2 18 rfl rfl)
theorem dX10_digging_67 : decode cX10_digging 67 = .ok (.iconst 2, 1) := dk_5 (dk_at dksX10_digging_2 19 rfl rfl)
theorem dX10_digging_68 : decode cX10_digging 68 = .ok (.iload 4, 2) := dk_21 4 (dk_at dksX10_digging_2 20 rfl rfl)
theorem dX10_digging_70 : decode cX10_digging 70 = .ok (.ifCond .eq 7, 3) := dk_153 0 7 (dk_at dksX10_digging_3 0 rfl rfl)
theorem dX10_digging_73 : decode cX10_digging 73 = .ok (.iconst 1, 1) := dk_4 (dk_at dksX10_digging_3 3 rfl rfl)
theorem dX10_digging_74 : decode cX10_digging 74 = .ok (.goto 4, 3) := dk_167 0 4 (dk_at dksX10_digging_3 4 rfl rfl)
theorem dX10_digging_77 : decode cX10_digging 77 = .ok (.iconst 0, 1) := dk_3 (dk_at dksX10_digging_3 7 rfl rfl)
theorem dX10_digging_78 : decode cX10_digging 78 = .ok (.iastore, 1) := dk_79 (dk_at dksX10_digging_3 8 rfl rfl)
theorem dX10_digging_79 : decode cX10_digging 79 = .ok (.invokespecial 61, 3) := dk_183 0 61 (dk_at dksX10_digging_3 9 rfl rfl)
theorem dX10_digging_82 : decode cX10_digging 82 = .ok (.areturn, 1) := dk_176 (dk_at dksX10_digging_3 12 rfl rfl)
theorem q118 : (Jvm.Cond.initialized "FlintMine$Parser") ∈ lw_all := lw_g (lw_at lw_m1 41 rfl) rfl
theorem q274 : (Jvm.Cond.fieldLinkNest "FlintMine$Parser" (17 : Nat) "FlintMine" "input" "Ljava/lang/StringBuilder;" "FlintMine") ∈ lw_tbl := lw_at lw_m1 197 rfl
theorem q543 : (Jvm.Cond.selects "FlintMine$Parser" ({ cls := "java/lang/Object", name := "getClass", desc := "()Ljava/lang/Class;" } : Jvm.MethodName) ({ cls := "java/lang/Object", name := "getClass", desc := "()Ljava/lang/Class;" } : Jvm.MethodName)) ∈ lw_all := lw_g (lw_at lw_m2 226 rfl) rfl
theorem q1483 : (Jvm.Cond.instantiable "FlintMine$Parser" (2 : Nat)) ∈ lw_all := lw_g (lw_at lw_m6 206 rfl) rfl
theorem q1485 : (Jvm.Cond.instanceMethod ({ cls := "FlintMine$Parser", name := "<init>", desc := "(LFlintMine;)V" } : Jvm.MethodName)) ∈ lw_all := lw_g (lw_at lw_m6 208 rfl) rfl
theorem q1486 : (Jvm.Cond.code ({ cls := "FlintMine$Parser", name := "<init>", desc := "(LFlintMine;)V" } : Jvm.MethodName) prog_19_method_1_code (2 : Nat) (Option.none : Option Jvm.ClassFile.FieldType)) ∈ lw_all := lw_g (lw_at lw_m6 209 rfl) rfl
theorem q1487 : (Jvm.Cond.methodLink "FlintMine$Parser" (7 : Nat) ({ cls := "java/lang/Object", name := "<init>", desc := "()V" } : Jvm.MethodName)) ∈ lw_all := lw_g (lw_at lw_m6 210 rfl) rfl
theorem q1488 : (Jvm.Cond.fieldLink "FlintMine$Parser" (13 : Nat) "FlintMine$Parser" "position" "I") ∈ lw_all := lw_g (lw_at lw_m6 211 rfl) rfl
theorem q1489 : (Jvm.Cond.fieldLink "FlintMine$Parser" (1 : Nat) "FlintMine$Parser" "this$0" "LFlintMine;") ∈ lw_all := lw_g (lw_at lw_m6 212 rfl) rfl
theorem q1490 : (Jvm.Cond.lays "FlintMine$Parser" "FlintMine$Parser" "position" "I") ∈ lw_all := lw_g (lw_at lw_m6 213 rfl) rfl
theorem q1491 : (Jvm.Cond.soleField "FlintMine$Parser" "position") ∈ lw_all := lw_g (lw_at lw_m6 214 rfl) rfl
theorem q1492 : (Jvm.Cond.laysFinal "FlintMine$Parser" "FlintMine$Parser" "this$0" "LFlintMine;") ∈ lw_all := lw_g (lw_at lw_m6 215 rfl) rfl
theorem q1493 : (Jvm.Cond.soleField "FlintMine$Parser" "this$0") ∈ lw_all := lw_g (lw_at lw_m6 216 rfl) rfl
theorem q1494 : (Jvm.Cond.superclass "FlintMine$Parser" "java/lang/Object") ∈ lw_all := lw_g (lw_at lw_m6 217 rfl) rfl
theorem q1496 : (Jvm.Cond.instanceMethod ({ cls := "FlintMine$Parser", name := "text", desc := "()Ljava/util/List;" } : Jvm.MethodName)) ∈ lw_all := lw_g (lw_at lw_m6 219 rfl) rfl
theorem q1497 : (Jvm.Cond.selects "FlintMine$Parser" ({ cls := "FlintMine$Parser", name := "text", desc := "()Ljava/util/List;" } : Jvm.MethodName) ({ cls := "FlintMine$Parser", name := "text", desc := "()Ljava/util/List;" } : Jvm.MethodName)) ∈ lw_all := lw_g (lw_at lw_m6 220 rfl) rfl
theorem q1498 : (Jvm.Cond.code ({ cls := "FlintMine$Parser", name := "text", desc := "()Ljava/util/List;" } : Jvm.MethodName) prog_19_method_8_code (3 : Nat) (Option.some (Jvm.ClassFile.FieldType.object "java/util/List"))) ∈ lw_all := lw_g (lw_at lw_m6 221 rfl) rfl
theorem q1499 : (Jvm.Cond.classLink "FlintMine$Parser" (98 : Nat) "java/util/ArrayList") ∈ lw_all := lw_g (lw_at lw_m6 222 rfl) rfl
theorem q1500 : (Jvm.Cond.methodLink "FlintMine$Parser" (100 : Nat) ({ cls := "java/util/ArrayList", name := "<init>", desc := "()V" } : Jvm.MethodName)) ∈ lw_all := lw_g (lw_at lw_m6 223 rfl) rfl
theorem q1501 : (Jvm.Cond.methodLink "FlintMine$Parser" (101 : Nat) ({ cls := "FlintMine$Parser", name := "command", desc := "()LFlintMine$Command;" } : Jvm.MethodName)) ∈ lw_all := lw_g (lw_at lw_m6 224 rfl) rfl
theorem q1502 : (Jvm.Cond.privateMethod ({ cls := "FlintMine$Parser", name := "command", desc := "()LFlintMine$Command;" } : Jvm.MethodName)) ∈ lw_tbl := lw_at lw_m6 225 rfl
theorem q1503 : (Jvm.Cond.instanceMethod ({ cls := "FlintMine$Parser", name := "command", desc := "()LFlintMine$Command;" } : Jvm.MethodName)) ∈ lw_all := lw_g (lw_at lw_m6 226 rfl) rfl
theorem q1504 : (Jvm.Cond.code ({ cls := "FlintMine$Parser", name := "command", desc := "()LFlintMine$Command;" } : Jvm.MethodName) prog_19_method_7_code (1 : Nat) (Option.some (Jvm.ClassFile.FieldType.object "FlintMine$Command"))) ∈ lw_all := lw_g (lw_at lw_m6 227 rfl) rfl
theorem q1505 : (Jvm.Cond.methodLink "FlintMine$Parser" (72 : Nat) ({ cls := "FlintMine$Parser", name := "letter", desc := "()C" } : Jvm.MethodName)) ∈ lw_all := lw_g (lw_at lw_m6 228 rfl) rfl
theorem q1506 : (Jvm.Cond.privateMethod ({ cls := "FlintMine$Parser", name := "letter", desc := "()C" } : Jvm.MethodName)) ∈ lw_tbl := lw_at lw_m6 229 rfl
theorem q1507 : (Jvm.Cond.instanceMethod ({ cls := "FlintMine$Parser", name := "letter", desc := "()C" } : Jvm.MethodName)) ∈ lw_all := lw_g (lw_at lw_m6 230 rfl) rfl
theorem q1508 : (Jvm.Cond.code ({ cls := "FlintMine$Parser", name := "letter", desc := "()C" } : Jvm.MethodName) prog_19_method_6_code (3 : Nat) (Option.some Jvm.ClassFile.FieldType.char)) ∈ lw_all := lw_g (lw_at lw_m6 231 rfl) rfl
theorem q1509 : (Jvm.Cond.stringRef "FlintMine$Parser" (64 : Nat) "sdpuctn") ∈ lw_tbl := lw_at lw_m6 232 rfl
theorem q1510 : (Jvm.Cond.methodLink "FlintMine$Parser" (23 : Nat) ({ cls := "java/lang/StringBuilder", name := "length", desc := "()I" } : Jvm.MethodName)) ∈ lw_all := lw_g (lw_at lw_m6 233 rfl) rfl
theorem q1511 : (Jvm.Cond.methodLink "FlintMine$Parser" (29 : Nat) ({ cls := "java/lang/StringBuilder", name := "charAt", desc := "(I)C" } : Jvm.MethodName)) ∈ lw_all := lw_g (lw_at lw_m6 234 rfl) rfl
theorem q1523 : (Jvm.Cond.methodLink "FlintMine$Parser" (66 : Nat) ({ cls := "java/lang/String", name := "indexOf", desc := "(I)I" } : Jvm.MethodName)) ∈ lw_all := lw_g (lw_at lw_m7 6 rfl) rfl
theorem q1591 : (Jvm.Cond.methodLink "FlintMine$Parser" (46 : Nat) ({ cls := "FlintMine$Parser", name := "take", desc := "(CC)C" } : Jvm.MethodName)) ∈ lw_all := lw_g (lw_at lw_m7 74 rfl) rfl
theorem q1592 : (Jvm.Cond.privateMethod ({ cls := "FlintMine$Parser", name := "take", desc := "(CC)C" } : Jvm.MethodName)) ∈ lw_tbl := lw_at lw_m7 75 rfl
theorem q1593 : (Jvm.Cond.instanceMethod ({ cls := "FlintMine$Parser", name := "take", desc := "(CC)C" } : Jvm.MethodName)) ∈ lw_all := lw_g (lw_at lw_m7 76 rfl) rfl
theorem q1594 : (Jvm.Cond.code ({ cls := "FlintMine$Parser", name := "take", desc := "(CC)C" } : Jvm.MethodName) prog_19_method_3_code (3 : Nat) (Option.some Jvm.ClassFile.FieldType.char)) ∈ lw_all := lw_g (lw_at lw_m7 77 rfl) rfl
theorem q1595 : (Jvm.Cond.methodLink "FlintMine$Parser" (37 : Nat) ({ cls := "FlintMine$Parser", name := "isAt", desc := "(CC)Z" } : Jvm.MethodName)) ∈ lw_all := lw_g (lw_at lw_m7 78 rfl) rfl
theorem q1596 : (Jvm.Cond.privateMethod ({ cls := "FlintMine$Parser", name := "isAt", desc := "(CC)Z" } : Jvm.MethodName)) ∈ lw_tbl := lw_at lw_m7 79 rfl
theorem q1597 : (Jvm.Cond.instanceMethod ({ cls := "FlintMine$Parser", name := "isAt", desc := "(CC)Z" } : Jvm.MethodName)) ∈ lw_all := lw_g (lw_at lw_m7 80 rfl) rfl
theorem q1598 : (Jvm.Cond.code ({ cls := "FlintMine$Parser", name := "isAt", desc := "(CC)Z" } : Jvm.MethodName) prog_19_method_2_code (3 : Nat) (Option.some Jvm.ClassFile.FieldType.boolean)) ∈ lw_all := lw_g (lw_at lw_m7 81 rfl) rfl
theorem q1599 : (Jvm.Cond.methodLinkNest "FlintMine$Parser" (33 : Nat) ({ cls := "FlintMine", name := "inRange", desc := "(III)Z" } : Jvm.MethodName) "FlintMine") ∈ lw_tbl := lw_at lw_m7 82 rfl
theorem q1600 : (Jvm.Cond.classLink "FlintMine$Parser" (41 : Nat) "FlintMine$FaultException") ∈ lw_all := lw_g (lw_at lw_m7 83 rfl) rfl
theorem q1609 : (Jvm.Cond.methodLink "FlintMine$Parser" (43 : Nat) ({ cls := "FlintMine$FaultException", name := "<init>", desc := "(I)V" } : Jvm.MethodName)) ∈ lw_all := lw_g (lw_at lw_m7 92 rfl) rfl
theorem q1619 : (Jvm.Cond.classLink "FlintMine$Parser" (53 : Nat) "FlintMine$Command") ∈ lw_all := lw_g (lw_at lw_m7 102 rfl) rfl
theorem q1621 : (Jvm.Cond.fieldLink "FlintMine$Parser" (76 : Nat) "FlintMine$Act" "SINK" "LFlintMine$Act;") ∈ lw_all := lw_g (lw_at lw_m7 104 rfl) rfl
theorem q1622 : (Jvm.Cond.methodLink "FlintMine$Parser" (50 : Nat) ({ cls := "FlintMine$Parser", name := "number", desc := "()I" } : Jvm.MethodName)) ∈ lw_all := lw_g (lw_at lw_m7 105 rfl) rfl
theorem q1623 : (Jvm.Cond.privateMethod ({ cls := "FlintMine$Parser", name := "number", desc := "()I" } : Jvm.MethodName)) ∈ lw_tbl := lw_at lw_m7 106 rfl
theorem q1624 : (Jvm.Cond.instanceMethod ({ cls := "FlintMine$Parser", name := "number", desc := "()I" } : Jvm.MethodName)) ∈ lw_all := lw_g (lw_at lw_m7 107 rfl) rfl
theorem q1625 : (Jvm.Cond.code ({ cls := "FlintMine$Parser", name := "number", desc := "()I" } : Jvm.MethodName) prog_19_method_4_code (2 : Nat) (Option.some Jvm.ClassFile.FieldType.int)) ∈ lw_all := lw_g (lw_at lw_m7 108 rfl) rfl
theorem q1626 : (Jvm.Cond.methodLink "FlintMine$Parser" (61 : Nat) ({ cls := "FlintMine$Command", name := "<init>", desc := "(LFlintMine$Act;[I)V" } : Jvm.MethodName)) ∈ lw_all := lw_g (lw_at lw_m7 109 rfl) rfl
theorem q1637 : (Jvm.Cond.methodLink "FlintMine$Parser" (79 : Nat) ({ cls := "FlintMine$Parser", name := "digging", desc := "()LFlintMine$Command;" } : Jvm.MethodName)) ∈ lw_all := lw_g (lw_at lw_m7 120 rfl) rfl
theorem q1638 : (Jvm.Cond.privateMethod ({ cls := "FlintMine$Parser", name := "digging", desc := "()LFlintMine$Command;" } : Jvm.MethodName)) ∈ lw_tbl := lw_at lw_m7 121 rfl
theorem q1639 : (Jvm.Cond.instanceMethod ({ cls := "FlintMine$Parser", name := "digging", desc := "()LFlintMine$Command;" } : Jvm.MethodName)) ∈ lw_all := lw_g (lw_at lw_m7 122 rfl) rfl
theorem q1640 : (Jvm.Cond.code ({ cls := "FlintMine$Parser", name := "digging", desc := "()LFlintMine$Command;" } : Jvm.MethodName) prog_19_method_5_code (5 : Nat) (Option.some (Jvm.ClassFile.FieldType.object "FlintMine$Command"))) ∈ lw_all := lw_g (lw_at lw_m7 123 rfl) rfl
theorem q1641 : (Jvm.Cond.fieldLink "FlintMine$Parser" (55 : Nat) "FlintMine$Act" "DIG" "LFlintMine$Act;") ∈ lw_all := lw_g (lw_at lw_m7 124 rfl) rfl
theorem q1642 : (Jvm.Cond.fieldLink "FlintMine$Parser" (83 : Nat) "FlintMine$Act" "PROP" "LFlintMine$Act;") ∈ lw_all := lw_g (lw_at lw_m7 125 rfl) rfl
theorem q1643 : (Jvm.Cond.fieldLink "FlintMine$Parser" (86 : Nat) "FlintMine$Act" "UNPROP" "LFlintMine$Act;") ∈ lw_all := lw_g (lw_at lw_m7 126 rfl) rfl
theorem q1644 : (Jvm.Cond.fieldLink "FlintMine$Parser" (89 : Nat) "FlintMine$Act" "CLOSE" "LFlintMine$Act;") ∈ lw_all := lw_g (lw_at lw_m7 127 rfl) rfl
theorem q1645 : (Jvm.Cond.fieldLink "FlintMine$Parser" (92 : Nat) "FlintMine$Act" "PICK" "LFlintMine$Act;") ∈ lw_all := lw_g (lw_at lw_m7 128 rfl) rfl
theorem q1646 : (Jvm.Cond.fieldLink "FlintMine$Parser" (95 : Nat) "FlintMine$Act" "PROPS" "LFlintMine$Act;") ∈ lw_all := lw_g (lw_at lw_m7 129 rfl) rfl
theorem q1647 : (Jvm.Cond.interfaceEntry "FlintMine$Parser" (104 : Nat)) ∈ lw_tbl := lw_at lw_m7 130 rfl
theorem q1648 : (Jvm.Cond.methodLink "FlintMine$Parser" (104 : Nat) ({ cls := "java/util/List", name := "add", desc := "(Ljava/lang/Object;)Z" } : Jvm.MethodName)) ∈ lw_all := lw_g (lw_at lw_m7 131 rfl) rfl
theorem q2319 : (Jvm.Cond.castable "FlintMine$Parser" "java/lang/Object") ∈ lw_tbl := lw_at lw_m10 82 rfl
theorem in_X10 : ∀ w ∈ wsX100, w ∈ lw_all := lw_in wsX100 [1490, 1492] (by decide +kernel) (by decide +kernel)
/-! FlintMine$FaultException -/
set_option maxRecDepth 100000
def RX11 : String := "FlintMine$FaultException"
def TX11 : u_T := fun k => match k with
  | 0 => ("java/lang/Throwable", "cause", "Ljava/lang/Throwable;", false)
  | 1 => ("java/lang/Throwable", "stackTrace", "[Ljava/lang/StackTraceElement;", false)
  | 2 => ("java/lang/Throwable", "suppressedExceptions", "Ljava/util/List;", false)
  | 3 => ("java/lang/Throwable", "detailMessage", "Ljava/lang/String;", false)
  | 4 => ("java/lang/Throwable", "backtrace", "Ljava/lang/Object;", false)
  | 5 => ("java/lang/Throwable", "depth", "I", false)
  | _ => ("FlintMine$FaultException", "position", "I", true)
def tyX11 : Nat → FieldType := fun k => match k with
  | 0 => .object "java/lang/Throwable"
  | 1 => .array (.object "java/lang/StackTraceElement")
  | 2 => .object "java/util/List"
  | 3 => .object "java/lang/String"
  | 4 => .object "java/lang/Object"
  | 5 => .int
  | _ => .int
abbrev wsX110 : List Cond := u_ws RX11 TX11 7
theorem nmX11 : ∀ a, a < 7 → ∀ b, b < 7 → a ≠ b → (TX11 a).2.1 ≠ (TX11 b).2.1 := by decide +kernel
theorem tyX11_ok : ∀ k, k < 7 → parseFieldDescriptor (TX11 k).2.2.1 = some (tyX11 k) := by decide +kernel
abbrev cX11_init : ByteArray := prog_14_method_1_code
def yX11_init : MethodName := ⟨RX11, "<init>", "(I)V"⟩
def dkwX11_init_0 : List UInt8 := [42, 1, 1, 3, 3, 183, 0, 1, 42, 27, 181, 0, 7, 177]
abbrev dktX11_init_0 : List UInt8 := dkwX11_init_0 ++ []
theorem dksX11_init_0 : cX11_init.data.toList.drop 0 = dktX11_init_0 := by decide +kernel
theorem dX11_init_0 : decode cX11_init 0 = .ok (.aload_n 0, 1) := dk_42 (dk_at dksX11_init_0 0 rfl rfl)
theorem dX11_init_1 : decode cX11_init 1 = .ok (.aconst_null, 1) := dk_1 (dk_at dksX11_init_0 1 rfl rfl)
theorem dX11_init_2 : decode cX11_init 2 = .ok (.aconst_null, 1) := dk_1 (dk_at dksX11_init_0 2 rfl rfl)
theorem dX11_init_3 : decode cX11_init 3 = .ok (.iconst 0, 1) := dk_3 (dk_at dksX11_init_0 3 rfl rfl)
theorem dX11_init_4 : decode cX11_init 4 = .ok (.iconst 0, 1) := dk_3 (dk_at dksX11_init_0 4 rfl rfl)
theorem dX11_init_5 : decode cX11_init 5 = .ok (.invokespecial 1, 3) := dk_183 0 1 (dk_at dksX11_init_0 5 rfl rfl)
theorem dX11_init_8 : decode cX11_init 8 = .ok (.aload_n 0, 1) := dk_42 (dk_at dksX11_init_0 8 rfl rfl)
theorem dX11_init_9 : decode cX11_init 9 = .ok (.iload_n 1, 1) := dk_27 (dk_at dksX11_init_0 9 rfl rfl)
theorem dX11_init_10 : decode cX11_init 10 = .ok (.putfield 7, 3) := dk_181 0 7 (dk_at dksX11_init_0 10 rfl rfl)
theorem dX11_init_13 : decode cX11_init 13 = .ok (.return_, 1) := dk_177 (dk_at dksX11_init_0 13 rfl rfl)
theorem q120 : (Jvm.Cond.initialized "FlintMine$FaultException") ∈ lw_all := lw_g (lw_at lw_m1 43 rfl) rfl
theorem q453 : (Jvm.Cond.selects "FlintMine$FaultException" ({ cls := "java/lang/Throwable", name := "fillInStackTrace", desc := "()Ljava/lang/Throwable;" } : Jvm.MethodName) ({ cls := "java/lang/Throwable", name := "fillInStackTrace", desc := "()Ljava/lang/Throwable;" } : Jvm.MethodName)) ∈ lw_all := lw_g (lw_at lw_m2 136 rfl) rfl
theorem q539 : (Jvm.Cond.selects "FlintMine$FaultException" ({ cls := "java/lang/Object", name := "getClass", desc := "()Ljava/lang/Class;" } : Jvm.MethodName) ({ cls := "java/lang/Object", name := "getClass", desc := "()Ljava/lang/Class;" } : Jvm.MethodName)) ∈ lw_all := lw_g (lw_at lw_m2 222 rfl) rfl
theorem q1601 : (Jvm.Cond.instantiable "FlintMine$FaultException" (7 : Nat)) ∈ lw_all := lw_g (lw_at lw_m7 84 rfl) rfl
theorem q1602 : (Jvm.Cond.castable "FlintMine$FaultException" "FlintMine$FaultException") ∈ lw_tbl := lw_at lw_m7 85 rfl
theorem q1603 : (Jvm.Cond.selects "FlintMine$FaultException" ({ cls := "java/lang/Throwable", name := "fillInStackTrace", desc := "(I)Ljava/lang/Throwable;" } : Jvm.MethodName) ({ cls := "java/lang/Throwable", name := "fillInStackTrace", desc := "(I)Ljava/lang/Throwable;" } : Jvm.MethodName)) ∈ lw_all := lw_g (lw_at lw_m7 86 rfl) rfl
theorem q1604 : (Jvm.Cond.lays "FlintMine$FaultException" "java/lang/Throwable" "cause" "Ljava/lang/Throwable;") ∈ lw_all := lw_g (lw_at lw_m7 87 rfl) rfl
theorem q1605 : (Jvm.Cond.lays "FlintMine$FaultException" "java/lang/Throwable" "stackTrace" "[Ljava/lang/StackTraceElement;") ∈ lw_all := lw_g (lw_at lw_m7 88 rfl) rfl
theorem q1606 : (Jvm.Cond.lays "FlintMine$FaultException" "java/lang/Throwable" "suppressedExceptions" "Ljava/util/List;") ∈ lw_all := lw_g (lw_at lw_m7 89 rfl) rfl
theorem q1607 : (Jvm.Cond.lays "FlintMine$FaultException" "java/lang/Throwable" "detailMessage" "Ljava/lang/String;") ∈ lw_all := lw_g (lw_at lw_m7 90 rfl) rfl
theorem q1608 : (Jvm.Cond.lays "FlintMine$FaultException" "java/lang/Throwable" "backtrace" "Ljava/lang/Object;") ∈ lw_all := lw_g (lw_at lw_m7 91 rfl) rfl
theorem q1610 : (Jvm.Cond.instanceMethod ({ cls := "FlintMine$FaultException", name := "<init>", desc := "(I)V" } : Jvm.MethodName)) ∈ lw_all := lw_g (lw_at lw_m7 93 rfl) rfl
theorem q1611 : (Jvm.Cond.code ({ cls := "FlintMine$FaultException", name := "<init>", desc := "(I)V" } : Jvm.MethodName) prog_14_method_1_code (2 : Nat) (Option.none : Option Jvm.ClassFile.FieldType)) ∈ lw_all := lw_g (lw_at lw_m7 94 rfl) rfl
theorem q1612 : (Jvm.Cond.methodLink "FlintMine$FaultException" (1 : Nat) ({ cls := "java/lang/Exception", name := "<init>", desc := "(Ljava/lang/String;Ljava/lang/Throwable;ZZ)V" } : Jvm.MethodName)) ∈ lw_all := lw_g (lw_at lw_m7 95 rfl) rfl
theorem q1613 : (Jvm.Cond.fieldLink "FlintMine$FaultException" (7 : Nat) "FlintMine$FaultException" "position" "I") ∈ lw_all := lw_g (lw_at lw_m7 96 rfl) rfl
theorem q1615 : (Jvm.Cond.laysFinal "FlintMine$FaultException" "FlintMine$FaultException" "position" "I") ∈ lw_all := lw_g (lw_at lw_m7 98 rfl) rfl
theorem q1616 : (Jvm.Cond.soleField "FlintMine$FaultException" "position") ∈ lw_all := lw_g (lw_at lw_m7 99 rfl) rfl
theorem q1617 : (Jvm.Cond.lays "FlintMine$FaultException" "java/lang/Throwable" "depth" "I") ∈ lw_all := lw_g (lw_at lw_m7 100 rfl) rfl
theorem q1618 : (Jvm.Cond.superclass "FlintMine$FaultException" "java/lang/Exception") ∈ lw_all := lw_g (lw_at lw_m7 101 rfl) rfl
theorem q2320 : (Jvm.Cond.castable "FlintMine$FaultException" "java/lang/Object") ∈ lw_tbl := lw_at lw_m10 83 rfl
theorem in_X11 : ∀ w ∈ wsX110, w ∈ lw_all := lw_in wsX110 [1604, 1605, 1606, 1607, 1608, 1617, 1615] (by decide +kernel) (by decide +kernel)
/-! FlintMine$Command -/
set_option maxRecDepth 100000
def RX12 : String := "FlintMine$Command"
def TX12 : u_T := fun k => match k with
  | 0 => ("FlintMine$Command", "act", "LFlintMine$Act;", true)
  | _ => ("FlintMine$Command", "told", "[I", true)
def tyX12 : Nat → FieldType := fun k => match k with
  | 0 => .object "FlintMine$Act"
  | _ => .array .int
abbrev wsX120 : List Cond := u_ws RX12 TX12 2
theorem nmX12 : ∀ a, a < 2 → ∀ b, b < 2 → a ≠ b → (TX12 a).2.1 ≠ (TX12 b).2.1 := by decide +kernel
theorem tyX12_ok : ∀ k, k < 2 → parseFieldDescriptor (TX12 k).2.2.1 = some (tyX12 k) := by decide +kernel
abbrev cX12_init : ByteArray := prog_13_method_1_code
def yX12_init : MethodName := ⟨RX12, "<init>", "(LFlintMine$Act;[I)V"⟩
def dkwX12_init_0 : List UInt8 := [42, 183, 0, 1, 42, 43, 181, 0, 7, 42, 44, 181, 0, 13, 177]
abbrev dktX12_init_0 : List UInt8 := dkwX12_init_0 ++ []
theorem dksX12_init_0 : cX12_init.data.toList.drop 0 = dktX12_init_0 := by decide +kernel
theorem dX12_init_0 : decode cX12_init 0 = .ok (.aload_n 0, 1) := dk_42 (dk_at dksX12_init_0 0 rfl rfl)
theorem dX12_init_1 : decode cX12_init 1 = .ok (.invokespecial 1, 3) := dk_183 0 1 (dk_at dksX12_init_0 1 rfl rfl)
theorem dX12_init_4 : decode cX12_init 4 = .ok (.aload_n 0, 1) := dk_42 (dk_at dksX12_init_0 4 rfl rfl)
theorem dX12_init_5 : decode cX12_init 5 = .ok (.aload_n 1, 1) := dk_43 (dk_at dksX12_init_0 5 rfl rfl)
theorem dX12_init_6 : decode cX12_init 6 = .ok (.putfield 7, 3) := dk_181 0 7 (dk_at dksX12_init_0 6 rfl rfl)
theorem dX12_init_9 : decode cX12_init 9 = .ok (.aload_n 0, 1) := dk_42 (dk_at dksX12_init_0 9 rfl rfl)
theorem dX12_init_10 : decode cX12_init 10 = .ok (.aload_n 2, 1) := dk_44 (dk_at dksX12_init_0 10 rfl rfl)
theorem dX12_init_11 : decode cX12_init 11 = .ok (.putfield 13, 3) := dk_181 0 13 (dk_at dksX12_init_0 11 rfl rfl)
theorem dX12_init_14 : decode cX12_init 14 = .ok (.return_, 1) := dk_177 (dk_at dksX12_init_0 14 rfl rfl)
abbrev cX12_done : ByteArray := prog_13_method_2_code
def yX12_done : MethodName := ⟨RX12, "done", "(LFlintMine$Mine;)I"⟩
def dkwX12_done_0 : List UInt8 := [42, 180, 0, 7, 43, 42, 180, 0, 13, 182, 0, 17, 172]
abbrev dktX12_done_0 : List UInt8 := dkwX12_done_0 ++ []
theorem dksX12_done_0 : cX12_done.data.toList.drop 0 = dktX12_done_0 := by decide +kernel
theorem dX12_done_0 : decode cX12_done 0 = .ok (.aload_n 0, 1) := dk_42 (dk_at dksX12_done_0 0 rfl rfl)
theorem dX12_done_1 : decode cX12_done 1 = .ok (.getfield 7, 3) := dk_180 0 7 (dk_at dksX12_done_0 1 rfl rfl)
theorem dX12_done_4 : decode cX12_done 4 = .ok (.aload_n 1, 1) := dk_43 (dk_at dksX12_done_0 4 rfl rfl)
theorem dX12_done_5 : decode cX12_done 5 = .ok (.aload_n 0, 1) := dk_42 (dk_at dksX12_done_0 5 rfl rfl)
theorem dX12_done_6 : decode cX12_done 6 = .ok (.getfield 13, 3) := dk_180 0 13 (dk_at dksX12_done_0 6 rfl rfl)
theorem dX12_done_9 : decode cX12_done 9 = .ok (.invokevirtual 17, 3) := dk_182 0 17 (dk_at dksX12_done_0 9 rfl rfl)
theorem dX12_done_12 : decode cX12_done 12 = .ok (.ireturn, 1) := dk_172 (dk_at dksX12_done_0 12 rfl rfl)
theorem q121 : (Jvm.Cond.initialized "FlintMine$Command") ∈ lw_all := lw_g (lw_at lw_m1 44 rfl) rfl
theorem q538 : (Jvm.Cond.selects "FlintMine$Command" ({ cls := "java/lang/Object", name := "getClass", desc := "()Ljava/lang/Class;" } : Jvm.MethodName) ({ cls := "java/lang/Object", name := "getClass", desc := "()Ljava/lang/Class;" } : Jvm.MethodName)) ∈ lw_all := lw_g (lw_at lw_m2 221 rfl) rfl
theorem q1620 : (Jvm.Cond.instantiable "FlintMine$Command" (2 : Nat)) ∈ lw_all := lw_g (lw_at lw_m7 103 rfl) rfl
theorem q1627 : (Jvm.Cond.instanceMethod ({ cls := "FlintMine$Command", name := "<init>", desc := "(LFlintMine$Act;[I)V" } : Jvm.MethodName)) ∈ lw_all := lw_g (lw_at lw_m7 110 rfl) rfl
theorem q1628 : (Jvm.Cond.code ({ cls := "FlintMine$Command", name := "<init>", desc := "(LFlintMine$Act;[I)V" } : Jvm.MethodName) prog_13_method_1_code (3 : Nat) (Option.none : Option Jvm.ClassFile.FieldType)) ∈ lw_all := lw_g (lw_at lw_m7 111 rfl) rfl
theorem q1629 : (Jvm.Cond.methodLink "FlintMine$Command" (1 : Nat) ({ cls := "java/lang/Object", name := "<init>", desc := "()V" } : Jvm.MethodName)) ∈ lw_all := lw_g (lw_at lw_m7 112 rfl) rfl
theorem q1630 : (Jvm.Cond.fieldLink "FlintMine$Command" (7 : Nat) "FlintMine$Command" "act" "LFlintMine$Act;") ∈ lw_all := lw_g (lw_at lw_m7 113 rfl) rfl
theorem q1631 : (Jvm.Cond.fieldLink "FlintMine$Command" (13 : Nat) "FlintMine$Command" "told" "[I") ∈ lw_all := lw_g (lw_at lw_m7 114 rfl) rfl
theorem q1632 : (Jvm.Cond.laysFinal "FlintMine$Command" "FlintMine$Command" "act" "LFlintMine$Act;") ∈ lw_all := lw_g (lw_at lw_m7 115 rfl) rfl
theorem q1633 : (Jvm.Cond.soleField "FlintMine$Command" "act") ∈ lw_all := lw_g (lw_at lw_m7 116 rfl) rfl
theorem q1634 : (Jvm.Cond.laysFinal "FlintMine$Command" "FlintMine$Command" "told" "[I") ∈ lw_all := lw_g (lw_at lw_m7 117 rfl) rfl
theorem q1635 : (Jvm.Cond.soleField "FlintMine$Command" "told") ∈ lw_all := lw_g (lw_at lw_m7 118 rfl) rfl
theorem q1636 : (Jvm.Cond.superclass "FlintMine$Command" "java/lang/Object") ∈ lw_all := lw_g (lw_at lw_m7 119 rfl) rfl
theorem q1820 : (Jvm.Cond.instanceMethod ({ cls := "FlintMine$Command", name := "done", desc := "(LFlintMine$Mine;)I" } : Jvm.MethodName)) ∈ lw_all := lw_g (lw_at lw_m8 63 rfl) rfl
theorem q1821 : (Jvm.Cond.selects "FlintMine$Command" ({ cls := "FlintMine$Command", name := "done", desc := "(LFlintMine$Mine;)I" } : Jvm.MethodName) ({ cls := "FlintMine$Command", name := "done", desc := "(LFlintMine$Mine;)I" } : Jvm.MethodName)) ∈ lw_all := lw_g (lw_at lw_m8 64 rfl) rfl
theorem q1822 : (Jvm.Cond.code ({ cls := "FlintMine$Command", name := "done", desc := "(LFlintMine$Mine;)I" } : Jvm.MethodName) prog_13_method_2_code (2 : Nat) (Option.some Jvm.ClassFile.FieldType.int)) ∈ lw_all := lw_g (lw_at lw_m8 65 rfl) rfl
theorem q1823 : (Jvm.Cond.methodLink "FlintMine$Command" (17 : Nat) ({ cls := "FlintMine$Act", name := "done", desc := "(LFlintMine$Mine;[I)I" } : Jvm.MethodName)) ∈ lw_all := lw_g (lw_at lw_m8 66 rfl) rfl
theorem q2321 : (Jvm.Cond.castable "FlintMine$Command" "java/lang/Object") ∈ lw_tbl := lw_at lw_m10 84 rfl
theorem in_X12 : ∀ w ∈ wsX120, w ∈ lw_all := lw_in wsX120 [1632, 1634] (by decide +kernel) (by decide +kernel)
/-! FlintMine$Ground -/
set_option maxRecDepth 100000
def RX13 : String := "FlintMine$Ground"
abbrev cX13_isBare : ByteArray := prog_16_method_2_code
def yX13_isBare : MethodName := ⟨RX13, "isBare", "()Z"⟩
theorem dX13_isBare_0 : decode cX13_isBare 0 = .ok (.iconst 0, 1) := by decide +kernel
theorem dX13_isBare_1 : decode cX13_isBare 1 = .ok (.ireturn, 1) := by decide +kernel
theorem q313 : (Jvm.Cond.interfaceMethod "FlintMine$Ground" "FlintMine$Ground" "isBare" "()Z") ∈ lw_tbl := lw_at lw_m1 236 rfl
theorem q314 : (Jvm.Cond.declares ({ cls := "FlintMine$Ground", name := "isBare", desc := "()Z" } : Jvm.MethodName)) ∈ lw_tbl := lw_at lw_m1 237 rfl
theorem q317 : (Jvm.Cond.instanceMethod ({ cls := "FlintMine$Ground", name := "isBare", desc := "()Z" } : Jvm.MethodName)) ∈ lw_all := lw_g (lw_at lw_m2 0 rfl) rfl
theorem q318 : (Jvm.Cond.publicMethod ({ cls := "FlintMine$Ground", name := "isBare", desc := "()Z" } : Jvm.MethodName)) ∈ lw_tbl := lw_at lw_m2 1 rfl
theorem q319 : (Jvm.Cond.code ({ cls := "FlintMine$Ground", name := "isBare", desc := "()Z" } : Jvm.MethodName) prog_16_method_2_code (1 : Nat) (Option.some Jvm.ClassFile.FieldType.boolean)) ∈ lw_all := lw_g (lw_at lw_m2 2 rfl) rfl
theorem q1113 : (Jvm.Cond.interfaceMethod "FlintMine$Ground" "FlintMine$Ground" "shaft" "()I") ∈ lw_tbl := lw_at lw_m5 76 rfl
theorem q1114 : (Jvm.Cond.declares ({ cls := "FlintMine$Ground", name := "shaft", desc := "()I" } : Jvm.MethodName)) ∈ lw_tbl := lw_at lw_m5 77 rfl
theorem q2289 : (Jvm.Cond.initialized "FlintMine$Ground") ∈ lw_all := lw_g (lw_at lw_m10 52 rfl) rfl
theorem q2292 : (Jvm.Cond.castable "FlintMine$Ground" "java/lang/Object") ∈ lw_tbl := lw_at lw_m10 55 rfl
/-! FlintMine$Act$1 -/
set_option maxRecDepth 100000
def RX14 : String := "FlintMine$Act$1"
abbrev cX14_done : ByteArray := prog_3_method_2_code
def yX14_done : MethodName := ⟨RX14, "done", "(LFlintMine$Mine;[I)I"⟩
def dkwX14_done_2 : List UInt8 := [183, 0, 19, 182, 0, 22, 172]
abbrev dktX14_done_2 : List UInt8 := dkwX14_done_2 ++ []
def dkwX14_done_1 : List UInt8 := [3, 16, 9, 184, 0, 9, 84, 184, 0, 13, 43, 29, 187, 0, 17, 89, 44, 4, 46, 44, 5, 46]
abbrev dktX14_done_1 : List UInt8 := dkwX14_done_1 ++ dktX14_done_2
def dkwX14_done_0 : List UInt8 := [44, 3, 46, 62, 5, 188, 4, 89, 3, 44, 4, 46, 4, 16, 9, 184, 0, 9, 84, 89, 4, 44, 5, 46]
abbrev dktX14_done_0 : List UInt8 := dkwX14_done_0 ++ dktX14_done_1
theorem dksX14_done_0 : cX14_done.data.toList.drop 0 = dktX14_done_0 := by decide +kernel
theorem dksX14_done_1 : cX14_done.data.toList.drop 24 = dktX14_done_1 := dk_seg dksX14_done_0 24 rfl rfl
theorem dksX14_done_2 : cX14_done.data.toList.drop 46 = dktX14_done_2 := dk_seg dksX14_done_1 22 rfl rfl
theorem dX14_done_0 : decode cX14_done 0 = .ok (.aload_n 2, 1) := dk_44 (dk_at dksX14_done_0 0 rfl rfl)
theorem dX14_done_1 : decode cX14_done 1 = .ok (.iconst 0, 1) := dk_3 (dk_at dksX14_done_0 1 rfl rfl)
theorem dX14_done_2 : decode cX14_done 2 = .ok (.iaload, 1) := dk_46 (dk_at dksX14_done_0 2 rfl rfl)
theorem dX14_done_3 : decode cX14_done 3 = .ok (.istore_n 3, 1) := dk_62 (dk_at dksX14_done_0 3 rfl rfl)
theorem dX14_done_4 : decode cX14_done 4 = .ok (.iconst 2, 1) := dk_5 (dk_at dksX14_done_0 4 rfl rfl)
theorem dX14_done_5 : decode cX14_done 5 = .ok (.newarray .boolean, 2) := dk_188_4 (dk_at dksX14_done_0 5 rfl rfl)
theorem dX14_done_7 : decode cX14_done 7 = .ok (.dup, 1) := dk_89 (dk_at dksX14_done_0 7 rfl rfl)
theorem dX14_done_8 : decode cX14_done 8 = .ok (.iconst 0, 1) := dk_3 (dk_at dksX14_done_0 8 rfl rfl)
theorem dX14_done_9 : decode cX14_done 9 = .ok (.aload_n 2, 1) := dk_44 (dk_at dksX14_done_0 9 rfl rfl)
theorem dX14_done_10 : decode cX14_done 10 = .ok (.iconst 1, 1) := dk_4 (dk_at dksX14_done_0 10 rfl rfl)
theorem dX14_done_11 : decode cX14_done 11 = .ok (.iaload, 1) := dk_46 (dk_at dksX14_done_0 11 rfl rfl)
theorem dX14_done_12 : decode cX14_done 12 = .ok (.iconst 1, 1) := dk_4 (dk_at dksX14_done_0 12 rfl rfl)
theorem dX14_done_13 : decode cX14_done 13 = .ok (.bipush 9, 2) := dk_16 9 (dk_at dksX14_done_0 13 rfl rfl)
theorem dX14_done_15 : decode cX14_done 15 = .ok (.invokestatic 9, 3) := dk_184 0 9 (dk_at dksX14_done_0 15 rfl rfl)
theorem dX14_done_18 : decode cX14_done 18 = .ok (.bastore, 1) := dk_84 (dk_at dksX14_done_0 18 rfl rfl)
theorem dX14_done_19 : decode cX14_done 19 = .ok (.dup, 1) := dk_89 (dk_at dksX14_done_0 19 rfl rfl)
theorem dX14_done_20 : decode cX14_done 20 = .ok (.iconst 1, 1) := dk_4 (dk_at dksX14_done_0 20 rfl rfl)
theorem dX14_done_21 : decode cX14_done 21 = .ok (.aload_n 2, 1) := dk_44 (dk_at dksX14_done_0 21 rfl rfl)
theorem dX14_done_22 : decode cX14_done 22 = .ok (.iconst 2, 1) := dk_5 (dk_at dksX14_done_0 22 rfl rfl)
theorem dX14_done_23 : decode cX14_done 23 = .ok (.iaload, 1) := dk_46 (dk_at dksX14_done_0 23 rfl rfl)
theorem dX14_done_24 : decode cX14_done 24 = .ok (.iconst 0, 1) := dk_3 (dk_at dksX14_done_1 0 rfl rfl)
theorem dX14_done_25 : decode cX14_done 25 = .ok (.bipush 9, 2) := dk_16 9 (dk_at dksX14_done_1 1 rfl rfl)
theorem dX14_done_27 : decode cX14_done 27 = .ok (.invokestatic 9, 3) := dk_184 0 9 (dk_at dksX14_done_1 3 rfl rfl)
theorem dX14_done_30 : decode cX14_done 30 = .ok (.bastore, 1) := dk_84 (dk_at dksX14_done_1 6 rfl rfl)
theorem dX14_done_31 : decode cX14_done 31 = .ok (.invokestatic 13, 3) := dk_184 0 13 (dk_at dksX14_done_1 7 rfl rfl)
theorem dX14_done_34 : decode cX14_done 34 = .ok (.aload_n 1, 1) := dk_43 (dk_at dksX14_done_1 10 rfl rfl)
theorem dX14_done_35 : decode cX14_done 35 = .ok (.iload_n 3, 1) := dk_29 (dk_at dksX14_done_1 11 rfl rfl)
theorem dX14_done_36 : decode cX14_done 36 = .ok (.new 17, 3) := dk_187 0 17 (dk_at dksX14_done_1 12 rfl rfl)
theorem dX14_done_39 : decode cX14_done 39 = .ok (.dup, 1) := dk_89 (dk_at dksX14_done_1 15 rfl rfl)
theorem dX14_done_40 : decode cX14_done 40 = .ok (.aload_n 2, 1) := dk_44 (dk_at dksX14_done_1 16 rfl rfl)
theorem dX14_done_41 : decode cX14_done 41 = .ok (.iconst 1, 1) := dk_4 (dk_at dksX14_done_1 17 rfl rfl)
theorem dX14_done_42 : decode cX14_done 42 = .ok (.iaload, 1) := dk_46 (dk_at dksX14_done_1 18 rfl rfl)
theorem dX14_done_43 : decode cX14_done 43 = .ok (.aload_n 2, 1) := dk_44 (dk_at dksX14_done_1 19 rfl rfl)
theorem dX14_done_44 : decode cX14_done 44 = .ok (.iconst 2, 1) := dk_5 (dk_at dksX14_done_1 20 rfl rfl)
theorem dX14_done_45 : decode cX14_done 45 = .ok (.iaload, 1) := dk_46 (dk_at dksX14_done_1 21 rfl rfl)
theorem dX14_done_46 : decode cX14_done 46 = .ok (.invokespecial 19, 3) := dk_183 0 19 (dk_at dksX14_done_2 0 rfl rfl)
theorem dX14_done_49 : decode cX14_done 49 = .ok (.invokevirtual 22, 3) := dk_182 0 22 (dk_at dksX14_done_2 3 rfl rfl)
theorem dX14_done_52 : decode cX14_done 52 = .ok (.ireturn, 1) := dk_172 (dk_at dksX14_done_2 6 rfl rfl)
theorem q528 : (Jvm.Cond.selects "FlintMine$Act$1" ({ cls := "java/lang/Object", name := "getClass", desc := "()Ljava/lang/Class;" } : Jvm.MethodName) ({ cls := "java/lang/Object", name := "getClass", desc := "()Ljava/lang/Class;" } : Jvm.MethodName)) ∈ lw_all := lw_g (lw_at lw_m2 211 rfl) rfl
theorem q659 : (Jvm.Cond.selects "FlintMine$Act$1" ({ cls := "FlintMine$Act", name := "done", desc := "(LFlintMine$Mine;[I)I" } : Jvm.MethodName) ({ cls := "FlintMine$Act$1", name := "done", desc := "(LFlintMine$Mine;[I)I" } : Jvm.MethodName)) ∈ lw_all := lw_g (lw_at lw_m3 102 rfl) rfl
theorem q660 : (Jvm.Cond.instanceMethod ({ cls := "FlintMine$Act$1", name := "done", desc := "(LFlintMine$Mine;[I)I" } : Jvm.MethodName)) ∈ lw_all := lw_g (lw_at lw_m3 103 rfl) rfl
theorem q661 : (Jvm.Cond.code ({ cls := "FlintMine$Act$1", name := "done", desc := "(LFlintMine$Mine;[I)I" } : Jvm.MethodName) prog_3_method_2_code (4 : Nat) (Option.some Jvm.ClassFile.FieldType.int)) ∈ lw_all := lw_g (lw_at lw_m3 104 rfl) rfl
theorem q662 : (Jvm.Cond.methodLinkNest "FlintMine$Act$1" (9 : Nat) ({ cls := "FlintMine", name := "inRange", desc := "(III)Z" } : Jvm.MethodName) "FlintMine") ∈ lw_tbl := lw_at lw_m3 105 rfl
theorem q663 : (Jvm.Cond.methodLinkNest "FlintMine$Act$1" (13 : Nat) ({ cls := "FlintMine", name := "require", desc := "([Z)V" } : Jvm.MethodName) "FlintMine") ∈ lw_tbl := lw_at lw_m3 106 rfl
theorem q682 : (Jvm.Cond.classLink "FlintMine$Act$1" (17 : Nat) "FlintMine$Chalk") ∈ lw_all := lw_g (lw_at lw_m3 125 rfl) rfl
theorem q683 : (Jvm.Cond.methodLink "FlintMine$Act$1" (19 : Nat) ({ cls := "FlintMine$Chalk", name := "<init>", desc := "(II)V" } : Jvm.MethodName)) ∈ lw_all := lw_g (lw_at lw_m3 126 rfl) rfl
theorem q684 : (Jvm.Cond.methodLink "FlintMine$Act$1" (22 : Nat) ({ cls := "FlintMine$Mine", name := "setRock", desc := "(ILFlintMine$Chalk;)I" } : Jvm.MethodName)) ∈ lw_all := lw_g (lw_at lw_m3 127 rfl) rfl
theorem q2302 : (Jvm.Cond.castable "FlintMine$Act$1" "java/lang/Object") ∈ lw_tbl := lw_at lw_m10 65 rfl
/-! FlintMine$Act$2 -/
set_option maxRecDepth 100000
def RX15 : String := "FlintMine$Act$2"
abbrev cX15_done : ByteArray := prog_4_method_2_code
def yX15_done : MethodName := ⟨RX15, "done", "(LFlintMine$Mine;[I)I"⟩
def dkwX15_done_1 : List UInt8 := [182, 0, 17, 172]
abbrev dktX15_done_1 : List UInt8 := dkwX15_done_1 ++ []
def dkwX15_done_0 : List UInt8 := [4, 188, 4, 89, 3, 44, 3, 46, 5, 16, 8, 184, 0, 9, 84, 184, 0, 13, 43, 44, 3, 46]
abbrev dktX15_done_0 : List UInt8 := dkwX15_done_0 ++ dktX15_done_1
theorem dksX15_done_0 : cX15_done.data.toList.drop 0 = dktX15_done_0 := by decide +kernel
theorem dksX15_done_1 : cX15_done.data.toList.drop 22 = dktX15_done_1 := dk_seg dksX15_done_0 22 rfl rfl
theorem dX15_done_0 : decode cX15_done 0 = .ok (.iconst 1, 1) := dk_4 (dk_at dksX15_done_0 0 rfl rfl)
theorem dX15_done_1 : decode cX15_done 1 = .ok (.newarray .boolean, 2) := dk_188_4 (dk_at dksX15_done_0 1 rfl rfl)
theorem dX15_done_3 : decode cX15_done 3 = .ok (.dup, 1) := dk_89 (dk_at dksX15_done_0 3 rfl rfl)
theorem dX15_done_4 : decode cX15_done 4 = .ok (.iconst 0, 1) := dk_3 (dk_at dksX15_done_0 4 rfl rfl)
theorem dX15_done_5 : decode cX15_done 5 = .ok (.aload_n 2, 1) := dk_44 (dk_at dksX15_done_0 5 rfl rfl)
theorem dX15_done_6 : decode cX15_done 6 = .ok (.iconst 0, 1) := dk_3 (dk_at dksX15_done_0 6 rfl rfl)
theorem dX15_done_7 : decode cX15_done 7 = .ok (.iaload, 1) := dk_46 (dk_at dksX15_done_0 7 rfl rfl)
theorem dX15_done_8 : decode cX15_done 8 = .ok (.iconst 2, 1) := dk_5 (dk_at dksX15_done_0 8 rfl rfl)
theorem dX15_done_9 : decode cX15_done 9 = .ok (.bipush 8, 2) := dk_16 8 (dk_at dksX15_done_0 9 rfl rfl)
theorem dX15_done_11 : decode cX15_done 11 = .ok (.invokestatic 9, 3) := dk_184 0 9 (dk_at dksX15_done_0 11 rfl rfl)
theorem dX15_done_14 : decode cX15_done 14 = .ok (.bastore, 1) := dk_84 (dk_at dksX15_done_0 14 rfl rfl)
theorem dX15_done_15 : decode cX15_done 15 = .ok (.invokestatic 13, 3) := dk_184 0 13 (dk_at dksX15_done_0 15 rfl rfl)
theorem dX15_done_18 : decode cX15_done 18 = .ok (.aload_n 1, 1) := dk_43 (dk_at dksX15_done_0 18 rfl rfl)
theorem dX15_done_19 : decode cX15_done 19 = .ok (.aload_n 2, 1) := dk_44 (dk_at dksX15_done_0 19 rfl rfl)
theorem dX15_done_20 : decode cX15_done 20 = .ok (.iconst 0, 1) := dk_3 (dk_at dksX15_done_0 20 rfl rfl)
theorem dX15_done_21 : decode cX15_done 21 = .ok (.iaload, 1) := dk_46 (dk_at dksX15_done_0 21 rfl rfl)
theorem dX15_done_22 : decode cX15_done 22 = .ok (.invokevirtual 17, 3) := dk_182 0 17 (dk_at dksX15_done_1 0 rfl rfl)
theorem dX15_done_25 : decode cX15_done 25 = .ok (.ireturn, 1) := dk_172 (dk_at dksX15_done_1 3 rfl rfl)
theorem q529 : (Jvm.Cond.selects "FlintMine$Act$2" ({ cls := "java/lang/Object", name := "getClass", desc := "()Ljava/lang/Class;" } : Jvm.MethodName) ({ cls := "java/lang/Object", name := "getClass", desc := "()Ljava/lang/Class;" } : Jvm.MethodName)) ∈ lw_all := lw_g (lw_at lw_m2 212 rfl) rfl
theorem q724 : (Jvm.Cond.selects "FlintMine$Act$2" ({ cls := "FlintMine$Act", name := "done", desc := "(LFlintMine$Mine;[I)I" } : Jvm.MethodName) ({ cls := "FlintMine$Act$2", name := "done", desc := "(LFlintMine$Mine;[I)I" } : Jvm.MethodName)) ∈ lw_all := lw_g (lw_at lw_m3 167 rfl) rfl
theorem q725 : (Jvm.Cond.instanceMethod ({ cls := "FlintMine$Act$2", name := "done", desc := "(LFlintMine$Mine;[I)I" } : Jvm.MethodName)) ∈ lw_all := lw_g (lw_at lw_m3 168 rfl) rfl
theorem q726 : (Jvm.Cond.code ({ cls := "FlintMine$Act$2", name := "done", desc := "(LFlintMine$Mine;[I)I" } : Jvm.MethodName) prog_4_method_2_code (3 : Nat) (Option.some Jvm.ClassFile.FieldType.int)) ∈ lw_all := lw_g (lw_at lw_m3 169 rfl) rfl
theorem q727 : (Jvm.Cond.methodLinkNest "FlintMine$Act$2" (9 : Nat) ({ cls := "FlintMine", name := "inRange", desc := "(III)Z" } : Jvm.MethodName) "FlintMine") ∈ lw_tbl := lw_at lw_m3 170 rfl
theorem q728 : (Jvm.Cond.methodLinkNest "FlintMine$Act$2" (13 : Nat) ({ cls := "FlintMine", name := "require", desc := "([Z)V" } : Jvm.MethodName) "FlintMine") ∈ lw_tbl := lw_at lw_m3 171 rfl
theorem q729 : (Jvm.Cond.methodLink "FlintMine$Act$2" (17 : Nat) ({ cls := "FlintMine$Mine", name := "setRoof", desc := "(I)I" } : Jvm.MethodName)) ∈ lw_all := lw_g (lw_at lw_m3 172 rfl) rfl
theorem q2309 : (Jvm.Cond.castable "FlintMine$Act$2" "java/lang/Object") ∈ lw_tbl := lw_at lw_m10 72 rfl
/-! FlintMine$Act$3 -/
set_option maxRecDepth 100000
def RX16 : String := "FlintMine$Act$3"
abbrev cX16_done : ByteArray := prog_5_method_2_code
def yX16_done : MethodName := ⟨RX16, "done", "(LFlintMine$Mine;[I)I"⟩
def dkwX16_done_1 : List UInt8 := [182, 0, 17, 172]
abbrev dktX16_done_1 : List UInt8 := dkwX16_done_1 ++ []
def dkwX16_done_0 : List UInt8 := [4, 188, 4, 89, 3, 44, 3, 46, 4, 16, 99, 184, 0, 9, 84, 184, 0, 13, 43, 44, 3, 46]
abbrev dktX16_done_0 : List UInt8 := dkwX16_done_0 ++ dktX16_done_1
theorem dksX16_done_0 : cX16_done.data.toList.drop 0 = dktX16_done_0 := by decide +kernel
theorem dksX16_done_1 : cX16_done.data.toList.drop 22 = dktX16_done_1 := dk_seg dksX16_done_0 22 rfl rfl
theorem dX16_done_0 : decode cX16_done 0 = .ok (.iconst 1, 1) := dk_4 (dk_at dksX16_done_0 0 rfl rfl)
theorem dX16_done_1 : decode cX16_done 1 = .ok (.newarray .boolean, 2) := dk_188_4 (dk_at dksX16_done_0 1 rfl rfl)
theorem dX16_done_3 : decode cX16_done 3 = .ok (.dup, 1) := dk_89 (dk_at dksX16_done_0 3 rfl rfl)
theorem dX16_done_4 : decode cX16_done 4 = .ok (.iconst 0, 1) := dk_3 (dk_at dksX16_done_0 4 rfl rfl)
theorem dX16_done_5 : decode cX16_done 5 = .ok (.aload_n 2, 1) := dk_44 (dk_at dksX16_done_0 5 rfl rfl)
theorem dX16_done_6 : decode cX16_done 6 = .ok (.iconst 0, 1) := dk_3 (dk_at dksX16_done_0 6 rfl rfl)
theorem dX16_done_7 : decode cX16_done 7 = .ok (.iaload, 1) := dk_46 (dk_at dksX16_done_0 7 rfl rfl)
theorem dX16_done_8 : decode cX16_done 8 = .ok (.iconst 1, 1) := dk_4 (dk_at dksX16_done_0 8 rfl rfl)
theorem dX16_done_9 : decode cX16_done 9 = .ok (.bipush 99, 2) := dk_16 99 (dk_at dksX16_done_0 9 rfl rfl)
theorem dX16_done_11 : decode cX16_done 11 = .ok (.invokestatic 9, 3) := dk_184 0 9 (dk_at dksX16_done_0 11 rfl rfl)
theorem dX16_done_14 : decode cX16_done 14 = .ok (.bastore, 1) := dk_84 (dk_at dksX16_done_0 14 rfl rfl)
theorem dX16_done_15 : decode cX16_done 15 = .ok (.invokestatic 13, 3) := dk_184 0 13 (dk_at dksX16_done_0 15 rfl rfl)
theorem dX16_done_18 : decode cX16_done 18 = .ok (.aload_n 1, 1) := dk_43 (dk_at dksX16_done_0 18 rfl rfl)
theorem dX16_done_19 : decode cX16_done 19 = .ok (.aload_n 2, 1) := dk_44 (dk_at dksX16_done_0 19 rfl rfl)
theorem dX16_done_20 : decode cX16_done 20 = .ok (.iconst 0, 1) := dk_3 (dk_at dksX16_done_0 20 rfl rfl)
theorem dX16_done_21 : decode cX16_done 21 = .ok (.iaload, 1) := dk_46 (dk_at dksX16_done_0 21 rfl rfl)
theorem dX16_done_22 : decode cX16_done 22 = .ok (.invokevirtual 17, 3) := dk_182 0 17 (dk_at dksX16_done_1 0 rfl rfl)
theorem dX16_done_25 : decode cX16_done 25 = .ok (.ireturn, 1) := dk_172 (dk_at dksX16_done_1 3 rfl rfl)
theorem q530 : (Jvm.Cond.selects "FlintMine$Act$3" ({ cls := "java/lang/Object", name := "getClass", desc := "()Ljava/lang/Class;" } : Jvm.MethodName) ({ cls := "java/lang/Object", name := "getClass", desc := "()Ljava/lang/Class;" } : Jvm.MethodName)) ∈ lw_all := lw_g (lw_at lw_m2 213 rfl) rfl
theorem q738 : (Jvm.Cond.selects "FlintMine$Act$3" ({ cls := "FlintMine$Act", name := "done", desc := "(LFlintMine$Mine;[I)I" } : Jvm.MethodName) ({ cls := "FlintMine$Act$3", name := "done", desc := "(LFlintMine$Mine;[I)I" } : Jvm.MethodName)) ∈ lw_all := lw_g (lw_at lw_m3 181 rfl) rfl
theorem q739 : (Jvm.Cond.instanceMethod ({ cls := "FlintMine$Act$3", name := "done", desc := "(LFlintMine$Mine;[I)I" } : Jvm.MethodName)) ∈ lw_all := lw_g (lw_at lw_m3 182 rfl) rfl
theorem q740 : (Jvm.Cond.code ({ cls := "FlintMine$Act$3", name := "done", desc := "(LFlintMine$Mine;[I)I" } : Jvm.MethodName) prog_5_method_2_code (3 : Nat) (Option.some Jvm.ClassFile.FieldType.int)) ∈ lw_all := lw_g (lw_at lw_m3 183 rfl) rfl
theorem q741 : (Jvm.Cond.methodLinkNest "FlintMine$Act$3" (9 : Nat) ({ cls := "FlintMine", name := "inRange", desc := "(III)Z" } : Jvm.MethodName) "FlintMine") ∈ lw_tbl := lw_at lw_m3 184 rfl
theorem q742 : (Jvm.Cond.methodLinkNest "FlintMine$Act$3" (13 : Nat) ({ cls := "FlintMine", name := "require", desc := "([Z)V" } : Jvm.MethodName) "FlintMine") ∈ lw_tbl := lw_at lw_m3 185 rfl
theorem q743 : (Jvm.Cond.methodLink "FlintMine$Act$3" (17 : Nat) ({ cls := "FlintMine$Mine", name := "addProps", desc := "(I)I" } : Jvm.MethodName)) ∈ lw_all := lw_g (lw_at lw_m3 186 rfl) rfl
theorem q2310 : (Jvm.Cond.castable "FlintMine$Act$3" "java/lang/Object") ∈ lw_tbl := lw_at lw_m10 73 rfl
/-! FlintMine$Act$4 -/
set_option maxRecDepth 100000
def RX17 : String := "FlintMine$Act$4"
abbrev cX17_done : ByteArray := prog_6_method_2_code
def yX17_done : MethodName := ⟨RX17, "done", "(LFlintMine$Mine;[I)I"⟩
def dkwX17_done_1 : List UInt8 := [182, 0, 17, 172]
abbrev dktX17_done_1 : List UInt8 := dkwX17_done_1 ++ []
def dkwX17_done_0 : List UInt8 := [4, 188, 4, 89, 3, 44, 3, 46, 4, 16, 99, 184, 0, 9, 84, 184, 0, 13, 43, 44, 3, 46]
abbrev dktX17_done_0 : List UInt8 := dkwX17_done_0 ++ dktX17_done_1
theorem dksX17_done_0 : cX17_done.data.toList.drop 0 = dktX17_done_0 := by decide +kernel
theorem dksX17_done_1 : cX17_done.data.toList.drop 22 = dktX17_done_1 := dk_seg dksX17_done_0 22 rfl rfl
theorem dX17_done_0 : decode cX17_done 0 = .ok (.iconst 1, 1) := dk_4 (dk_at dksX17_done_0 0 rfl rfl)
theorem dX17_done_1 : decode cX17_done 1 = .ok (.newarray .boolean, 2) := dk_188_4 (dk_at dksX17_done_0 1 rfl rfl)
theorem dX17_done_3 : decode cX17_done 3 = .ok (.dup, 1) := dk_89 (dk_at dksX17_done_0 3 rfl rfl)
theorem dX17_done_4 : decode cX17_done 4 = .ok (.iconst 0, 1) := dk_3 (dk_at dksX17_done_0 4 rfl rfl)
theorem dX17_done_5 : decode cX17_done 5 = .ok (.aload_n 2, 1) := dk_44 (dk_at dksX17_done_0 5 rfl rfl)
theorem dX17_done_6 : decode cX17_done 6 = .ok (.iconst 0, 1) := dk_3 (dk_at dksX17_done_0 6 rfl rfl)
theorem dX17_done_7 : decode cX17_done 7 = .ok (.iaload, 1) := dk_46 (dk_at dksX17_done_0 7 rfl rfl)
theorem dX17_done_8 : decode cX17_done 8 = .ok (.iconst 1, 1) := dk_4 (dk_at dksX17_done_0 8 rfl rfl)
theorem dX17_done_9 : decode cX17_done 9 = .ok (.bipush 99, 2) := dk_16 99 (dk_at dksX17_done_0 9 rfl rfl)
theorem dX17_done_11 : decode cX17_done 11 = .ok (.invokestatic 9, 3) := dk_184 0 9 (dk_at dksX17_done_0 11 rfl rfl)
theorem dX17_done_14 : decode cX17_done 14 = .ok (.bastore, 1) := dk_84 (dk_at dksX17_done_0 14 rfl rfl)
theorem dX17_done_15 : decode cX17_done 15 = .ok (.invokestatic 13, 3) := dk_184 0 13 (dk_at dksX17_done_0 15 rfl rfl)
theorem dX17_done_18 : decode cX17_done 18 = .ok (.aload_n 1, 1) := dk_43 (dk_at dksX17_done_0 18 rfl rfl)
theorem dX17_done_19 : decode cX17_done 19 = .ok (.aload_n 2, 1) := dk_44 (dk_at dksX17_done_0 19 rfl rfl)
theorem dX17_done_20 : decode cX17_done 20 = .ok (.iconst 0, 1) := dk_3 (dk_at dksX17_done_0 20 rfl rfl)
theorem dX17_done_21 : decode cX17_done 21 = .ok (.iaload, 1) := dk_46 (dk_at dksX17_done_0 21 rfl rfl)
theorem dX17_done_22 : decode cX17_done 22 = .ok (.invokevirtual 17, 3) := dk_182 0 17 (dk_at dksX17_done_1 0 rfl rfl)
theorem dX17_done_25 : decode cX17_done 25 = .ok (.ireturn, 1) := dk_172 (dk_at dksX17_done_1 3 rfl rfl)
theorem q531 : (Jvm.Cond.selects "FlintMine$Act$4" ({ cls := "java/lang/Object", name := "getClass", desc := "()Ljava/lang/Class;" } : Jvm.MethodName) ({ cls := "java/lang/Object", name := "getClass", desc := "()Ljava/lang/Class;" } : Jvm.MethodName)) ∈ lw_all := lw_g (lw_at lw_m2 214 rfl) rfl
theorem q748 : (Jvm.Cond.selects "FlintMine$Act$4" ({ cls := "FlintMine$Act", name := "done", desc := "(LFlintMine$Mine;[I)I" } : Jvm.MethodName) ({ cls := "FlintMine$Act$4", name := "done", desc := "(LFlintMine$Mine;[I)I" } : Jvm.MethodName)) ∈ lw_all := lw_g (lw_at lw_m3 191 rfl) rfl
theorem q749 : (Jvm.Cond.instanceMethod ({ cls := "FlintMine$Act$4", name := "done", desc := "(LFlintMine$Mine;[I)I" } : Jvm.MethodName)) ∈ lw_all := lw_g (lw_at lw_m3 192 rfl) rfl
theorem q750 : (Jvm.Cond.code ({ cls := "FlintMine$Act$4", name := "done", desc := "(LFlintMine$Mine;[I)I" } : Jvm.MethodName) prog_6_method_2_code (3 : Nat) (Option.some Jvm.ClassFile.FieldType.int)) ∈ lw_all := lw_g (lw_at lw_m3 193 rfl) rfl
theorem q751 : (Jvm.Cond.methodLinkNest "FlintMine$Act$4" (9 : Nat) ({ cls := "FlintMine", name := "inRange", desc := "(III)Z" } : Jvm.MethodName) "FlintMine") ∈ lw_tbl := lw_at lw_m3 194 rfl
theorem q752 : (Jvm.Cond.methodLinkNest "FlintMine$Act$4" (13 : Nat) ({ cls := "FlintMine", name := "require", desc := "([Z)V" } : Jvm.MethodName) "FlintMine") ∈ lw_tbl := lw_at lw_m3 195 rfl
theorem q753 : (Jvm.Cond.methodLink "FlintMine$Act$4" (17 : Nat) ({ cls := "FlintMine$Mine", name := "addPick", desc := "(I)I" } : Jvm.MethodName)) ∈ lw_all := lw_g (lw_at lw_m3 196 rfl) rfl
theorem q2311 : (Jvm.Cond.castable "FlintMine$Act$4" "java/lang/Object") ∈ lw_tbl := lw_at lw_m10 74 rfl
/-! FlintMine$Act$5 -/
set_option maxRecDepth 100000
def RX18 : String := "FlintMine$Act$5"
abbrev cX18_done : ByteArray := prog_7_method_2_code
def yX18_done : MethodName := ⟨RX18, "done", "(LFlintMine$Mine;[I)I"⟩
def dkwX18_done_0 : List UInt8 := [43, 44, 184, 0, 7, 182, 0, 13, 172]
abbrev dktX18_done_0 : List UInt8 := dkwX18_done_0 ++ []
theorem dksX18_done_0 : cX18_done.data.toList.drop 0 = dktX18_done_0 := by decide +kernel
theorem dX18_done_0 : decode cX18_done 0 = .ok (.aload_n 1, 1) := dk_43 (dk_at dksX18_done_0 0 rfl rfl)
theorem dX18_done_1 : decode cX18_done 1 = .ok (.aload_n 2, 1) := dk_44 (dk_at dksX18_done_0 1 rfl rfl)
theorem dX18_done_2 : decode cX18_done 2 = .ok (.invokestatic 7, 3) := dk_184 0 7 (dk_at dksX18_done_0 2 rfl rfl)
theorem dX18_done_5 : decode cX18_done 5 = .ok (.invokevirtual 13, 3) := dk_182 0 13 (dk_at dksX18_done_0 5 rfl rfl)
theorem dX18_done_8 : decode cX18_done 8 = .ok (.ireturn, 1) := dk_172 (dk_at dksX18_done_0 8 rfl rfl)
theorem q532 : (Jvm.Cond.selects "FlintMine$Act$5" ({ cls := "java/lang/Object", name := "getClass", desc := "()Ljava/lang/Class;" } : Jvm.MethodName) ({ cls := "java/lang/Object", name := "getClass", desc := "()Ljava/lang/Class;" } : Jvm.MethodName)) ∈ lw_all := lw_g (lw_at lw_m2 215 rfl) rfl
theorem q779 : (Jvm.Cond.selects "FlintMine$Act$5" ({ cls := "FlintMine$Act", name := "done", desc := "(LFlintMine$Mine;[I)I" } : Jvm.MethodName) ({ cls := "FlintMine$Act$5", name := "done", desc := "(LFlintMine$Mine;[I)I" } : Jvm.MethodName)) ∈ lw_all := lw_g (lw_at lw_m3 222 rfl) rfl
theorem q780 : (Jvm.Cond.instanceMethod ({ cls := "FlintMine$Act$5", name := "done", desc := "(LFlintMine$Mine;[I)I" } : Jvm.MethodName)) ∈ lw_all := lw_g (lw_at lw_m3 223 rfl) rfl
theorem q781 : (Jvm.Cond.code ({ cls := "FlintMine$Act$5", name := "done", desc := "(LFlintMine$Mine;[I)I" } : Jvm.MethodName) prog_7_method_2_code (3 : Nat) (Option.some Jvm.ClassFile.FieldType.int)) ∈ lw_all := lw_g (lw_at lw_m3 224 rfl) rfl
theorem q782 : (Jvm.Cond.methodLinkNest "FlintMine$Act$5" (7 : Nat) ({ cls := "FlintMine", name := "cellOf", desc := "([I)I" } : Jvm.MethodName) "FlintMine") ∈ lw_tbl := lw_at lw_m3 225 rfl
theorem q783 : (Jvm.Cond.methodLink "FlintMine$Act$5" (13 : Nat) ({ cls := "FlintMine$Mine", name := "sink", desc := "(I)I" } : Jvm.MethodName)) ∈ lw_all := lw_g (lw_at lw_m3 226 rfl) rfl
theorem q2312 : (Jvm.Cond.castable "FlintMine$Act$5" "java/lang/Object") ∈ lw_tbl := lw_at lw_m10 75 rfl
/-! FlintMine$Act$6 -/
set_option maxRecDepth 100000
def RX19 : String := "FlintMine$Act$6"
abbrev cX19_done : ByteArray := prog_8_method_2_code
def yX19_done : MethodName := ⟨RX19, "done", "(LFlintMine$Mine;[I)I"⟩
def dkwX19_done_0 : List UInt8 := [43, 44, 3, 46, 44, 4, 46, 44, 5, 46, 158, 0, 7, 4, 167, 0, 4, 3, 182, 0, 7, 172]
abbrev dktX19_done_0 : List UInt8 := dkwX19_done_0 ++ []
theorem dksX19_done_0 : cX19_done.data.toList.drop 0 = dktX19_done_0 := by decide +kernel
theorem dX19_done_0 : decode cX19_done 0 = .ok (.aload_n 1, 1) := dk_43 (dk_at dksX19_done_0 0 rfl rfl)
theorem dX19_done_1 : decode cX19_done 1 = .ok (.aload_n 2, 1) := dk_44 (dk_at dksX19_done_0 1 rfl rfl)
theorem dX19_done_2 : decode cX19_done 2 = .ok (.iconst 0, 1) := dk_3 (dk_at dksX19_done_0 2 rfl rfl)
theorem dX19_done_3 : decode cX19_done 3 = .ok (.iaload, 1) := dk_46 (dk_at dksX19_done_0 3 rfl rfl)
theorem dX19_done_4 : decode cX19_done 4 = .ok (.aload_n 2, 1) := dk_44 (dk_at dksX19_done_0 4 rfl rfl)
theorem dX19_done_5 : decode cX19_done 5 = .ok (.iconst 1, 1) := dk_4 (dk_at dksX19_done_0 5 rfl rfl)
theorem dX19_done_6 : decode cX19_done 6 = .ok (.iaload, 1) := dk_46 (dk_at dksX19_done_0 6 rfl rfl)
theorem dX19_done_7 : decode cX19_done 7 = .ok (.aload_n 2, 1) := dk_44 (dk_at dksX19_done_0 7 rfl rfl)
theorem dX19_done_8 : decode cX19_done 8 = .ok (.iconst 2, 1) := dk_5 (dk_at dksX19_done_0 8 rfl rfl)
theorem dX19_done_9 : decode cX19_done 9 = .ok (.iaload, 1) := dk_46 (dk_at dksX19_done_0 9 rfl rfl)
theorem dX19_done_10 : decode cX19_done 10 = .ok (.ifCond .le 7, 3) := dk_158 0 7 (dk_at dksX19_done_0 10 rfl rfl)
theorem dX19_done_13 : decode cX19_done 13 = .ok (.iconst 1, 1) := dk_4 (dk_at dksX19_done_0 13 rfl rfl)
theorem dX19_done_14 : decode cX19_done 14 = .ok (.goto 4, 3) := dk_167 0 4 (dk_at dksX19_done_0 14 rfl rfl)
theorem dX19_done_17 : decode cX19_done 17 = .ok (.iconst 0, 1) := dk_3 (dk_at dksX19_done_0 17 rfl rfl)
theorem dX19_done_18 : decode cX19_done 18 = .ok (.invokevirtual 7, 3) := dk_182 0 7 (dk_at dksX19_done_0 18 rfl rfl)
theorem dX19_done_21 : decode cX19_done 21 = .ok (.ireturn, 1) := dk_172 (dk_at dksX19_done_0 21 rfl rfl)
theorem q533 : (Jvm.Cond.selects "FlintMine$Act$6" ({ cls := "java/lang/Object", name := "getClass", desc := "()Ljava/lang/Class;" } : Jvm.MethodName) ({ cls := "java/lang/Object", name := "getClass", desc := "()Ljava/lang/Class;" } : Jvm.MethodName)) ∈ lw_all := lw_g (lw_at lw_m2 216 rfl) rfl
theorem q901 : (Jvm.Cond.selects "FlintMine$Act$6" ({ cls := "FlintMine$Act", name := "done", desc := "(LFlintMine$Mine;[I)I" } : Jvm.MethodName) ({ cls := "FlintMine$Act$6", name := "done", desc := "(LFlintMine$Mine;[I)I" } : Jvm.MethodName)) ∈ lw_all := lw_g (lw_at lw_m4 104 rfl) rfl
theorem q902 : (Jvm.Cond.instanceMethod ({ cls := "FlintMine$Act$6", name := "done", desc := "(LFlintMine$Mine;[I)I" } : Jvm.MethodName)) ∈ lw_all := lw_g (lw_at lw_m4 105 rfl) rfl
theorem q903 : (Jvm.Cond.code ({ cls := "FlintMine$Act$6", name := "done", desc := "(LFlintMine$Mine;[I)I" } : Jvm.MethodName) prog_8_method_2_code (3 : Nat) (Option.some Jvm.ClassFile.FieldType.int)) ∈ lw_all := lw_g (lw_at lw_m4 106 rfl) rfl
theorem q904 : (Jvm.Cond.methodLink "FlintMine$Act$6" (7 : Nat) ({ cls := "FlintMine$Mine", name := "dig", desc := "(IIZ)I" } : Jvm.MethodName)) ∈ lw_all := lw_g (lw_at lw_m4 107 rfl) rfl
theorem q2313 : (Jvm.Cond.castable "FlintMine$Act$6" "java/lang/Object") ∈ lw_tbl := lw_at lw_m10 76 rfl
/-! FlintMine$Act$7 -/
set_option maxRecDepth 100000
def RX20 : String := "FlintMine$Act$7"
abbrev cX20_done : ByteArray := prog_9_method_2_code
def yX20_done : MethodName := ⟨RX20, "done", "(LFlintMine$Mine;[I)I"⟩
def dkwX20_done_0 : List UInt8 := [43, 44, 184, 0, 7, 182, 0, 13, 172]
abbrev dktX20_done_0 : List UInt8 := dkwX20_done_0 ++ []
theorem dksX20_done_0 : cX20_done.data.toList.drop 0 = dktX20_done_0 := by decide +kernel
theorem dX20_done_0 : decode cX20_done 0 = .ok (.aload_n 1, 1) := dk_43 (dk_at dksX20_done_0 0 rfl rfl)
theorem dX20_done_1 : decode cX20_done 1 = .ok (.aload_n 2, 1) := dk_44 (dk_at dksX20_done_0 1 rfl rfl)
theorem dX20_done_2 : decode cX20_done 2 = .ok (.invokestatic 7, 3) := dk_184 0 7 (dk_at dksX20_done_0 2 rfl rfl)
theorem dX20_done_5 : decode cX20_done 5 = .ok (.invokevirtual 13, 3) := dk_182 0 13 (dk_at dksX20_done_0 5 rfl rfl)
theorem dX20_done_8 : decode cX20_done 8 = .ok (.ireturn, 1) := dk_172 (dk_at dksX20_done_0 8 rfl rfl)
theorem q534 : (Jvm.Cond.selects "FlintMine$Act$7" ({ cls := "java/lang/Object", name := "getClass", desc := "()Ljava/lang/Class;" } : Jvm.MethodName) ({ cls := "java/lang/Object", name := "getClass", desc := "()Ljava/lang/Class;" } : Jvm.MethodName)) ∈ lw_all := lw_g (lw_at lw_m2 217 rfl) rfl
theorem q925 : (Jvm.Cond.selects "FlintMine$Act$7" ({ cls := "FlintMine$Act", name := "done", desc := "(LFlintMine$Mine;[I)I" } : Jvm.MethodName) ({ cls := "FlintMine$Act$7", name := "done", desc := "(LFlintMine$Mine;[I)I" } : Jvm.MethodName)) ∈ lw_all := lw_g (lw_at lw_m4 128 rfl) rfl
theorem q926 : (Jvm.Cond.instanceMethod ({ cls := "FlintMine$Act$7", name := "done", desc := "(LFlintMine$Mine;[I)I" } : Jvm.MethodName)) ∈ lw_all := lw_g (lw_at lw_m4 129 rfl) rfl
theorem q927 : (Jvm.Cond.code ({ cls := "FlintMine$Act$7", name := "done", desc := "(LFlintMine$Mine;[I)I" } : Jvm.MethodName) prog_9_method_2_code (3 : Nat) (Option.some Jvm.ClassFile.FieldType.int)) ∈ lw_all := lw_g (lw_at lw_m4 130 rfl) rfl
theorem q928 : (Jvm.Cond.methodLinkNest "FlintMine$Act$7" (7 : Nat) ({ cls := "FlintMine", name := "cellOf", desc := "([I)I" } : Jvm.MethodName) "FlintMine") ∈ lw_tbl := lw_at lw_m4 131 rfl
theorem q929 : (Jvm.Cond.methodLink "FlintMine$Act$7" (13 : Nat) ({ cls := "FlintMine$Mine", name := "prop", desc := "(I)I" } : Jvm.MethodName)) ∈ lw_all := lw_g (lw_at lw_m4 132 rfl) rfl
theorem q2314 : (Jvm.Cond.castable "FlintMine$Act$7" "java/lang/Object") ∈ lw_tbl := lw_at lw_m10 77 rfl
/-! FlintMine$Act$8 -/
set_option maxRecDepth 100000
def RX21 : String := "FlintMine$Act$8"
abbrev cX21_done : ByteArray := prog_10_method_2_code
def yX21_done : MethodName := ⟨RX21, "done", "(LFlintMine$Mine;[I)I"⟩
def dkwX21_done_0 : List UInt8 := [43, 44, 184, 0, 7, 182, 0, 13, 172]
abbrev dktX21_done_0 : List UInt8 := dkwX21_done_0 ++ []
theorem dksX21_done_0 : cX21_done.data.toList.drop 0 = dktX21_done_0 := by decide +kernel
theorem dX21_done_0 : decode cX21_done 0 = .ok (.aload_n 1, 1) := dk_43 (dk_at dksX21_done_0 0 rfl rfl)
theorem dX21_done_1 : decode cX21_done 1 = .ok (.aload_n 2, 1) := dk_44 (dk_at dksX21_done_0 1 rfl rfl)
theorem dX21_done_2 : decode cX21_done 2 = .ok (.invokestatic 7, 3) := dk_184 0 7 (dk_at dksX21_done_0 2 rfl rfl)
theorem dX21_done_5 : decode cX21_done 5 = .ok (.invokevirtual 13, 3) := dk_182 0 13 (dk_at dksX21_done_0 5 rfl rfl)
theorem dX21_done_8 : decode cX21_done 8 = .ok (.ireturn, 1) := dk_172 (dk_at dksX21_done_0 8 rfl rfl)
theorem q535 : (Jvm.Cond.selects "FlintMine$Act$8" ({ cls := "java/lang/Object", name := "getClass", desc := "()Ljava/lang/Class;" } : Jvm.MethodName) ({ cls := "java/lang/Object", name := "getClass", desc := "()Ljava/lang/Class;" } : Jvm.MethodName)) ∈ lw_all := lw_g (lw_at lw_m2 218 rfl) rfl
theorem q937 : (Jvm.Cond.selects "FlintMine$Act$8" ({ cls := "FlintMine$Act", name := "done", desc := "(LFlintMine$Mine;[I)I" } : Jvm.MethodName) ({ cls := "FlintMine$Act$8", name := "done", desc := "(LFlintMine$Mine;[I)I" } : Jvm.MethodName)) ∈ lw_all := lw_g (lw_at lw_m4 140 rfl) rfl
theorem q938 : (Jvm.Cond.instanceMethod ({ cls := "FlintMine$Act$8", name := "done", desc := "(LFlintMine$Mine;[I)I" } : Jvm.MethodName)) ∈ lw_all := lw_g (lw_at lw_m4 141 rfl) rfl
theorem q939 : (Jvm.Cond.code ({ cls := "FlintMine$Act$8", name := "done", desc := "(LFlintMine$Mine;[I)I" } : Jvm.MethodName) prog_10_method_2_code (3 : Nat) (Option.some Jvm.ClassFile.FieldType.int)) ∈ lw_all := lw_g (lw_at lw_m4 142 rfl) rfl
theorem q940 : (Jvm.Cond.methodLinkNest "FlintMine$Act$8" (7 : Nat) ({ cls := "FlintMine", name := "cellOf", desc := "([I)I" } : Jvm.MethodName) "FlintMine") ∈ lw_tbl := lw_at lw_m4 143 rfl
theorem q941 : (Jvm.Cond.methodLink "FlintMine$Act$8" (13 : Nat) ({ cls := "FlintMine$Mine", name := "unprop", desc := "(I)I" } : Jvm.MethodName)) ∈ lw_all := lw_g (lw_at lw_m4 144 rfl) rfl
theorem q2315 : (Jvm.Cond.castable "FlintMine$Act$8" "java/lang/Object") ∈ lw_tbl := lw_at lw_m10 78 rfl
/-! FlintMine$Act$9 -/
set_option maxRecDepth 100000
def RX22 : String := "FlintMine$Act$9"
abbrev cX22_done : ByteArray := prog_11_method_2_code
def yX22_done : MethodName := ⟨RX22, "done", "(LFlintMine$Mine;[I)I"⟩
def dkwX22_done_0 : List UInt8 := [43, 44, 3, 46, 182, 0, 7, 172]
abbrev dktX22_done_0 : List UInt8 := dkwX22_done_0 ++ []
theorem dksX22_done_0 : cX22_done.data.toList.drop 0 = dktX22_done_0 := by decide +kernel
theorem dX22_done_0 : decode cX22_done 0 = .ok (.aload_n 1, 1) := dk_43 (dk_at dksX22_done_0 0 rfl rfl)
theorem dX22_done_1 : decode cX22_done 1 = .ok (.aload_n 2, 1) := dk_44 (dk_at dksX22_done_0 1 rfl rfl)
theorem dX22_done_2 : decode cX22_done 2 = .ok (.iconst 0, 1) := dk_3 (dk_at dksX22_done_0 2 rfl rfl)
theorem dX22_done_3 : decode cX22_done 3 = .ok (.iaload, 1) := dk_46 (dk_at dksX22_done_0 3 rfl rfl)
theorem dX22_done_4 : decode cX22_done 4 = .ok (.invokevirtual 7, 3) := dk_182 0 7 (dk_at dksX22_done_0 4 rfl rfl)
theorem dX22_done_7 : decode cX22_done 7 = .ok (.ireturn, 1) := dk_172 (dk_at dksX22_done_0 7 rfl rfl)
theorem q536 : (Jvm.Cond.selects "FlintMine$Act$9" ({ cls := "java/lang/Object", name := "getClass", desc := "()Ljava/lang/Class;" } : Jvm.MethodName) ({ cls := "java/lang/Object", name := "getClass", desc := "()Ljava/lang/Class;" } : Jvm.MethodName)) ∈ lw_all := lw_g (lw_at lw_m2 219 rfl) rfl
theorem q946 : (Jvm.Cond.selects "FlintMine$Act$9" ({ cls := "FlintMine$Act", name := "done", desc := "(LFlintMine$Mine;[I)I" } : Jvm.MethodName) ({ cls := "FlintMine$Act$9", name := "done", desc := "(LFlintMine$Mine;[I)I" } : Jvm.MethodName)) ∈ lw_all := lw_g (lw_at lw_m4 149 rfl) rfl
theorem q947 : (Jvm.Cond.instanceMethod ({ cls := "FlintMine$Act$9", name := "done", desc := "(LFlintMine$Mine;[I)I" } : Jvm.MethodName)) ∈ lw_all := lw_g (lw_at lw_m4 150 rfl) rfl
theorem q948 : (Jvm.Cond.code ({ cls := "FlintMine$Act$9", name := "done", desc := "(LFlintMine$Mine;[I)I" } : Jvm.MethodName) prog_11_method_2_code (3 : Nat) (Option.some Jvm.ClassFile.FieldType.int)) ∈ lw_all := lw_g (lw_at lw_m4 151 rfl) rfl
theorem q949 : (Jvm.Cond.methodLink "FlintMine$Act$9" (7 : Nat) ({ cls := "FlintMine$Mine", name := "close", desc := "(I)I" } : Jvm.MethodName)) ∈ lw_all := lw_g (lw_at lw_m4 152 rfl) rfl
theorem q2316 : (Jvm.Cond.castable "FlintMine$Act$9" "java/lang/Object") ∈ lw_tbl := lw_at lw_m10 79 rfl
theorem q96 : (Jvm.Cond.initialized "FlintMine$Act") ∈ lw_all := lw_g (lw_at lw_m1 19 rfl) rfl
set_option maxRecDepth 100000
theorem q650 : (Jvm.Cond.laysStatic "FlintMine$Act" "ROCK" "LFlintMine$Act;") ∈ lw_tbl := lw_at lw_m3 93 rfl
theorem q657 : (Jvm.Cond.declares ({ cls := "FlintMine$Act", name := "done", desc := "(LFlintMine$Mine;[I)I" } : Jvm.MethodName)) ∈ lw_tbl := lw_at lw_m3 100 rfl
theorem q658 : (Jvm.Cond.sameMethod "FlintMine$Act" "FlintMine$Act" "done" "(LFlintMine$Mine;[I)I") ∈ lw_all := lw_g (lw_at lw_m3 101 rfl) rfl
theorem q1065 : (Jvm.Cond.laysStatic "FlintMine$Act" "ROOF" "LFlintMine$Act;") ∈ lw_tbl := lw_at lw_m5 28 rfl
theorem q1074 : (Jvm.Cond.laysStatic "FlintMine$Act" "PROPS" "LFlintMine$Act;") ∈ lw_tbl := lw_at lw_m5 37 rfl
theorem q1083 : (Jvm.Cond.laysStatic "FlintMine$Act" "PICK" "LFlintMine$Act;") ∈ lw_tbl := lw_at lw_m5 46 rfl
theorem q1164 : (Jvm.Cond.laysStatic "FlintMine$Act" "SINK" "LFlintMine$Act;") ∈ lw_tbl := lw_at lw_m5 127 rfl
theorem q1173 : (Jvm.Cond.laysStatic "FlintMine$Act" "DIG" "LFlintMine$Act;") ∈ lw_tbl := lw_at lw_m5 136 rfl
theorem q1182 : (Jvm.Cond.laysStatic "FlintMine$Act" "PROP" "LFlintMine$Act;") ∈ lw_tbl := lw_at lw_m5 145 rfl
theorem q1191 : (Jvm.Cond.laysStatic "FlintMine$Act" "UNPROP" "LFlintMine$Act;") ∈ lw_tbl := lw_at lw_m5 154 rfl
theorem q1200 : (Jvm.Cond.laysStatic "FlintMine$Act" "CLOSE" "LFlintMine$Act;") ∈ lw_tbl := lw_at lw_m5 163 rfl
theorem q2332 : (Jvm.Cond.castable "FlintMine$Act" "java/lang/Object") ∈ lw_tbl := lw_at lw_m10 95 rfl
theorem q1413 : (Jvm.Cond.sameMethod "[B" "java/lang/Object" "clone" "()Ljava/lang/Object;") ∈ lw_all := lw_g (lw_at lw_m6 136 rfl) rfl
set_option maxRecDepth 100000
theorem q1416 : (Jvm.Cond.selects "[B" ({ cls := "[B", name := "clone", desc := "()Ljava/lang/Object;" } : Jvm.MethodName) ({ cls := "java/lang/Object", name := "clone", desc := "()Ljava/lang/Object;" } : Jvm.MethodName)) ∈ lw_all := lw_g (lw_at lw_m6 139 rfl) rfl
theorem q1417 : (Jvm.Cond.castable "[B" "java/lang/Cloneable") ∈ lw_tbl := lw_at lw_m6 140 rfl
theorem q2336 : (Jvm.Cond.castable "[B" "java/lang/Object") ∈ lw_tbl := lw_at lw_m10 99 rfl
theorem q2339 : (Jvm.Cond.castable "[C" "java/lang/Object") ∈ lw_tbl := lw_at lw_m10 102 rfl
set_option maxRecDepth 100000
theorem q2341 : (Jvm.Cond.castable "[D" "java/lang/Object") ∈ lw_tbl := lw_at lw_m10 104 rfl
set_option maxRecDepth 100000
theorem q2335 : (Jvm.Cond.castable "[I" "java/lang/Object") ∈ lw_tbl := lw_at lw_m10 98 rfl
set_option maxRecDepth 100000
theorem q2340 : (Jvm.Cond.castable "[J" "java/lang/Object") ∈ lw_tbl := lw_at lw_m10 103 rfl
set_option maxRecDepth 100000
theorem q2333 : (Jvm.Cond.castable "[LFlintMine$Ground;" "java/lang/Object") ∈ lw_tbl := lw_at lw_m10 96 rfl
set_option maxRecDepth 100000
theorem q2329 : (Jvm.Cond.sameMethod "[Ljava/lang/Object;" "java/lang/Object" "getClass" "()Ljava/lang/Class;") ∈ lw_all := lw_g (lw_at lw_m10 92 rfl) rfl
set_option maxRecDepth 100000
theorem q2330 : (Jvm.Cond.selects "[Ljava/lang/Object;" ({ cls := "java/lang/Object", name := "getClass", desc := "()Ljava/lang/Class;" } : Jvm.MethodName) ({ cls := "java/lang/Object", name := "getClass", desc := "()Ljava/lang/Class;" } : Jvm.MethodName)) ∈ lw_all := lw_g (lw_at lw_m10 93 rfl) rfl
theorem q2334 : (Jvm.Cond.castable "[Ljava/lang/Object;" "java/lang/Object") ∈ lw_tbl := lw_at lw_m10 97 rfl
theorem q2337 : (Jvm.Cond.castable "[Z" "java/lang/Object") ∈ lw_tbl := lw_at lw_m10 100 rfl
set_option maxRecDepth 100000
theorem q2338 : (Jvm.Cond.castable "[[I" "java/lang/Object") ∈ lw_tbl := lw_at lw_m10 101 rfl
set_option maxRecDepth 100000
theorem q95 : (Jvm.Cond.initialized "java/lang/Enum") ∈ lw_all := lw_g (lw_at lw_m1 18 rfl) rfl
set_option maxRecDepth 100000
theorem q107 : (Jvm.Cond.initialized "java/lang/Integer$IntegerCache") ∈ lw_all := lw_g (lw_at lw_m1 30 rfl) rfl
set_option maxRecDepth 100000
theorem q763 : (Jvm.Cond.laysStatic "java/lang/Integer$IntegerCache" "high" "I") ∈ lw_tbl := lw_at lw_m3 206 rfl
theorem q765 : (Jvm.Cond.laysStatic "java/lang/Integer$IntegerCache" "cache" "[Ljava/lang/Integer;") ∈ lw_tbl := lw_at lw_m3 208 rfl
theorem q97 : (Jvm.Cond.initialized "java/lang/System") ∈ lw_all := lw_g (lw_at lw_m1 20 rfl) rfl
set_option maxRecDepth 100000
theorem q366 : (Jvm.Cond.static ({ cls := "java/lang/System", name := "arraycopy", desc := "(Ljava/lang/Object;ILjava/lang/Object;II)V" } : Jvm.MethodName)) ∈ lw_all := lw_g (lw_at lw_m2 49 rfl) rfl
theorem q367 : (Jvm.Cond.native ({ cls := "java/lang/System", name := "arraycopy", desc := "(Ljava/lang/Object;ILjava/lang/Object;II)V" } : Jvm.MethodName)) ∈ lw_all := lw_g (lw_at lw_m2 50 rfl) rfl
theorem q399 : (Jvm.Cond.interfaceMethod "java/util/Iterator" "java/util/Iterator" "hasNext" "()Z") ∈ lw_tbl := lw_at lw_m2 82 rfl
set_option maxRecDepth 100000
theorem q400 : (Jvm.Cond.declares ({ cls := "java/util/Iterator", name := "hasNext", desc := "()Z" } : Jvm.MethodName)) ∈ lw_tbl := lw_at lw_m2 83 rfl
theorem q409 : (Jvm.Cond.interfaceMethod "java/util/Iterator" "java/util/Iterator" "next" "()Ljava/lang/Object;") ∈ lw_tbl := lw_at lw_m2 92 rfl
theorem q410 : (Jvm.Cond.declares ({ cls := "java/util/Iterator", name := "next", desc := "()Ljava/lang/Object;" } : Jvm.MethodName)) ∈ lw_tbl := lw_at lw_m2 93 rfl
theorem q370 : (Jvm.Cond.interfaceMethod "java/util/List" "java/util/List" "iterator" "()Ljava/util/Iterator;") ∈ lw_tbl := lw_at lw_m2 53 rfl
set_option maxRecDepth 100000
theorem q371 : (Jvm.Cond.declares ({ cls := "java/util/List", name := "iterator", desc := "()Ljava/util/Iterator;" } : Jvm.MethodName)) ∈ lw_tbl := lw_at lw_m2 54 rfl
theorem q494 : (Jvm.Cond.interfaceMethod "java/util/List" "java/util/List" "add" "(Ljava/lang/Object;)Z") ∈ lw_tbl := lw_at lw_m2 177 rfl
theorem q495 : (Jvm.Cond.declares ({ cls := "java/util/List", name := "add", desc := "(Ljava/lang/Object;)Z" } : Jvm.MethodName)) ∈ lw_tbl := lw_at lw_m2 178 rfl
theorem q577 : (Jvm.Cond.interfaceMethod "java/util/List" "java/util/List" "size" "()I") ∈ lw_tbl := lw_at lw_m3 20 rfl
theorem q578 : (Jvm.Cond.declares ({ cls := "java/util/List", name := "size", desc := "()I" } : Jvm.MethodName)) ∈ lw_tbl := lw_at lw_m3 21 rfl
theorem q830 : (Jvm.Cond.interfaceMethod "java/util/List" "java/util/List" "get" "(I)Ljava/lang/Object;") ∈ lw_tbl := lw_at lw_m4 33 rfl
theorem q831 : (Jvm.Cond.declares ({ cls := "java/util/List", name := "get", desc := "(I)Ljava/lang/Object;" } : Jvm.MethodName)) ∈ lw_tbl := lw_at lw_m4 34 rfl
theorem q857 : (Jvm.Cond.interfaceMethod "java/util/List" "java/util/List" "set" "(ILjava/lang/Object;)Ljava/lang/Object;") ∈ lw_tbl := lw_at lw_m4 60 rfl
theorem q858 : (Jvm.Cond.declares ({ cls := "java/util/List", name := "set", desc := "(ILjava/lang/Object;)Ljava/lang/Object;" } : Jvm.MethodName)) ∈ lw_tbl := lw_at lw_m4 61 rfl
theorem q866 : (Jvm.Cond.interfaceMethod "java/util/List" "java/util/List" "remove" "(I)Ljava/lang/Object;") ∈ lw_tbl := lw_at lw_m4 69 rfl
theorem q867 : (Jvm.Cond.declares ({ cls := "java/util/List", name := "remove", desc := "(I)Ljava/lang/Object;" } : Jvm.MethodName)) ∈ lw_tbl := lw_at lw_m4 70 rfl
theorem q137 : (Jvm.Cond.arrayOver (Jvm.ClassFile.FieldType.object "FlintMine$Ground")) ∈ lw_tbl := lw_at lw_m1 60 rfl
set_option maxRecDepth 100000
theorem q225 : (Jvm.Cond.arrayOver (Jvm.ClassFile.FieldType.object "java/lang/Object")) ∈ lw_tbl := lw_at lw_m1 148 rfl
theorem q236 : (Jvm.Cond.arrayClass Jvm.ClassFile.FieldType.int) ∈ lw_all := lw_g (lw_at lw_m1 159 rfl) rfl
theorem q269 : (Jvm.Cond.arrayClass Jvm.ClassFile.FieldType.byte) ∈ lw_all := lw_g (lw_at lw_m1 192 rfl) rfl
theorem q681 : (Jvm.Cond.arrayClass Jvm.ClassFile.FieldType.boolean) ∈ lw_all := lw_g (lw_at lw_m3 124 rfl) rfl
theorem q1885 : (Jvm.Cond.arrayOver (Jvm.ClassFile.FieldType.array Jvm.ClassFile.FieldType.int)) ∈ lw_tbl := lw_at lw_m8 128 rfl
theorem q1950 : (Jvm.Cond.arrayClass Jvm.ClassFile.FieldType.char) ∈ lw_all := lw_g (lw_at lw_m8 193 rfl) rfl
theorem q2272 : (Jvm.Cond.arrayClass Jvm.ClassFile.FieldType.long) ∈ lw_all := lw_g (lw_at lw_m10 35 rfl) rfl
theorem q2273 : (Jvm.Cond.arrayClass Jvm.ClassFile.FieldType.double) ∈ lw_all := lw_g (lw_at lw_m10 36 rfl) rfl
