/-! FlintMineLaw -/
set_option maxRecDepth 100000
def RX0 : String := "FlintMineLaw"
abbrev cX0_rock : ByteArray := method_3_code
def yX0_rock : MethodName := ⟨RX0, "rock", "(LFlintMine;III[J)I"⟩
def dkwX0_rock_1 : List UInt8 := [58, 5, 6, 172, 3, 172]
abbrev dktX0_rock_1 : List UInt8 := dkwX0_rock_1 ++ []
def dkwX0_rock_0 : List UInt8 := [25, 4, 3, 42, 27, 28, 29, 182, 0, 7, 133, 80, 167, 0, 15, 58, 5, 4, 172, 58, 5, 5, 172]
abbrev dktX0_rock_0 : List UInt8 := dkwX0_rock_0 ++ dktX0_rock_1
theorem dksX0_rock_0 : cX0_rock.data.toList.drop 0 = dktX0_rock_0 := by decide +kernel
theorem dksX0_rock_1 : cX0_rock.data.toList.drop 23 = dktX0_rock_1 := dk_seg dksX0_rock_0 23 rfl rfl
theorem dX0_rock_0 : decode cX0_rock 0 = .ok (.aload 4, 2) := dk_25 4 (dk_at dksX0_rock_0 0 rfl rfl)
theorem dX0_rock_2 : decode cX0_rock 2 = .ok (.iconst 0, 1) := dk_3 (dk_at dksX0_rock_0 2 rfl rfl)
theorem dX0_rock_3 : decode cX0_rock 3 = .ok (.aload_n 0, 1) := dk_42 (dk_at dksX0_rock_0 3 rfl rfl)
theorem dX0_rock_4 : decode cX0_rock 4 = .ok (.iload_n 1, 1) := dk_27 (dk_at dksX0_rock_0 4 rfl rfl)
theorem dX0_rock_5 : decode cX0_rock 5 = .ok (.iload_n 2, 1) := dk_28 (dk_at dksX0_rock_0 5 rfl rfl)
theorem dX0_rock_6 : decode cX0_rock 6 = .ok (.iload_n 3, 1) := dk_29 (dk_at dksX0_rock_0 6 rfl rfl)
theorem dX0_rock_7 : decode cX0_rock 7 = .ok (.invokevirtual 7, 3) := dk_182 0 7 (dk_at dksX0_rock_0 7 rfl rfl)
theorem dX0_rock_10 : decode cX0_rock 10 = .ok (.i2l, 1) := dk_133 (dk_at dksX0_rock_0 10 rfl rfl)
theorem dX0_rock_11 : decode cX0_rock 11 = .ok (.lastore, 1) := dk_80 (dk_at dksX0_rock_0 11 rfl rfl)
theorem dX0_rock_12 : decode cX0_rock 12 = .ok (.goto 15, 3) := dk_167 0 15 (dk_at dksX0_rock_0 12 rfl rfl)
theorem dX0_rock_15 : decode cX0_rock 15 = .ok (.astore 5, 2) := dk_58 5 (dk_at dksX0_rock_0 15 rfl rfl)
theorem dX0_rock_17 : decode cX0_rock 17 = .ok (.iconst 1, 1) := dk_4 (dk_at dksX0_rock_0 17 rfl rfl)
theorem dX0_rock_18 : decode cX0_rock 18 = .ok (.ireturn, 1) := dk_172 (dk_at dksX0_rock_0 18 rfl rfl)
theorem dX0_rock_19 : decode cX0_rock 19 = .ok (.astore 5, 2) := dk_58 5 (dk_at dksX0_rock_0 19 rfl rfl)
theorem dX0_rock_21 : decode cX0_rock 21 = .ok (.iconst 2, 1) := dk_5 (dk_at dksX0_rock_0 21 rfl rfl)
theorem dX0_rock_22 : decode cX0_rock 22 = .ok (.ireturn, 1) := dk_172 (dk_at dksX0_rock_0 22 rfl rfl)
theorem dX0_rock_23 : decode cX0_rock 23 = .ok (.astore 5, 2) := dk_58 5 (dk_at dksX0_rock_1 0 rfl rfl)
theorem dX0_rock_25 : decode cX0_rock 25 = .ok (.iconst 3, 1) := dk_6 (dk_at dksX0_rock_1 2 rfl rfl)
theorem dX0_rock_26 : decode cX0_rock 26 = .ok (.ireturn, 1) := dk_172 (dk_at dksX0_rock_1 3 rfl rfl)
theorem dX0_rock_27 : decode cX0_rock 27 = .ok (.iconst 0, 1) := dk_3 (dk_at dksX0_rock_1 4 rfl rfl)
theorem dX0_rock_28 : decode cX0_rock 28 = .ok (.ireturn, 1) := dk_172 (dk_at dksX0_rock_1 5 rfl rfl)
abbrev cX0_roof : ByteArray := method_4_code
def yX0_roof : MethodName := ⟨RX0, "roof", "(LFlintMine;I[J)I"⟩
def dkwX0_roof_0 : List UInt8 := [44, 3, 42, 27, 182, 0, 19, 133, 80, 167, 0, 9, 78, 4, 172, 78, 5, 172, 3, 172]
abbrev dktX0_roof_0 : List UInt8 := dkwX0_roof_0 ++ []
theorem dksX0_roof_0 : cX0_roof.data.toList.drop 0 = dktX0_roof_0 := by decide +kernel
theorem dX0_roof_0 : decode cX0_roof 0 = .ok (.aload_n 2, 1) := dk_44 (dk_at dksX0_roof_0 0 rfl rfl)
theorem dX0_roof_1 : decode cX0_roof 1 = .ok (.iconst 0, 1) := dk_3 (dk_at dksX0_roof_0 1 rfl rfl)
theorem dX0_roof_2 : decode cX0_roof 2 = .ok (.aload_n 0, 1) := dk_42 (dk_at dksX0_roof_0 2 rfl rfl)
theorem dX0_roof_3 : decode cX0_roof 3 = .ok (.iload_n 1, 1) := dk_27 (dk_at dksX0_roof_0 3 rfl rfl)
theorem dX0_roof_4 : decode cX0_roof 4 = .ok (.invokevirtual 19, 3) := dk_182 0 19 (dk_at dksX0_roof_0 4 rfl rfl)
theorem dX0_roof_7 : decode cX0_roof 7 = .ok (.i2l, 1) := dk_133 (dk_at dksX0_roof_0 7 rfl rfl)
theorem dX0_roof_8 : decode cX0_roof 8 = .ok (.lastore, 1) := dk_80 (dk_at dksX0_roof_0 8 rfl rfl)
theorem dX0_roof_9 : decode cX0_roof 9 = .ok (.goto 9, 3) := dk_167 0 9 (dk_at dksX0_roof_0 9 rfl rfl)
theorem dX0_roof_12 : decode cX0_roof 12 = .ok (.astore_n 3, 1) := dk_78 (dk_at dksX0_roof_0 12 rfl rfl)
theorem dX0_roof_13 : decode cX0_roof 13 = .ok (.iconst 1, 1) := dk_4 (dk_at dksX0_roof_0 13 rfl rfl)
theorem dX0_roof_14 : decode cX0_roof 14 = .ok (.ireturn, 1) := dk_172 (dk_at dksX0_roof_0 14 rfl rfl)
theorem dX0_roof_15 : decode cX0_roof 15 = .ok (.astore_n 3, 1) := dk_78 (dk_at dksX0_roof_0 15 rfl rfl)
theorem dX0_roof_16 : decode cX0_roof 16 = .ok (.iconst 2, 1) := dk_5 (dk_at dksX0_roof_0 16 rfl rfl)
theorem dX0_roof_17 : decode cX0_roof 17 = .ok (.ireturn, 1) := dk_172 (dk_at dksX0_roof_0 17 rfl rfl)
theorem dX0_roof_18 : decode cX0_roof 18 = .ok (.iconst 0, 1) := dk_3 (dk_at dksX0_roof_0 18 rfl rfl)
theorem dX0_roof_19 : decode cX0_roof 19 = .ok (.ireturn, 1) := dk_172 (dk_at dksX0_roof_0 19 rfl rfl)
abbrev cX0_props : ByteArray := method_5_code
def yX0_props : MethodName := ⟨RX0, "props", "(LFlintMine;I[J)I"⟩
def dkwX0_props_0 : List UInt8 := [44, 3, 42, 27, 182, 0, 23, 133, 80, 167, 0, 6, 78, 4, 172, 3, 172]
abbrev dktX0_props_0 : List UInt8 := dkwX0_props_0 ++ []
theorem dksX0_props_0 : cX0_props.data.toList.drop 0 = dktX0_props_0 := by decide +kernel
theorem dX0_props_0 : decode cX0_props 0 = .ok (.aload_n 2, 1) := dk_44 (dk_at dksX0_props_0 0 rfl rfl)
theorem dX0_props_1 : decode cX0_props 1 = .ok (.iconst 0, 1) := dk_3 (dk_at dksX0_props_0 1 rfl rfl)
theorem dX0_props_2 : decode cX0_props 2 = .ok (.aload_n 0, 1) := dk_42 (dk_at dksX0_props_0 2 rfl rfl)
theorem dX0_props_3 : decode cX0_props 3 = .ok (.iload_n 1, 1) := dk_27 (dk_at dksX0_props_0 3 rfl rfl)
theorem dX0_props_4 : decode cX0_props 4 = .ok (.invokevirtual 23, 3) := dk_182 0 23 (dk_at dksX0_props_0 4 rfl rfl)
theorem dX0_props_7 : decode cX0_props 7 = .ok (.i2l, 1) := dk_133 (dk_at dksX0_props_0 7 rfl rfl)
theorem dX0_props_8 : decode cX0_props 8 = .ok (.lastore, 1) := dk_80 (dk_at dksX0_props_0 8 rfl rfl)
theorem dX0_props_9 : decode cX0_props 9 = .ok (.goto 6, 3) := dk_167 0 6 (dk_at dksX0_props_0 9 rfl rfl)
theorem dX0_props_12 : decode cX0_props 12 = .ok (.astore_n 3, 1) := dk_78 (dk_at dksX0_props_0 12 rfl rfl)
theorem dX0_props_13 : decode cX0_props 13 = .ok (.iconst 1, 1) := dk_4 (dk_at dksX0_props_0 13 rfl rfl)
theorem dX0_props_14 : decode cX0_props 14 = .ok (.ireturn, 1) := dk_172 (dk_at dksX0_props_0 14 rfl rfl)
theorem dX0_props_15 : decode cX0_props 15 = .ok (.iconst 0, 1) := dk_3 (dk_at dksX0_props_0 15 rfl rfl)
theorem dX0_props_16 : decode cX0_props 16 = .ok (.ireturn, 1) := dk_172 (dk_at dksX0_props_0 16 rfl rfl)
abbrev cX0_pick : ByteArray := method_6_code
def yX0_pick : MethodName := ⟨RX0, "pick", "(LFlintMine;I[J)I"⟩
def dkwX0_pick_0 : List UInt8 := [44, 3, 42, 27, 182, 0, 26, 133, 80, 167, 0, 9, 78, 4, 172, 78, 5, 172, 3, 172]
abbrev dktX0_pick_0 : List UInt8 := dkwX0_pick_0 ++ []
theorem dksX0_pick_0 : cX0_pick.data.toList.drop 0 = dktX0_pick_0 := by decide +kernel
theorem dX0_pick_0 : decode cX0_pick 0 = .ok (.aload_n 2, 1) := dk_44 (dk_at dksX0_pick_0 0 rfl rfl)
theorem dX0_pick_1 : decode cX0_pick 1 = .ok (.iconst 0, 1) := dk_3 (dk_at dksX0_pick_0 1 rfl rfl)
theorem dX0_pick_2 : decode cX0_pick 2 = .ok (.aload_n 0, 1) := dk_42 (dk_at dksX0_pick_0 2 rfl rfl)
theorem dX0_pick_3 : decode cX0_pick 3 = .ok (.iload_n 1, 1) := dk_27 (dk_at dksX0_pick_0 3 rfl rfl)
theorem dX0_pick_4 : decode cX0_pick 4 = .ok (.invokevirtual 26, 3) := dk_182 0 26 (dk_at dksX0_pick_0 4 rfl rfl)
theorem dX0_pick_7 : decode cX0_pick 7 = .ok (.i2l, 1) := dk_133 (dk_at dksX0_pick_0 7 rfl rfl)
theorem dX0_pick_8 : decode cX0_pick 8 = .ok (.lastore, 1) := dk_80 (dk_at dksX0_pick_0 8 rfl rfl)
theorem dX0_pick_9 : decode cX0_pick 9 = .ok (.goto 9, 3) := dk_167 0 9 (dk_at dksX0_pick_0 9 rfl rfl)
theorem dX0_pick_12 : decode cX0_pick 12 = .ok (.astore_n 3, 1) := dk_78 (dk_at dksX0_pick_0 12 rfl rfl)
theorem dX0_pick_13 : decode cX0_pick 13 = .ok (.iconst 1, 1) := dk_4 (dk_at dksX0_pick_0 13 rfl rfl)
theorem dX0_pick_14 : decode cX0_pick 14 = .ok (.ireturn, 1) := dk_172 (dk_at dksX0_pick_0 14 rfl rfl)
theorem dX0_pick_15 : decode cX0_pick 15 = .ok (.astore_n 3, 1) := dk_78 (dk_at dksX0_pick_0 15 rfl rfl)
theorem dX0_pick_16 : decode cX0_pick 16 = .ok (.iconst 2, 1) := dk_5 (dk_at dksX0_pick_0 16 rfl rfl)
theorem dX0_pick_17 : decode cX0_pick 17 = .ok (.ireturn, 1) := dk_172 (dk_at dksX0_pick_0 17 rfl rfl)
theorem dX0_pick_18 : decode cX0_pick 18 = .ok (.iconst 0, 1) := dk_3 (dk_at dksX0_pick_0 18 rfl rfl)
theorem dX0_pick_19 : decode cX0_pick 19 = .ok (.ireturn, 1) := dk_172 (dk_at dksX0_pick_0 19 rfl rfl)
abbrev cX0_edge : ByteArray := method_7_code
def yX0_edge : MethodName := ⟨RX0, "edge", "(LFlintMine;I[J)I"⟩
def dkwX0_edge_0 : List UInt8 := [44, 3, 42, 27, 182, 0, 29, 133, 80, 167, 0, 6, 78, 4, 172, 3, 172]
abbrev dktX0_edge_0 : List UInt8 := dkwX0_edge_0 ++ []
theorem dksX0_edge_0 : cX0_edge.data.toList.drop 0 = dktX0_edge_0 := by decide +kernel
theorem dX0_edge_0 : decode cX0_edge 0 = .ok (.aload_n 2, 1) := dk_44 (dk_at dksX0_edge_0 0 rfl rfl)
theorem dX0_edge_1 : decode cX0_edge 1 = .ok (.iconst 0, 1) := dk_3 (dk_at dksX0_edge_0 1 rfl rfl)
theorem dX0_edge_2 : decode cX0_edge 2 = .ok (.aload_n 0, 1) := dk_42 (dk_at dksX0_edge_0 2 rfl rfl)
theorem dX0_edge_3 : decode cX0_edge 3 = .ok (.iload_n 1, 1) := dk_27 (dk_at dksX0_edge_0 3 rfl rfl)
theorem dX0_edge_4 : decode cX0_edge 4 = .ok (.invokevirtual 29, 3) := dk_182 0 29 (dk_at dksX0_edge_0 4 rfl rfl)
theorem dX0_edge_7 : decode cX0_edge 7 = .ok (.i2l, 1) := dk_133 (dk_at dksX0_edge_0 7 rfl rfl)
theorem dX0_edge_8 : decode cX0_edge 8 = .ok (.lastore, 1) := dk_80 (dk_at dksX0_edge_0 8 rfl rfl)
theorem dX0_edge_9 : decode cX0_edge 9 = .ok (.goto 6, 3) := dk_167 0 6 (dk_at dksX0_edge_0 9 rfl rfl)
theorem dX0_edge_12 : decode cX0_edge 12 = .ok (.astore_n 3, 1) := dk_78 (dk_at dksX0_edge_0 12 rfl rfl)
theorem dX0_edge_13 : decode cX0_edge 13 = .ok (.iconst 1, 1) := dk_4 (dk_at dksX0_edge_0 13 rfl rfl)
theorem dX0_edge_14 : decode cX0_edge 14 = .ok (.ireturn, 1) := dk_172 (dk_at dksX0_edge_0 14 rfl rfl)
theorem dX0_edge_15 : decode cX0_edge 15 = .ok (.iconst 0, 1) := dk_3 (dk_at dksX0_edge_0 15 rfl rfl)
theorem dX0_edge_16 : decode cX0_edge 16 = .ok (.ireturn, 1) := dk_172 (dk_at dksX0_edge_0 16 rfl rfl)
abbrev cX0_cell : ByteArray := method_8_code
def yX0_cell : MethodName := ⟨RX0, "cell", "(LFlintMine;II[J)I"⟩
def dkwX0_cell_0 : List UInt8 := [45, 3, 42, 27, 28, 182, 0, 32, 133, 80, 167, 0, 11, 58, 4, 4, 172, 58, 4, 5, 172, 3, 172]
abbrev dktX0_cell_0 : List UInt8 := dkwX0_cell_0 ++ []
theorem dksX0_cell_0 : cX0_cell.data.toList.drop 0 = dktX0_cell_0 := by decide +kernel
theorem dX0_cell_0 : decode cX0_cell 0 = .ok (.aload_n 3, 1) := dk_45 (dk_at dksX0_cell_0 0 rfl rfl)
theorem dX0_cell_1 : decode cX0_cell 1 = .ok (.iconst 0, 1) := dk_3 (dk_at dksX0_cell_0 1 rfl rfl)
theorem dX0_cell_2 : decode cX0_cell 2 = .ok (.aload_n 0, 1) := dk_42 (dk_at dksX0_cell_0 2 rfl rfl)
theorem dX0_cell_3 : decode cX0_cell 3 = .ok (.iload_n 1, 1) := dk_27 (dk_at dksX0_cell_0 3 rfl rfl)
theorem dX0_cell_4 : decode cX0_cell 4 = .ok (.iload_n 2, 1) := dk_28 (dk_at dksX0_cell_0 4 rfl rfl)
theorem dX0_cell_5 : decode cX0_cell 5 = .ok (.invokevirtual 32, 3) := dk_182 0 32 (dk_at dksX0_cell_0 5 rfl rfl)
theorem dX0_cell_8 : decode cX0_cell 8 = .ok (.i2l, 1) := dk_133 (dk_at dksX0_cell_0 8 rfl rfl)
theorem dX0_cell_9 : decode cX0_cell 9 = .ok (.lastore, 1) := dk_80 (dk_at dksX0_cell_0 9 rfl rfl)
theorem dX0_cell_10 : decode cX0_cell 10 = .ok (.goto 11, 3) := dk_167 0 11 (dk_at dksX0_cell_0 10 rfl rfl)
theorem dX0_cell_13 : decode cX0_cell 13 = .ok (.astore 4, 2) := dk_58 4 (dk_at dksX0_cell_0 13 rfl rfl)
theorem dX0_cell_15 : decode cX0_cell 15 = .ok (.iconst 1, 1) := dk_4 (dk_at dksX0_cell_0 15 rfl rfl)
theorem dX0_cell_16 : decode cX0_cell 16 = .ok (.ireturn, 1) := dk_172 (dk_at dksX0_cell_0 16 rfl rfl)
theorem dX0_cell_17 : decode cX0_cell 17 = .ok (.astore 4, 2) := dk_58 4 (dk_at dksX0_cell_0 17 rfl rfl)
theorem dX0_cell_19 : decode cX0_cell 19 = .ok (.iconst 2, 1) := dk_5 (dk_at dksX0_cell_0 19 rfl rfl)
theorem dX0_cell_20 : decode cX0_cell 20 = .ok (.ireturn, 1) := dk_172 (dk_at dksX0_cell_0 20 rfl rfl)
theorem dX0_cell_21 : decode cX0_cell 21 = .ok (.iconst 0, 1) := dk_3 (dk_at dksX0_cell_0 21 rfl rfl)
theorem dX0_cell_22 : decode cX0_cell 22 = .ok (.ireturn, 1) := dk_172 (dk_at dksX0_cell_0 22 rfl rfl)
abbrev cX0_span : ByteArray := method_9_code
def yX0_span : MethodName := ⟨RX0, "span", "(LFlintMine;IZ[J)I"⟩
def dkwX0_span_0 : List UInt8 := [45, 3, 42, 27, 28, 182, 0, 36, 133, 80, 167, 0, 7, 58, 4, 4, 172, 3, 172]
abbrev dktX0_span_0 : List UInt8 := dkwX0_span_0 ++ []
theorem dksX0_span_0 : cX0_span.data.toList.drop 0 = dktX0_span_0 := by decide +kernel
theorem dX0_span_0 : decode cX0_span 0 = .ok (.aload_n 3, 1) := dk_45 (dk_at dksX0_span_0 0 rfl rfl)
theorem dX0_span_1 : decode cX0_span 1 = .ok (.iconst 0, 1) := dk_3 (dk_at dksX0_span_0 1 rfl rfl)
theorem dX0_span_2 : decode cX0_span 2 = .ok (.aload_n 0, 1) := dk_42 (dk_at dksX0_span_0 2 rfl rfl)
theorem dX0_span_3 : decode cX0_span 3 = .ok (.iload_n 1, 1) := dk_27 (dk_at dksX0_span_0 3 rfl rfl)
theorem dX0_span_4 : decode cX0_span 4 = .ok (.iload_n 2, 1) := dk_28 (dk_at dksX0_span_0 4 rfl rfl)
theorem dX0_span_5 : decode cX0_span 5 = .ok (.invokevirtual 36, 3) := dk_182 0 36 (dk_at dksX0_span_0 5 rfl rfl)
theorem dX0_span_8 : decode cX0_span 8 = .ok (.i2l, 1) := dk_133 (dk_at dksX0_span_0 8 rfl rfl)
theorem dX0_span_9 : decode cX0_span 9 = .ok (.lastore, 1) := dk_80 (dk_at dksX0_span_0 9 rfl rfl)
theorem dX0_span_10 : decode cX0_span 10 = .ok (.goto 7, 3) := dk_167 0 7 (dk_at dksX0_span_0 10 rfl rfl)
theorem dX0_span_13 : decode cX0_span 13 = .ok (.astore 4, 2) := dk_58 4 (dk_at dksX0_span_0 13 rfl rfl)
theorem dX0_span_15 : decode cX0_span 15 = .ok (.iconst 1, 1) := dk_4 (dk_at dksX0_span_0 15 rfl rfl)
theorem dX0_span_16 : decode cX0_span 16 = .ok (.ireturn, 1) := dk_172 (dk_at dksX0_span_0 16 rfl rfl)
theorem dX0_span_17 : decode cX0_span 17 = .ok (.iconst 0, 1) := dk_3 (dk_at dksX0_span_0 17 rfl rfl)
theorem dX0_span_18 : decode cX0_span 18 = .ok (.ireturn, 1) := dk_172 (dk_at dksX0_span_0 18 rfl rfl)
abbrev cX0_knock : ByteArray := method_10_code
def yX0_knock : MethodName := ⟨RX0, "knock", "(LFlintMine;I[J)I"⟩
def dkwX0_knock_0 : List UInt8 := [44, 3, 42, 27, 182, 0, 40, 133, 80, 167, 0, 9, 78, 4, 172, 78, 5, 172, 3, 172]
abbrev dktX0_knock_0 : List UInt8 := dkwX0_knock_0 ++ []
theorem dksX0_knock_0 : cX0_knock.data.toList.drop 0 = dktX0_knock_0 := by decide +kernel
theorem dX0_knock_0 : decode cX0_knock 0 = .ok (.aload_n 2, 1) := dk_44 (dk_at dksX0_knock_0 0 rfl rfl)
theorem dX0_knock_1 : decode cX0_knock 1 = .ok (.iconst 0, 1) := dk_3 (dk_at dksX0_knock_0 1 rfl rfl)
theorem dX0_knock_2 : decode cX0_knock 2 = .ok (.aload_n 0, 1) := dk_42 (dk_at dksX0_knock_0 2 rfl rfl)
theorem dX0_knock_3 : decode cX0_knock 3 = .ok (.iload_n 1, 1) := dk_27 (dk_at dksX0_knock_0 3 rfl rfl)
theorem dX0_knock_4 : decode cX0_knock 4 = .ok (.invokevirtual 40, 3) := dk_182 0 40 (dk_at dksX0_knock_0 4 rfl rfl)
theorem dX0_knock_7 : decode cX0_knock 7 = .ok (.i2l, 1) := dk_133 (dk_at dksX0_knock_0 7 rfl rfl)
theorem dX0_knock_8 : decode cX0_knock 8 = .ok (.lastore, 1) := dk_80 (dk_at dksX0_knock_0 8 rfl rfl)
theorem dX0_knock_9 : decode cX0_knock 9 = .ok (.goto 9, 3) := dk_167 0 9 (dk_at dksX0_knock_0 9 rfl rfl)
theorem dX0_knock_12 : decode cX0_knock 12 = .ok (.astore_n 3, 1) := dk_78 (dk_at dksX0_knock_0 12 rfl rfl)
theorem dX0_knock_13 : decode cX0_knock 13 = .ok (.iconst 1, 1) := dk_4 (dk_at dksX0_knock_0 13 rfl rfl)
theorem dX0_knock_14 : decode cX0_knock 14 = .ok (.ireturn, 1) := dk_172 (dk_at dksX0_knock_0 14 rfl rfl)
theorem dX0_knock_15 : decode cX0_knock 15 = .ok (.astore_n 3, 1) := dk_78 (dk_at dksX0_knock_0 15 rfl rfl)
theorem dX0_knock_16 : decode cX0_knock 16 = .ok (.iconst 2, 1) := dk_5 (dk_at dksX0_knock_0 16 rfl rfl)
theorem dX0_knock_17 : decode cX0_knock 17 = .ok (.ireturn, 1) := dk_172 (dk_at dksX0_knock_0 17 rfl rfl)
theorem dX0_knock_18 : decode cX0_knock 18 = .ok (.iconst 0, 1) := dk_3 (dk_at dksX0_knock_0 18 rfl rfl)
theorem dX0_knock_19 : decode cX0_knock 19 = .ok (.ireturn, 1) := dk_172 (dk_at dksX0_knock_0 19 rfl rfl)
abbrev cX0_sink : ByteArray := method_11_code
def yX0_sink : MethodName := ⟨RX0, "sink", "(LFlintMine;I[J)I"⟩
def dkwX0_sink_0 : List UInt8 := [44, 3, 42, 27, 182, 0, 45, 133, 80, 167, 0, 9, 78, 4, 172, 78, 5, 172, 3, 172]
abbrev dktX0_sink_0 : List UInt8 := dkwX0_sink_0 ++ []
theorem dksX0_sink_0 : cX0_sink.data.toList.drop 0 = dktX0_sink_0 := by decide +kernel
theorem dX0_sink_0 : decode cX0_sink 0 = .ok (.aload_n 2, 1) := dk_44 (dk_at dksX0_sink_0 0 rfl rfl)
theorem dX0_sink_1 : decode cX0_sink 1 = .ok (.iconst 0, 1) := dk_3 (dk_at dksX0_sink_0 1 rfl rfl)
theorem dX0_sink_2 : decode cX0_sink 2 = .ok (.aload_n 0, 1) := dk_42 (dk_at dksX0_sink_0 2 rfl rfl)
theorem dX0_sink_3 : decode cX0_sink 3 = .ok (.iload_n 1, 1) := dk_27 (dk_at dksX0_sink_0 3 rfl rfl)
theorem dX0_sink_4 : decode cX0_sink 4 = .ok (.invokevirtual 45, 3) := dk_182 0 45 (dk_at dksX0_sink_0 4 rfl rfl)
theorem dX0_sink_7 : decode cX0_sink 7 = .ok (.i2l, 1) := dk_133 (dk_at dksX0_sink_0 7 rfl rfl)
theorem dX0_sink_8 : decode cX0_sink 8 = .ok (.lastore, 1) := dk_80 (dk_at dksX0_sink_0 8 rfl rfl)
theorem dX0_sink_9 : decode cX0_sink 9 = .ok (.goto 9, 3) := dk_167 0 9 (dk_at dksX0_sink_0 9 rfl rfl)
theorem dX0_sink_12 : decode cX0_sink 12 = .ok (.astore_n 3, 1) := dk_78 (dk_at dksX0_sink_0 12 rfl rfl)
theorem dX0_sink_13 : decode cX0_sink 13 = .ok (.iconst 1, 1) := dk_4 (dk_at dksX0_sink_0 13 rfl rfl)
theorem dX0_sink_14 : decode cX0_sink 14 = .ok (.ireturn, 1) := dk_172 (dk_at dksX0_sink_0 14 rfl rfl)
theorem dX0_sink_15 : decode cX0_sink 15 = .ok (.astore_n 3, 1) := dk_78 (dk_at dksX0_sink_0 15 rfl rfl)
theorem dX0_sink_16 : decode cX0_sink 16 = .ok (.iconst 2, 1) := dk_5 (dk_at dksX0_sink_0 16 rfl rfl)
theorem dX0_sink_17 : decode cX0_sink 17 = .ok (.ireturn, 1) := dk_172 (dk_at dksX0_sink_0 17 rfl rfl)
theorem dX0_sink_18 : decode cX0_sink 18 = .ok (.iconst 0, 1) := dk_3 (dk_at dksX0_sink_0 18 rfl rfl)
theorem dX0_sink_19 : decode cX0_sink 19 = .ok (.ireturn, 1) := dk_172 (dk_at dksX0_sink_0 19 rfl rfl)
abbrev cX0_dig : ByteArray := method_12_code
def yX0_dig : MethodName := ⟨RX0, "dig", "(LFlintMine;IIZ[J)I"⟩
def dkwX0_dig_1 : List UInt8 := [172]
abbrev dktX0_dig_1 : List UInt8 := dkwX0_dig_1 ++ []
def dkwX0_dig_0 : List UInt8 := [25, 4, 3, 42, 27, 28, 29, 182, 0, 48, 133, 80, 167, 0, 11, 58, 5, 4, 172, 58, 5, 5, 172, 3]
abbrev dktX0_dig_0 : List UInt8 := dkwX0_dig_0 ++ dktX0_dig_1
theorem dksX0_dig_0 : cX0_dig.data.toList.drop 0 = dktX0_dig_0 := by decide +kernel
theorem dksX0_dig_1 : cX0_dig.data.toList.drop 24 = dktX0_dig_1 := dk_seg dksX0_dig_0 24 rfl rfl
theorem dX0_dig_0 : decode cX0_dig 0 = .ok (.aload 4, 2) := dk_25 4 (dk_at dksX0_dig_0 0 rfl rfl)
theorem dX0_dig_2 : decode cX0_dig 2 = .ok (.iconst 0, 1) := dk_3 (dk_at dksX0_dig_0 2 rfl rfl)
theorem dX0_dig_3 : decode cX0_dig 3 = .ok (.aload_n 0, 1) := dk_42 (dk_at dksX0_dig_0 3 rfl rfl)
theorem dX0_dig_4 : decode cX0_dig 4 = .ok (.iload_n 1, 1) := dk_27 (dk_at dksX0_dig_0 4 rfl rfl)
theorem dX0_dig_5 : decode cX0_dig 5 = .ok (.iload_n 2, 1) := dk_28 (dk_at dksX0_dig_0 5 rfl rfl)
theorem dX0_dig_6 : decode cX0_dig 6 = .ok (.iload_n 3, 1) := dk_29 (dk_at dksX0_dig_0 6 rfl rfl)
theorem dX0_dig_7 : decode cX0_dig 7 = .ok (.invokevirtual 48, 3) := dk_182 0 48 (dk_at dksX0_dig_0 7 rfl rfl)
theorem dX0_dig_10 : decode cX0_dig 10 = .ok (.i2l, 1) := dk_133 (dk_at dksX0_dig_0 10 rfl rfl)
theorem dX0_dig_11 : decode cX0_dig 11 = .ok (.lastore, 1) := dk_80 (dk_at dksX0_dig_0 11 rfl rfl)
theorem dX0_dig_12 : decode cX0_dig 12 = .ok (.goto 11, 3) := dk_167 0 11 (dk_at dksX0_dig_0 12 rfl rfl)
theorem dX0_dig_15 : decode cX0_dig 15 = .ok (.astore 5, 2) := dk_58 5 (dk_at dksX0_dig_0 15 rfl rfl)
theorem dX0_dig_17 : decode cX0_dig 17 = .ok (.iconst 1, 1) := dk_4 (dk_at dksX0_dig_0 17 rfl rfl)
theorem dX0_dig_18 : decode cX0_dig 18 = .ok (.ireturn, 1) := dk_172 (dk_at dksX0_dig_0 18 rfl rfl)
theorem dX0_dig_19 : decode cX0_dig 19 = .ok (.astore 5, 2) := dk_58 5 (dk_at dksX0_dig_0 19 rfl rfl)
theorem dX0_dig_21 : decode cX0_dig 21 = .ok (.iconst 2, 1) := dk_5 (dk_at dksX0_dig_0 21 rfl rfl)
theorem dX0_dig_22 : decode cX0_dig 22 = .ok (.ireturn, 1) := dk_172 (dk_at dksX0_dig_0 22 rfl rfl)
theorem dX0_dig_23 : decode cX0_dig 23 = .ok (.iconst 0, 1) := dk_3 (dk_at dksX0_dig_0 23 rfl rfl)
theorem dX0_dig_24 : decode cX0_dig 24 = .ok (.ireturn, 1) := dk_172 (dk_at dksX0_dig_1 0 rfl rfl)
abbrev cX0_prop : ByteArray := method_13_code
def yX0_prop : MethodName := ⟨RX0, "prop", "(LFlintMine;I[J)I"⟩
def dkwX0_prop_0 : List UInt8 := [44, 3, 42, 27, 182, 0, 52, 133, 80, 167, 0, 9, 78, 4, 172, 78, 5, 172, 3, 172]
abbrev dktX0_prop_0 : List UInt8 := dkwX0_prop_0 ++ []
theorem dksX0_prop_0 : cX0_prop.data.toList.drop 0 = dktX0_prop_0 := by decide +kernel
theorem dX0_prop_0 : decode cX0_prop 0 = .ok (.aload_n 2, 1) := dk_44 (dk_at dksX0_prop_0 0 rfl rfl)
theorem dX0_prop_1 : decode cX0_prop 1 = .ok (.iconst 0, 1) := dk_3 (dk_at dksX0_prop_0 1 rfl rfl)
theorem dX0_prop_2 : decode cX0_prop 2 = .ok (.aload_n 0, 1) := dk_42 (dk_at dksX0_prop_0 2 rfl rfl)
theorem dX0_prop_3 : decode cX0_prop 3 = .ok (.iload_n 1, 1) := dk_27 (dk_at dksX0_prop_0 3 rfl rfl)
theorem dX0_prop_4 : decode cX0_prop 4 = .ok (.invokevirtual 52, 3) := dk_182 0 52 (dk_at dksX0_prop_0 4 rfl rfl)
theorem dX0_prop_7 : decode cX0_prop 7 = .ok (.i2l, 1) := dk_133 (dk_at dksX0_prop_0 7 rfl rfl)
theorem dX0_prop_8 : decode cX0_prop 8 = .ok (.lastore, 1) := dk_80 (dk_at dksX0_prop_0 8 rfl rfl)
theorem dX0_prop_9 : decode cX0_prop 9 = .ok (.goto 9, 3) := dk_167 0 9 (dk_at dksX0_prop_0 9 rfl rfl)
theorem dX0_prop_12 : decode cX0_prop 12 = .ok (.astore_n 3, 1) := dk_78 (dk_at dksX0_prop_0 12 rfl rfl)
theorem dX0_prop_13 : decode cX0_prop 13 = .ok (.iconst 1, 1) := dk_4 (dk_at dksX0_prop_0 13 rfl rfl)
theorem dX0_prop_14 : decode cX0_prop 14 = .ok (.ireturn, 1) := dk_172 (dk_at dksX0_prop_0 14 rfl rfl)
theorem dX0_prop_15 : decode cX0_prop 15 = .ok (.astore_n 3, 1) := dk_78 (dk_at dksX0_prop_0 15 rfl rfl)
theorem dX0_prop_16 : decode cX0_prop 16 = .ok (.iconst 2, 1) := dk_5 (dk_at dksX0_prop_0 16 rfl rfl)
theorem dX0_prop_17 : decode cX0_prop 17 = .ok (.ireturn, 1) := dk_172 (dk_at dksX0_prop_0 17 rfl rfl)
theorem dX0_prop_18 : decode cX0_prop 18 = .ok (.iconst 0, 1) := dk_3 (dk_at dksX0_prop_0 18 rfl rfl)
theorem dX0_prop_19 : decode cX0_prop 19 = .ok (.ireturn, 1) := dk_172 (dk_at dksX0_prop_0 19 rfl rfl)
abbrev cX0_unprop : ByteArray := method_14_code
def yX0_unprop : MethodName := ⟨RX0, "unprop", "(LFlintMine;I[J)I"⟩
def dkwX0_unprop_0 : List UInt8 := [44, 3, 42, 27, 182, 0, 55, 133, 80, 167, 0, 9, 78, 4, 172, 78, 5, 172, 3, 172]
abbrev dktX0_unprop_0 : List UInt8 := dkwX0_unprop_0 ++ []
theorem dksX0_unprop_0 : cX0_unprop.data.toList.drop 0 = dktX0_unprop_0 := by decide +kernel
theorem dX0_unprop_0 : decode cX0_unprop 0 = .ok (.aload_n 2, 1) := dk_44 (dk_at dksX0_unprop_0 0 rfl rfl)
theorem dX0_unprop_1 : decode cX0_unprop 1 = .ok (.iconst 0, 1) := dk_3 (dk_at dksX0_unprop_0 1 rfl rfl)
theorem dX0_unprop_2 : decode cX0_unprop 2 = .ok (.aload_n 0, 1) := dk_42 (dk_at dksX0_unprop_0 2 rfl rfl)
theorem dX0_unprop_3 : decode cX0_unprop 3 = .ok (.iload_n 1, 1) := dk_27 (dk_at dksX0_unprop_0 3 rfl rfl)
theorem dX0_unprop_4 : decode cX0_unprop 4 = .ok (.invokevirtual 55, 3) := dk_182 0 55 (dk_at dksX0_unprop_0 4 rfl rfl)
theorem dX0_unprop_7 : decode cX0_unprop 7 = .ok (.i2l, 1) := dk_133 (dk_at dksX0_unprop_0 7 rfl rfl)
theorem dX0_unprop_8 : decode cX0_unprop 8 = .ok (.lastore, 1) := dk_80 (dk_at dksX0_unprop_0 8 rfl rfl)
theorem dX0_unprop_9 : decode cX0_unprop 9 = .ok (.goto 9, 3) := dk_167 0 9 (dk_at dksX0_unprop_0 9 rfl rfl)
theorem dX0_unprop_12 : decode cX0_unprop 12 = .ok (.astore_n 3, 1) := dk_78 (dk_at dksX0_unprop_0 12 rfl rfl)
theorem dX0_unprop_13 : decode cX0_unprop 13 = .ok (.iconst 1, 1) := dk_4 (dk_at dksX0_unprop_0 13 rfl rfl)
theorem dX0_unprop_14 : decode cX0_unprop 14 = .ok (.ireturn, 1) := dk_172 (dk_at dksX0_unprop_0 14 rfl rfl)
theorem dX0_unprop_15 : decode cX0_unprop 15 = .ok (.astore_n 3, 1) := dk_78 (dk_at dksX0_unprop_0 15 rfl rfl)
theorem dX0_unprop_16 : decode cX0_unprop 16 = .ok (.iconst 2, 1) := dk_5 (dk_at dksX0_unprop_0 16 rfl rfl)
theorem dX0_unprop_17 : decode cX0_unprop 17 = .ok (.ireturn, 1) := dk_172 (dk_at dksX0_unprop_0 17 rfl rfl)
theorem dX0_unprop_18 : decode cX0_unprop 18 = .ok (.iconst 0, 1) := dk_3 (dk_at dksX0_unprop_0 18 rfl rfl)
theorem dX0_unprop_19 : decode cX0_unprop 19 = .ok (.ireturn, 1) := dk_172 (dk_at dksX0_unprop_0 19 rfl rfl)
abbrev cX0_close : ByteArray := method_15_code
def yX0_close : MethodName := ⟨RX0, "close", "(LFlintMine;I[J)I"⟩
def dkwX0_close_0 : List UInt8 := [44, 3, 42, 27, 182, 0, 58, 133, 80, 167, 0, 9, 78, 4, 172, 78, 5, 172, 3, 172]
abbrev dktX0_close_0 : List UInt8 := dkwX0_close_0 ++ []
theorem dksX0_close_0 : cX0_close.data.toList.drop 0 = dktX0_close_0 := by decide +kernel
theorem dX0_close_0 : decode cX0_close 0 = .ok (.aload_n 2, 1) := dk_44 (dk_at dksX0_close_0 0 rfl rfl)
theorem dX0_close_1 : decode cX0_close 1 = .ok (.iconst 0, 1) := dk_3 (dk_at dksX0_close_0 1 rfl rfl)
theorem dX0_close_2 : decode cX0_close 2 = .ok (.aload_n 0, 1) := dk_42 (dk_at dksX0_close_0 2 rfl rfl)
theorem dX0_close_3 : decode cX0_close 3 = .ok (.iload_n 1, 1) := dk_27 (dk_at dksX0_close_0 3 rfl rfl)
theorem dX0_close_4 : decode cX0_close 4 = .ok (.invokevirtual 58, 3) := dk_182 0 58 (dk_at dksX0_close_0 4 rfl rfl)
theorem dX0_close_7 : decode cX0_close 7 = .ok (.i2l, 1) := dk_133 (dk_at dksX0_close_0 7 rfl rfl)
theorem dX0_close_8 : decode cX0_close 8 = .ok (.lastore, 1) := dk_80 (dk_at dksX0_close_0 8 rfl rfl)
theorem dX0_close_9 : decode cX0_close 9 = .ok (.goto 9, 3) := dk_167 0 9 (dk_at dksX0_close_0 9 rfl rfl)
theorem dX0_close_12 : decode cX0_close 12 = .ok (.astore_n 3, 1) := dk_78 (dk_at dksX0_close_0 12 rfl rfl)
theorem dX0_close_13 : decode cX0_close 13 = .ok (.iconst 1, 1) := dk_4 (dk_at dksX0_close_0 13 rfl rfl)
theorem dX0_close_14 : decode cX0_close 14 = .ok (.ireturn, 1) := dk_172 (dk_at dksX0_close_0 14 rfl rfl)
theorem dX0_close_15 : decode cX0_close 15 = .ok (.astore_n 3, 1) := dk_78 (dk_at dksX0_close_0 15 rfl rfl)
theorem dX0_close_16 : decode cX0_close 16 = .ok (.iconst 2, 1) := dk_5 (dk_at dksX0_close_0 16 rfl rfl)
theorem dX0_close_17 : decode cX0_close 17 = .ok (.ireturn, 1) := dk_172 (dk_at dksX0_close_0 17 rfl rfl)
theorem dX0_close_18 : decode cX0_close 18 = .ok (.iconst 0, 1) := dk_3 (dk_at dksX0_close_0 18 rfl rfl)
theorem dX0_close_19 : decode cX0_close 19 = .ok (.ireturn, 1) := dk_172 (dk_at dksX0_close_0 19 rfl rfl)
abbrev cX0_shaft : ByteArray := method_16_code
def yX0_shaft : MethodName := ⟨RX0, "shaft", "(LFlintMine;II[J)I"⟩
def dkwX0_shaft_0 : List UInt8 := [45, 3, 42, 27, 28, 182, 0, 61, 133, 80, 167, 0, 11, 58, 4, 4, 172, 58, 4, 5, 172, 3, 172]
abbrev dktX0_shaft_0 : List UInt8 := dkwX0_shaft_0 ++ []
theorem dksX0_shaft_0 : cX0_shaft.data.toList.drop 0 = dktX0_shaft_0 := by decide +kernel
theorem dX0_shaft_0 : decode cX0_shaft 0 = .ok (.aload_n 3, 1) := dk_45 (dk_at dksX0_shaft_0 0 rfl rfl)
theorem dX0_shaft_1 : decode cX0_shaft 1 = .ok (.iconst 0, 1) := dk_3 (dk_at dksX0_shaft_0 1 rfl rfl)
theorem dX0_shaft_2 : decode cX0_shaft 2 = .ok (.aload_n 0, 1) := dk_42 (dk_at dksX0_shaft_0 2 rfl rfl)
theorem dX0_shaft_3 : decode cX0_shaft 3 = .ok (.iload_n 1, 1) := dk_27 (dk_at dksX0_shaft_0 3 rfl rfl)
theorem dX0_shaft_4 : decode cX0_shaft 4 = .ok (.iload_n 2, 1) := dk_28 (dk_at dksX0_shaft_0 4 rfl rfl)
theorem dX0_shaft_5 : decode cX0_shaft 5 = .ok (.invokevirtual 61, 3) := dk_182 0 61 (dk_at dksX0_shaft_0 5 rfl rfl)
theorem dX0_shaft_8 : decode cX0_shaft 8 = .ok (.i2l, 1) := dk_133 (dk_at dksX0_shaft_0 8 rfl rfl)
theorem dX0_shaft_9 : decode cX0_shaft 9 = .ok (.lastore, 1) := dk_80 (dk_at dksX0_shaft_0 9 rfl rfl)
theorem dX0_shaft_10 : decode cX0_shaft 10 = .ok (.goto 11, 3) := dk_167 0 11 (dk_at dksX0_shaft_0 10 rfl rfl)
theorem dX0_shaft_13 : decode cX0_shaft 13 = .ok (.astore 4, 2) := dk_58 4 (dk_at dksX0_shaft_0 13 rfl rfl)
theorem dX0_shaft_15 : decode cX0_shaft 15 = .ok (.iconst 1, 1) := dk_4 (dk_at dksX0_shaft_0 15 rfl rfl)
theorem dX0_shaft_16 : decode cX0_shaft 16 = .ok (.ireturn, 1) := dk_172 (dk_at dksX0_shaft_0 16 rfl rfl)
theorem dX0_shaft_17 : decode cX0_shaft 17 = .ok (.astore 4, 2) := dk_58 4 (dk_at dksX0_shaft_0 17 rfl rfl)
theorem dX0_shaft_19 : decode cX0_shaft 19 = .ok (.iconst 2, 1) := dk_5 (dk_at dksX0_shaft_0 19 rfl rfl)
theorem dX0_shaft_20 : decode cX0_shaft 20 = .ok (.ireturn, 1) := dk_172 (dk_at dksX0_shaft_0 20 rfl rfl)
theorem dX0_shaft_21 : decode cX0_shaft 21 = .ok (.iconst 0, 1) := dk_3 (dk_at dksX0_shaft_0 21 rfl rfl)
theorem dX0_shaft_22 : decode cX0_shaft 22 = .ok (.ireturn, 1) := dk_172 (dk_at dksX0_shaft_0 22 rfl rfl)
abbrev cX0_best : ByteArray := method_17_code
def yX0_best : MethodName := ⟨RX0, "best", "(LFlintMine;I[J)I"⟩
def dkwX0_best_0 : List UInt8 := [44, 3, 42, 27, 182, 0, 64, 133, 80, 167, 0, 9, 78, 4, 172, 78, 5, 172, 3, 172]
abbrev dktX0_best_0 : List UInt8 := dkwX0_best_0 ++ []
theorem dksX0_best_0 : cX0_best.data.toList.drop 0 = dktX0_best_0 := by decide +kernel
theorem dX0_best_0 : decode cX0_best 0 = .ok (.aload_n 2, 1) := dk_44 (dk_at dksX0_best_0 0 rfl rfl)
theorem dX0_best_1 : decode cX0_best 1 = .ok (.iconst 0, 1) := dk_3 (dk_at dksX0_best_0 1 rfl rfl)
theorem dX0_best_2 : decode cX0_best 2 = .ok (.aload_n 0, 1) := dk_42 (dk_at dksX0_best_0 2 rfl rfl)
theorem dX0_best_3 : decode cX0_best 3 = .ok (.iload_n 1, 1) := dk_27 (dk_at dksX0_best_0 3 rfl rfl)
theorem dX0_best_4 : decode cX0_best 4 = .ok (.invokevirtual 64, 3) := dk_182 0 64 (dk_at dksX0_best_0 4 rfl rfl)
theorem dX0_best_7 : decode cX0_best 7 = .ok (.i2l, 1) := dk_133 (dk_at dksX0_best_0 7 rfl rfl)
theorem dX0_best_8 : decode cX0_best 8 = .ok (.lastore, 1) := dk_80 (dk_at dksX0_best_0 8 rfl rfl)
theorem dX0_best_9 : decode cX0_best 9 = .ok (.goto 9, 3) := dk_167 0 9 (dk_at dksX0_best_0 9 rfl rfl)
theorem dX0_best_12 : decode cX0_best 12 = .ok (.astore_n 3, 1) := dk_78 (dk_at dksX0_best_0 12 rfl rfl)
theorem dX0_best_13 : decode cX0_best 13 = .ok (.iconst 1, 1) := dk_4 (dk_at dksX0_best_0 13 rfl rfl)
theorem dX0_best_14 : decode cX0_best 14 = .ok (.ireturn, 1) := dk_172 (dk_at dksX0_best_0 14 rfl rfl)
theorem dX0_best_15 : decode cX0_best 15 = .ok (.astore_n 3, 1) := dk_78 (dk_at dksX0_best_0 15 rfl rfl)
theorem dX0_best_16 : decode cX0_best 16 = .ok (.iconst 2, 1) := dk_5 (dk_at dksX0_best_0 16 rfl rfl)
theorem dX0_best_17 : decode cX0_best 17 = .ok (.ireturn, 1) := dk_172 (dk_at dksX0_best_0 17 rfl rfl)
theorem dX0_best_18 : decode cX0_best 18 = .ok (.iconst 0, 1) := dk_3 (dk_at dksX0_best_0 18 rfl rfl)
theorem dX0_best_19 : decode cX0_best 19 = .ok (.ireturn, 1) := dk_172 (dk_at dksX0_best_0 19 rfl rfl)
abbrev cX0_way : ByteArray := method_18_code
def yX0_way : MethodName := ⟨RX0, "way", "(LFlintMine;II[J)I"⟩
def dkwX0_way_0 : List UInt8 := [45, 3, 42, 27, 28, 182, 0, 69, 133, 80, 167, 0, 11, 58, 4, 4, 172, 58, 4, 5, 172, 3, 172]
abbrev dktX0_way_0 : List UInt8 := dkwX0_way_0 ++ []
theorem dksX0_way_0 : cX0_way.data.toList.drop 0 = dktX0_way_0 := by decide +kernel
theorem dX0_way_0 : decode cX0_way 0 = .ok (.aload_n 3, 1) := dk_45 (dk_at dksX0_way_0 0 rfl rfl)
theorem dX0_way_1 : decode cX0_way 1 = .ok (.iconst 0, 1) := dk_3 (dk_at dksX0_way_0 1 rfl rfl)
theorem dX0_way_2 : decode cX0_way 2 = .ok (.aload_n 0, 1) := dk_42 (dk_at dksX0_way_0 2 rfl rfl)
theorem dX0_way_3 : decode cX0_way 3 = .ok (.iload_n 1, 1) := dk_27 (dk_at dksX0_way_0 3 rfl rfl)
theorem dX0_way_4 : decode cX0_way 4 = .ok (.iload_n 2, 1) := dk_28 (dk_at dksX0_way_0 4 rfl rfl)
theorem dX0_way_5 : decode cX0_way 5 = .ok (.invokevirtual 69, 3) := dk_182 0 69 (dk_at dksX0_way_0 5 rfl rfl)
theorem dX0_way_8 : decode cX0_way 8 = .ok (.i2l, 1) := dk_133 (dk_at dksX0_way_0 8 rfl rfl)
theorem dX0_way_9 : decode cX0_way 9 = .ok (.lastore, 1) := dk_80 (dk_at dksX0_way_0 9 rfl rfl)
theorem dX0_way_10 : decode cX0_way 10 = .ok (.goto 11, 3) := dk_167 0 11 (dk_at dksX0_way_0 10 rfl rfl)
theorem dX0_way_13 : decode cX0_way 13 = .ok (.astore 4, 2) := dk_58 4 (dk_at dksX0_way_0 13 rfl rfl)
theorem dX0_way_15 : decode cX0_way 15 = .ok (.iconst 1, 1) := dk_4 (dk_at dksX0_way_0 15 rfl rfl)
theorem dX0_way_16 : decode cX0_way 16 = .ok (.ireturn, 1) := dk_172 (dk_at dksX0_way_0 16 rfl rfl)
theorem dX0_way_17 : decode cX0_way 17 = .ok (.astore 4, 2) := dk_58 4 (dk_at dksX0_way_0 17 rfl rfl)
theorem dX0_way_19 : decode cX0_way 19 = .ok (.iconst 2, 1) := dk_5 (dk_at dksX0_way_0 19 rfl rfl)
theorem dX0_way_20 : decode cX0_way 20 = .ok (.ireturn, 1) := dk_172 (dk_at dksX0_way_0 20 rfl rfl)
theorem dX0_way_21 : decode cX0_way 21 = .ok (.iconst 0, 1) := dk_3 (dk_at dksX0_way_0 21 rfl rfl)
theorem dX0_way_22 : decode cX0_way 22 = .ok (.ireturn, 1) := dk_172 (dk_at dksX0_way_0 22 rfl rfl)
abbrev cX0_wayAgain : ByteArray := method_19_code
def yX0_wayAgain : MethodName := ⟨RX0, "wayAgain", "(LFlintMine;II[J)I"⟩
def dkwX0_wayAgain_0 : List UInt8 := [45, 3, 42, 27, 28, 182, 0, 72, 133, 80, 167, 0, 11, 58, 4, 4, 172, 58, 4, 5, 172, 3, 172]
abbrev dktX0_wayAgain_0 : List UInt8 := dkwX0_wayAgain_0 ++ []
theorem dksX0_wayAgain_0 : cX0_wayAgain.data.toList.drop 0 = dktX0_wayAgain_0 := by decide +kernel
theorem dX0_wayAgain_0 : decode cX0_wayAgain 0 = .ok (.aload_n 3, 1) := dk_45 (dk_at dksX0_wayAgain_0 0 rfl rfl)
theorem dX0_wayAgain_1 : decode cX0_wayAgain 1 = .ok (.iconst 0, 1) := dk_3 (dk_at dksX0_wayAgain_0 1 rfl rfl)
theorem dX0_wayAgain_2 : decode cX0_wayAgain 2 = .ok (.aload_n 0, 1) := dk_42 (dk_at dksX0_wayAgain_0 2 rfl rfl)
theorem dX0_wayAgain_3 : decode cX0_wayAgain 3 = .ok (.iload_n 1, 1) := dk_27 (dk_at dksX0_wayAgain_0 3 rfl rfl)
theorem dX0_wayAgain_4 : decode cX0_wayAgain 4 = .ok (.iload_n 2, 1) := dk_28 (dk_at dksX0_wayAgain_0 4 rfl rfl)
theorem dX0_wayAgain_5 : decode cX0_wayAgain 5 = .ok (.invokevirtual 72, 3) := dk_182 0 72 (dk_at dksX0_wayAgain_0 5 rfl rfl)
theorem dX0_wayAgain_8 : decode cX0_wayAgain 8 = .ok (.i2l, 1) := dk_133 (dk_at dksX0_wayAgain_0 8 rfl rfl)
theorem dX0_wayAgain_9 : decode cX0_wayAgain 9 = .ok (.lastore, 1) := dk_80 (dk_at dksX0_wayAgain_0 9 rfl rfl)
theorem dX0_wayAgain_10 : decode cX0_wayAgain 10 = .ok (.goto 11, 3) := dk_167 0 11 (dk_at dksX0_wayAgain_0 10 rfl rfl)
theorem dX0_wayAgain_13 : decode cX0_wayAgain 13 = .ok (.astore 4, 2) := dk_58 4 (dk_at dksX0_wayAgain_0 13 rfl rfl)
theorem dX0_wayAgain_15 : decode cX0_wayAgain 15 = .ok (.iconst 1, 1) := dk_4 (dk_at dksX0_wayAgain_0 15 rfl rfl)
theorem dX0_wayAgain_16 : decode cX0_wayAgain 16 = .ok (.ireturn, 1) := dk_172 (dk_at dksX0_wayAgain_0 16 rfl rfl)
theorem dX0_wayAgain_17 : decode cX0_wayAgain 17 = .ok (.astore 4, 2) := dk_58 4 (dk_at dksX0_wayAgain_0 17 rfl rfl)
theorem dX0_wayAgain_19 : decode cX0_wayAgain 19 = .ok (.iconst 2, 1) := dk_5 (dk_at dksX0_wayAgain_0 19 rfl rfl)
theorem dX0_wayAgain_20 : decode cX0_wayAgain 20 = .ok (.ireturn, 1) := dk_172 (dk_at dksX0_wayAgain_0 20 rfl rfl)
theorem dX0_wayAgain_21 : decode cX0_wayAgain 21 = .ok (.iconst 0, 1) := dk_3 (dk_at dksX0_wayAgain_0 21 rfl rfl)
theorem dX0_wayAgain_22 : decode cX0_wayAgain 22 = .ok (.ireturn, 1) := dk_172 (dk_at dksX0_wayAgain_0 22 rfl rfl)
abbrev cX0_step : ByteArray := method_20_code
def yX0_step : MethodName := ⟨RX0, "step", "(LFlintMine;III[J)I"⟩
def dkwX0_step_1 : List UInt8 := [172]
abbrev dktX0_step_1 : List UInt8 := dkwX0_step_1 ++ []
def dkwX0_step_0 : List UInt8 := [25, 4, 3, 42, 27, 28, 29, 182, 0, 75, 133, 80, 167, 0, 11, 58, 5, 4, 172, 58, 5, 5, 172, 3]
abbrev dktX0_step_0 : List UInt8 := dkwX0_step_0 ++ dktX0_step_1
theorem dksX0_step_0 : cX0_step.data.toList.drop 0 = dktX0_step_0 := by decide +kernel
theorem dksX0_step_1 : cX0_step.data.toList.drop 24 = dktX0_step_1 := dk_seg dksX0_step_0 24 rfl rfl
theorem dX0_step_0 : decode cX0_step 0 = .ok (.aload 4, 2) := dk_25 4 (dk_at dksX0_step_0 0 rfl rfl)
theorem dX0_step_2 : decode cX0_step 2 = .ok (.iconst 0, 1) := dk_3 (dk_at dksX0_step_0 2 rfl rfl)
theorem dX0_step_3 : decode cX0_step 3 = .ok (.aload_n 0, 1) := dk_42 (dk_at dksX0_step_0 3 rfl rfl)
theorem dX0_step_4 : decode cX0_step 4 = .ok (.iload_n 1, 1) := dk_27 (dk_at dksX0_step_0 4 rfl rfl)
theorem dX0_step_5 : decode cX0_step 5 = .ok (.iload_n 2, 1) := dk_28 (dk_at dksX0_step_0 5 rfl rfl)
theorem dX0_step_6 : decode cX0_step 6 = .ok (.iload_n 3, 1) := dk_29 (dk_at dksX0_step_0 6 rfl rfl)
theorem dX0_step_7 : decode cX0_step 7 = .ok (.invokevirtual 75, 3) := dk_182 0 75 (dk_at dksX0_step_0 7 rfl rfl)
theorem dX0_step_10 : decode cX0_step 10 = .ok (.i2l, 1) := dk_133 (dk_at dksX0_step_0 10 rfl rfl)
theorem dX0_step_11 : decode cX0_step 11 = .ok (.lastore, 1) := dk_80 (dk_at dksX0_step_0 11 rfl rfl)
theorem dX0_step_12 : decode cX0_step 12 = .ok (.goto 11, 3) := dk_167 0 11 (dk_at dksX0_step_0 12 rfl rfl)
theorem dX0_step_15 : decode cX0_step 15 = .ok (.astore 5, 2) := dk_58 5 (dk_at dksX0_step_0 15 rfl rfl)
theorem dX0_step_17 : decode cX0_step 17 = .ok (.iconst 1, 1) := dk_4 (dk_at dksX0_step_0 17 rfl rfl)
theorem dX0_step_18 : decode cX0_step 18 = .ok (.ireturn, 1) := dk_172 (dk_at dksX0_step_0 18 rfl rfl)
theorem dX0_step_19 : decode cX0_step 19 = .ok (.astore 5, 2) := dk_58 5 (dk_at dksX0_step_0 19 rfl rfl)
theorem dX0_step_21 : decode cX0_step 21 = .ok (.iconst 2, 1) := dk_5 (dk_at dksX0_step_0 21 rfl rfl)
theorem dX0_step_22 : decode cX0_step 22 = .ok (.ireturn, 1) := dk_172 (dk_at dksX0_step_0 22 rfl rfl)
theorem dX0_step_23 : decode cX0_step 23 = .ok (.iconst 0, 1) := dk_3 (dk_at dksX0_step_0 23 rfl rfl)
theorem dX0_step_24 : decode cX0_step 24 = .ok (.ireturn, 1) := dk_172 (dk_at dksX0_step_1 0 rfl rfl)
abbrev cX0_strokes : ByteArray := method_21_code
def yX0_strokes : MethodName := ⟨RX0, "strokes", "(LFlintMine;II[J)I"⟩
def dkwX0_strokes_0 : List UInt8 := [45, 3, 42, 27, 28, 182, 0, 78, 133, 80, 167, 0, 11, 58, 4, 4, 172, 58, 4, 5, 172, 3, 172]
abbrev dktX0_strokes_0 : List UInt8 := dkwX0_strokes_0 ++ []
theorem dksX0_strokes_0 : cX0_strokes.data.toList.drop 0 = dktX0_strokes_0 := by decide +kernel
theorem dX0_strokes_0 : decode cX0_strokes 0 = .ok (.aload_n 3, 1) := dk_45 (dk_at dksX0_strokes_0 0 rfl rfl)
theorem dX0_strokes_1 : decode cX0_strokes 1 = .ok (.iconst 0, 1) := dk_3 (dk_at dksX0_strokes_0 1 rfl rfl)
theorem dX0_strokes_2 : decode cX0_strokes 2 = .ok (.aload_n 0, 1) := dk_42 (dk_at dksX0_strokes_0 2 rfl rfl)
theorem dX0_strokes_3 : decode cX0_strokes 3 = .ok (.iload_n 1, 1) := dk_27 (dk_at dksX0_strokes_0 3 rfl rfl)
theorem dX0_strokes_4 : decode cX0_strokes 4 = .ok (.iload_n 2, 1) := dk_28 (dk_at dksX0_strokes_0 4 rfl rfl)
theorem dX0_strokes_5 : decode cX0_strokes 5 = .ok (.invokevirtual 78, 3) := dk_182 0 78 (dk_at dksX0_strokes_0 5 rfl rfl)
theorem dX0_strokes_8 : decode cX0_strokes 8 = .ok (.i2l, 1) := dk_133 (dk_at dksX0_strokes_0 8 rfl rfl)
theorem dX0_strokes_9 : decode cX0_strokes 9 = .ok (.lastore, 1) := dk_80 (dk_at dksX0_strokes_0 9 rfl rfl)
theorem dX0_strokes_10 : decode cX0_strokes 10 = .ok (.goto 11, 3) := dk_167 0 11 (dk_at dksX0_strokes_0 10 rfl rfl)
theorem dX0_strokes_13 : decode cX0_strokes 13 = .ok (.astore 4, 2) := dk_58 4 (dk_at dksX0_strokes_0 13 rfl rfl)
theorem dX0_strokes_15 : decode cX0_strokes 15 = .ok (.iconst 1, 1) := dk_4 (dk_at dksX0_strokes_0 15 rfl rfl)
theorem dX0_strokes_16 : decode cX0_strokes 16 = .ok (.ireturn, 1) := dk_172 (dk_at dksX0_strokes_0 16 rfl rfl)
theorem dX0_strokes_17 : decode cX0_strokes 17 = .ok (.astore 4, 2) := dk_58 4 (dk_at dksX0_strokes_0 17 rfl rfl)
theorem dX0_strokes_19 : decode cX0_strokes 19 = .ok (.iconst 2, 1) := dk_5 (dk_at dksX0_strokes_0 19 rfl rfl)
theorem dX0_strokes_20 : decode cX0_strokes 20 = .ok (.ireturn, 1) := dk_172 (dk_at dksX0_strokes_0 20 rfl rfl)
theorem dX0_strokes_21 : decode cX0_strokes 21 = .ok (.iconst 0, 1) := dk_3 (dk_at dksX0_strokes_0 21 rfl rfl)
theorem dX0_strokes_22 : decode cX0_strokes 22 = .ok (.ireturn, 1) := dk_172 (dk_at dksX0_strokes_0 22 rfl rfl)
abbrev cX0_number : ByteArray := method_22_code
def yX0_number : MethodName := ⟨RX0, "number", "(LFlintMine;I[J)I"⟩
def dkwX0_number_0 : List UInt8 := [44, 3, 42, 27, 182, 0, 81, 133, 80, 167, 0, 6, 78, 4, 172, 3, 172]
abbrev dktX0_number_0 : List UInt8 := dkwX0_number_0 ++ []
theorem dksX0_number_0 : cX0_number.data.toList.drop 0 = dktX0_number_0 := by decide +kernel
theorem dX0_number_0 : decode cX0_number 0 = .ok (.aload_n 2, 1) := dk_44 (dk_at dksX0_number_0 0 rfl rfl)
theorem dX0_number_1 : decode cX0_number 1 = .ok (.iconst 0, 1) := dk_3 (dk_at dksX0_number_0 1 rfl rfl)
theorem dX0_number_2 : decode cX0_number 2 = .ok (.aload_n 0, 1) := dk_42 (dk_at dksX0_number_0 2 rfl rfl)
theorem dX0_number_3 : decode cX0_number 3 = .ok (.iload_n 1, 1) := dk_27 (dk_at dksX0_number_0 3 rfl rfl)
theorem dX0_number_4 : decode cX0_number 4 = .ok (.invokevirtual 81, 3) := dk_182 0 81 (dk_at dksX0_number_0 4 rfl rfl)
theorem dX0_number_7 : decode cX0_number 7 = .ok (.i2l, 1) := dk_133 (dk_at dksX0_number_0 7 rfl rfl)
theorem dX0_number_8 : decode cX0_number 8 = .ok (.lastore, 1) := dk_80 (dk_at dksX0_number_0 8 rfl rfl)
theorem dX0_number_9 : decode cX0_number 9 = .ok (.goto 6, 3) := dk_167 0 6 (dk_at dksX0_number_0 9 rfl rfl)
theorem dX0_number_12 : decode cX0_number 12 = .ok (.astore_n 3, 1) := dk_78 (dk_at dksX0_number_0 12 rfl rfl)
theorem dX0_number_13 : decode cX0_number 13 = .ok (.iconst 1, 1) := dk_4 (dk_at dksX0_number_0 13 rfl rfl)
theorem dX0_number_14 : decode cX0_number 14 = .ok (.ireturn, 1) := dk_172 (dk_at dksX0_number_0 14 rfl rfl)
theorem dX0_number_15 : decode cX0_number 15 = .ok (.iconst 0, 1) := dk_3 (dk_at dksX0_number_0 15 rfl rfl)
theorem dX0_number_16 : decode cX0_number 16 = .ok (.ireturn, 1) := dk_172 (dk_at dksX0_number_0 16 rfl rfl)
abbrev cX0_perStroke : ByteArray := method_23_code
def yX0_perStroke : MethodName := ⟨RX0, "perStroke", "(LFlintMine;[D)I"⟩
def dkwX0_perStroke_0 : List UInt8 := [43, 3, 42, 182, 0, 84, 82, 167, 0, 6, 77, 4, 172, 3, 172]
abbrev dktX0_perStroke_0 : List UInt8 := dkwX0_perStroke_0 ++ []
theorem dksX0_perStroke_0 : cX0_perStroke.data.toList.drop 0 = dktX0_perStroke_0 := by decide +kernel
theorem dX0_perStroke_0 : decode cX0_perStroke 0 = .ok (.aload_n 1, 1) := dk_43 (dk_at dksX0_perStroke_0 0 rfl rfl)
theorem dX0_perStroke_1 : decode cX0_perStroke 1 = .ok (.iconst 0, 1) := dk_3 (dk_at dksX0_perStroke_0 1 rfl rfl)
theorem dX0_perStroke_2 : decode cX0_perStroke 2 = .ok (.aload_n 0, 1) := dk_42 (dk_at dksX0_perStroke_0 2 rfl rfl)
theorem dX0_perStroke_3 : decode cX0_perStroke 3 = .ok (.invokevirtual 84, 3) := dk_182 0 84 (dk_at dksX0_perStroke_0 3 rfl rfl)
theorem dX0_perStroke_6 : decode cX0_perStroke 6 = .ok (.dastore, 1) := dk_82 (dk_at dksX0_perStroke_0 6 rfl rfl)
theorem dX0_perStroke_7 : decode cX0_perStroke 7 = .ok (.goto 6, 3) := dk_167 0 6 (dk_at dksX0_perStroke_0 7 rfl rfl)
theorem dX0_perStroke_10 : decode cX0_perStroke 10 = .ok (.astore_n 2, 1) := dk_77 (dk_at dksX0_perStroke_0 10 rfl rfl)
theorem dX0_perStroke_11 : decode cX0_perStroke 11 = .ok (.iconst 1, 1) := dk_4 (dk_at dksX0_perStroke_0 11 rfl rfl)
theorem dX0_perStroke_12 : decode cX0_perStroke 12 = .ok (.ireturn, 1) := dk_172 (dk_at dksX0_perStroke_0 12 rfl rfl)
theorem dX0_perStroke_13 : decode cX0_perStroke 13 = .ok (.iconst 0, 1) := dk_3 (dk_at dksX0_perStroke_0 13 rfl rfl)
theorem dX0_perStroke_14 : decode cX0_perStroke 14 = .ok (.ireturn, 1) := dk_172 (dk_at dksX0_perStroke_0 14 rfl rfl)
abbrev cX0_feed : ByteArray := method_24_code
def yX0_feed : MethodName := ⟨RX0, "feed", "(LFlintMine;C[J)I"⟩
def dkwX0_feed_0 : List UInt8 := [44, 3, 42, 27, 182, 0, 90, 133, 80, 167, 0, 6, 78, 4, 172, 3, 172]
abbrev dktX0_feed_0 : List UInt8 := dkwX0_feed_0 ++ []
theorem dksX0_feed_0 : cX0_feed.data.toList.drop 0 = dktX0_feed_0 := by decide +kernel
theorem dX0_feed_0 : decode cX0_feed 0 = .ok (.aload_n 2, 1) := dk_44 (dk_at dksX0_feed_0 0 rfl rfl)
theorem dX0_feed_1 : decode cX0_feed 1 = .ok (.iconst 0, 1) := dk_3 (dk_at dksX0_feed_0 1 rfl rfl)
theorem dX0_feed_2 : decode cX0_feed 2 = .ok (.aload_n 0, 1) := dk_42 (dk_at dksX0_feed_0 2 rfl rfl)
theorem dX0_feed_3 : decode cX0_feed 3 = .ok (.iload_n 1, 1) := dk_27 (dk_at dksX0_feed_0 3 rfl rfl)
theorem dX0_feed_4 : decode cX0_feed 4 = .ok (.invokevirtual 90, 3) := dk_182 0 90 (dk_at dksX0_feed_0 4 rfl rfl)
theorem dX0_feed_7 : decode cX0_feed 7 = .ok (.i2l, 1) := dk_133 (dk_at dksX0_feed_0 7 rfl rfl)
theorem dX0_feed_8 : decode cX0_feed 8 = .ok (.lastore, 1) := dk_80 (dk_at dksX0_feed_0 8 rfl rfl)
theorem dX0_feed_9 : decode cX0_feed 9 = .ok (.goto 6, 3) := dk_167 0 6 (dk_at dksX0_feed_0 9 rfl rfl)
theorem dX0_feed_12 : decode cX0_feed 12 = .ok (.astore_n 3, 1) := dk_78 (dk_at dksX0_feed_0 12 rfl rfl)
theorem dX0_feed_13 : decode cX0_feed 13 = .ok (.iconst 1, 1) := dk_4 (dk_at dksX0_feed_0 13 rfl rfl)
theorem dX0_feed_14 : decode cX0_feed 14 = .ok (.ireturn, 1) := dk_172 (dk_at dksX0_feed_0 14 rfl rfl)
theorem dX0_feed_15 : decode cX0_feed 15 = .ok (.iconst 0, 1) := dk_3 (dk_at dksX0_feed_0 15 rfl rfl)
theorem dX0_feed_16 : decode cX0_feed 16 = .ok (.ireturn, 1) := dk_172 (dk_at dksX0_feed_0 16 rfl rfl)
abbrev cX0_read : ByteArray := method_25_code
def yX0_read : MethodName := ⟨RX0, "read", "(LFlintMine;[J)I"⟩
def dkwX0_read_0 : List UInt8 := [43, 3, 42, 182, 0, 94, 133, 80, 167, 0, 9, 77, 4, 172, 77, 5, 172, 3, 172]
abbrev dktX0_read_0 : List UInt8 := dkwX0_read_0 ++ []
theorem dksX0_read_0 : cX0_read.data.toList.drop 0 = dktX0_read_0 := by decide +kernel
theorem dX0_read_0 : decode cX0_read 0 = .ok (.aload_n 1, 1) := dk_43 (dk_at dksX0_read_0 0 rfl rfl)
theorem dX0_read_1 : decode cX0_read 1 = .ok (.iconst 0, 1) := dk_3 (dk_at dksX0_read_0 1 rfl rfl)
theorem dX0_read_2 : decode cX0_read 2 = .ok (.aload_n 0, 1) := dk_42 (dk_at dksX0_read_0 2 rfl rfl)
theorem dX0_read_3 : decode cX0_read 3 = .ok (.invokevirtual 94, 3) := dk_182 0 94 (dk_at dksX0_read_0 3 rfl rfl)
theorem dX0_read_6 : decode cX0_read 6 = .ok (.i2l, 1) := dk_133 (dk_at dksX0_read_0 6 rfl rfl)
theorem dX0_read_7 : decode cX0_read 7 = .ok (.lastore, 1) := dk_80 (dk_at dksX0_read_0 7 rfl rfl)
theorem dX0_read_8 : decode cX0_read 8 = .ok (.goto 9, 3) := dk_167 0 9 (dk_at dksX0_read_0 8 rfl rfl)
theorem dX0_read_11 : decode cX0_read 11 = .ok (.astore_n 2, 1) := dk_77 (dk_at dksX0_read_0 11 rfl rfl)
theorem dX0_read_12 : decode cX0_read 12 = .ok (.iconst 1, 1) := dk_4 (dk_at dksX0_read_0 12 rfl rfl)
theorem dX0_read_13 : decode cX0_read 13 = .ok (.ireturn, 1) := dk_172 (dk_at dksX0_read_0 13 rfl rfl)
theorem dX0_read_14 : decode cX0_read 14 = .ok (.astore_n 2, 1) := dk_77 (dk_at dksX0_read_0 14 rfl rfl)
theorem dX0_read_15 : decode cX0_read 15 = .ok (.iconst 2, 1) := dk_5 (dk_at dksX0_read_0 15 rfl rfl)
theorem dX0_read_16 : decode cX0_read 16 = .ok (.ireturn, 1) := dk_172 (dk_at dksX0_read_0 16 rfl rfl)
theorem dX0_read_17 : decode cX0_read 17 = .ok (.iconst 0, 1) := dk_3 (dk_at dksX0_read_0 17 rfl rfl)
theorem dX0_read_18 : decode cX0_read 18 = .ok (.ireturn, 1) := dk_172 (dk_at dksX0_read_0 18 rfl rfl)
abbrev cX0_faultPosition : ByteArray := method_26_code
def yX0_faultPosition : MethodName := ⟨RX0, "faultPosition", "(LFlintMine;[J)I"⟩
def dkwX0_faultPosition_0 : List UInt8 := [43, 3, 42, 182, 0, 98, 133, 80, 167, 0, 6, 77, 4, 172, 3, 172]
abbrev dktX0_faultPosition_0 : List UInt8 := dkwX0_faultPosition_0 ++ []
theorem dksX0_faultPosition_0 : cX0_faultPosition.data.toList.drop 0 = dktX0_faultPosition_0 := by decide +kernel
theorem dX0_faultPosition_0 : decode cX0_faultPosition 0 = .ok (.aload_n 1, 1) := dk_43 (dk_at dksX0_faultPosition_0 0 rfl rfl)
theorem dX0_faultPosition_1 : decode cX0_faultPosition 1 = .ok (.iconst 0, 1) := dk_3 (dk_at dksX0_faultPosition_0 1 rfl rfl)
theorem dX0_faultPosition_2 : decode cX0_faultPosition 2 = .ok (.aload_n 0, 1) := dk_42 (dk_at dksX0_faultPosition_0 2 rfl rfl)
theorem dX0_faultPosition_3 : decode cX0_faultPosition 3 = .ok (.invokevirtual 98, 3) := dk_182 0 98 (dk_at dksX0_faultPosition_0 3 rfl rfl)
theorem dX0_faultPosition_6 : decode cX0_faultPosition 6 = .ok (.i2l, 1) := dk_133 (dk_at dksX0_faultPosition_0 6 rfl rfl)
theorem dX0_faultPosition_7 : decode cX0_faultPosition 7 = .ok (.lastore, 1) := dk_80 (dk_at dksX0_faultPosition_0 7 rfl rfl)
theorem dX0_faultPosition_8 : decode cX0_faultPosition 8 = .ok (.goto 6, 3) := dk_167 0 6 (dk_at dksX0_faultPosition_0 8 rfl rfl)
theorem dX0_faultPosition_11 : decode cX0_faultPosition 11 = .ok (.astore_n 2, 1) := dk_77 (dk_at dksX0_faultPosition_0 11 rfl rfl)
theorem dX0_faultPosition_12 : decode cX0_faultPosition 12 = .ok (.iconst 1, 1) := dk_4 (dk_at dksX0_faultPosition_0 12 rfl rfl)
theorem dX0_faultPosition_13 : decode cX0_faultPosition 13 = .ok (.ireturn, 1) := dk_172 (dk_at dksX0_faultPosition_0 13 rfl rfl)
theorem dX0_faultPosition_14 : decode cX0_faultPosition 14 = .ok (.iconst 0, 1) := dk_3 (dk_at dksX0_faultPosition_0 14 rfl rfl)
theorem dX0_faultPosition_15 : decode cX0_faultPosition 15 = .ok (.ireturn, 1) := dk_172 (dk_at dksX0_faultPosition_0 15 rfl rfl)
abbrev cX0_refusal : ByteArray := method_27_code
def yX0_refusal : MethodName := ⟨RX0, "refusal", "(LFlintMine;Z[J)I"⟩
def dkwX0_refusal_0 : List UInt8 := [44, 3, 42, 27, 182, 0, 101, 133, 80, 167, 0, 6, 78, 4, 172, 3, 172]
abbrev dktX0_refusal_0 : List UInt8 := dkwX0_refusal_0 ++ []
theorem dksX0_refusal_0 : cX0_refusal.data.toList.drop 0 = dktX0_refusal_0 := by decide +kernel
theorem dX0_refusal_0 : decode cX0_refusal 0 = .ok (.aload_n 2, 1) := dk_44 (dk_at dksX0_refusal_0 0 rfl rfl)
theorem dX0_refusal_1 : decode cX0_refusal 1 = .ok (.iconst 0, 1) := dk_3 (dk_at dksX0_refusal_0 1 rfl rfl)
theorem dX0_refusal_2 : decode cX0_refusal 2 = .ok (.aload_n 0, 1) := dk_42 (dk_at dksX0_refusal_0 2 rfl rfl)
theorem dX0_refusal_3 : decode cX0_refusal 3 = .ok (.iload_n 1, 1) := dk_27 (dk_at dksX0_refusal_0 3 rfl rfl)
theorem dX0_refusal_4 : decode cX0_refusal 4 = .ok (.invokevirtual 101, 3) := dk_182 0 101 (dk_at dksX0_refusal_0 4 rfl rfl)
theorem dX0_refusal_7 : decode cX0_refusal 7 = .ok (.i2l, 1) := dk_133 (dk_at dksX0_refusal_0 7 rfl rfl)
theorem dX0_refusal_8 : decode cX0_refusal 8 = .ok (.lastore, 1) := dk_80 (dk_at dksX0_refusal_0 8 rfl rfl)
theorem dX0_refusal_9 : decode cX0_refusal 9 = .ok (.goto 6, 3) := dk_167 0 6 (dk_at dksX0_refusal_0 9 rfl rfl)
theorem dX0_refusal_12 : decode cX0_refusal 12 = .ok (.astore_n 3, 1) := dk_78 (dk_at dksX0_refusal_0 12 rfl rfl)
theorem dX0_refusal_13 : decode cX0_refusal 13 = .ok (.iconst 1, 1) := dk_4 (dk_at dksX0_refusal_0 13 rfl rfl)
theorem dX0_refusal_14 : decode cX0_refusal 14 = .ok (.ireturn, 1) := dk_172 (dk_at dksX0_refusal_0 14 rfl rfl)
theorem dX0_refusal_15 : decode cX0_refusal 15 = .ok (.iconst 0, 1) := dk_3 (dk_at dksX0_refusal_0 15 rfl rfl)
theorem dX0_refusal_16 : decode cX0_refusal 16 = .ok (.ireturn, 1) := dk_172 (dk_at dksX0_refusal_0 16 rfl rfl)
abbrev cX0_undo : ByteArray := method_28_code
def yX0_undo : MethodName := ⟨RX0, "undo", "(LFlintMine;[J)I"⟩
def dkwX0_undo_0 : List UInt8 := [43, 3, 42, 182, 0, 105, 133, 80, 167, 0, 6, 77, 4, 172, 3, 172]
abbrev dktX0_undo_0 : List UInt8 := dkwX0_undo_0 ++ []
theorem dksX0_undo_0 : cX0_undo.data.toList.drop 0 = dktX0_undo_0 := by decide +kernel
theorem dX0_undo_0 : decode cX0_undo 0 = .ok (.aload_n 1, 1) := dk_43 (dk_at dksX0_undo_0 0 rfl rfl)
theorem dX0_undo_1 : decode cX0_undo 1 = .ok (.iconst 0, 1) := dk_3 (dk_at dksX0_undo_0 1 rfl rfl)
theorem dX0_undo_2 : decode cX0_undo 2 = .ok (.aload_n 0, 1) := dk_42 (dk_at dksX0_undo_0 2 rfl rfl)
theorem dX0_undo_3 : decode cX0_undo 3 = .ok (.invokevirtual 105, 3) := dk_182 0 105 (dk_at dksX0_undo_0 3 rfl rfl)
theorem dX0_undo_6 : decode cX0_undo 6 = .ok (.i2l, 1) := dk_133 (dk_at dksX0_undo_0 6 rfl rfl)
theorem dX0_undo_7 : decode cX0_undo 7 = .ok (.lastore, 1) := dk_80 (dk_at dksX0_undo_0 7 rfl rfl)
theorem dX0_undo_8 : decode cX0_undo 8 = .ok (.goto 6, 3) := dk_167 0 6 (dk_at dksX0_undo_0 8 rfl rfl)
theorem dX0_undo_11 : decode cX0_undo 11 = .ok (.astore_n 2, 1) := dk_77 (dk_at dksX0_undo_0 11 rfl rfl)
theorem dX0_undo_12 : decode cX0_undo 12 = .ok (.iconst 1, 1) := dk_4 (dk_at dksX0_undo_0 12 rfl rfl)
theorem dX0_undo_13 : decode cX0_undo 13 = .ok (.ireturn, 1) := dk_172 (dk_at dksX0_undo_0 13 rfl rfl)
theorem dX0_undo_14 : decode cX0_undo 14 = .ok (.iconst 0, 1) := dk_3 (dk_at dksX0_undo_0 14 rfl rfl)
theorem dX0_undo_15 : decode cX0_undo 15 = .ok (.ireturn, 1) := dk_172 (dk_at dksX0_undo_0 15 rfl rfl)
abbrev cX0_restoreSnapshot : ByteArray := method_29_code
def yX0_restoreSnapshot : MethodName := ⟨RX0, "restoreSnapshot", "(LFlintMine;[J)I"⟩
def dkwX0_restoreSnapshot_0 : List UInt8 := [43, 3, 42, 182, 0, 108, 133, 80, 167, 0, 6, 77, 4, 172, 3, 172]
abbrev dktX0_restoreSnapshot_0 : List UInt8 := dkwX0_restoreSnapshot_0 ++ []
theorem dksX0_restoreSnapshot_0 : cX0_restoreSnapshot.data.toList.drop 0 = dktX0_restoreSnapshot_0 := by decide +kernel
theorem dX0_restoreSnapshot_0 : decode cX0_restoreSnapshot 0 = .ok (.aload_n 1, 1) := dk_43 (dk_at dksX0_restoreSnapshot_0 0 rfl rfl)
theorem dX0_restoreSnapshot_1 : decode cX0_restoreSnapshot 1 = .ok (.iconst 0, 1) := dk_3 (dk_at dksX0_restoreSnapshot_0 1 rfl rfl)
theorem dX0_restoreSnapshot_2 : decode cX0_restoreSnapshot 2 = .ok (.aload_n 0, 1) := dk_42 (dk_at dksX0_restoreSnapshot_0 2 rfl rfl)
theorem dX0_restoreSnapshot_3 : decode cX0_restoreSnapshot 3 = .ok (.invokevirtual 108, 3) := dk_182 0 108 (dk_at dksX0_restoreSnapshot_0 3 rfl rfl)
theorem dX0_restoreSnapshot_6 : decode cX0_restoreSnapshot 6 = .ok (.i2l, 1) := dk_133 (dk_at dksX0_restoreSnapshot_0 6 rfl rfl)
theorem dX0_restoreSnapshot_7 : decode cX0_restoreSnapshot 7 = .ok (.lastore, 1) := dk_80 (dk_at dksX0_restoreSnapshot_0 7 rfl rfl)
theorem dX0_restoreSnapshot_8 : decode cX0_restoreSnapshot 8 = .ok (.goto 6, 3) := dk_167 0 6 (dk_at dksX0_restoreSnapshot_0 8 rfl rfl)
theorem dX0_restoreSnapshot_11 : decode cX0_restoreSnapshot 11 = .ok (.astore_n 2, 1) := dk_77 (dk_at dksX0_restoreSnapshot_0 11 rfl rfl)
theorem dX0_restoreSnapshot_12 : decode cX0_restoreSnapshot 12 = .ok (.iconst 1, 1) := dk_4 (dk_at dksX0_restoreSnapshot_0 12 rfl rfl)
theorem dX0_restoreSnapshot_13 : decode cX0_restoreSnapshot 13 = .ok (.ireturn, 1) := dk_172 (dk_at dksX0_restoreSnapshot_0 13 rfl rfl)
theorem dX0_restoreSnapshot_14 : decode cX0_restoreSnapshot 14 = .ok (.iconst 0, 1) := dk_3 (dk_at dksX0_restoreSnapshot_0 14 rfl rfl)
theorem dX0_restoreSnapshot_15 : decode cX0_restoreSnapshot 15 = .ok (.ireturn, 1) := dk_172 (dk_at dksX0_restoreSnapshot_0 15 rfl rfl)
theorem q77 : (Jvm.Cond.initialized "FlintMineLaw") ∈ lw_all := lw_g (lw_at lw_m1 0 rfl) rfl
theorem q123 : (Jvm.Cond.classLink "FlintMineLaw" (8 : Nat) "FlintMine") ∈ lw_all := lw_g (lw_at lw_m1 46 rfl) rfl
theorem q125 : (Jvm.Cond.methodLink "FlintMineLaw" (111 : Nat) ({ cls := "FlintMine", name := "<init>", desc := "()V" } : Jvm.MethodName)) ∈ lw_all := lw_g (lw_at lw_m1 48 rfl) rfl
theorem q299 : (Jvm.Cond.methodLink "FlintMineLaw" (145 : Nat) ({ cls := "FlintMine", name := "longest", desc := "()I" } : Jvm.MethodName)) ∈ lw_all := lw_g (lw_at lw_m1 222 rfl) rfl
theorem q344 : (Jvm.Cond.methodLink "FlintMineLaw" (193 : Nat) ({ cls := "FlintMine", name := "chalk", desc := "()F" } : Jvm.MethodName)) ∈ lw_all := lw_g (lw_at lw_m2 27 rfl) rfl
theorem q358 : (Jvm.Cond.methodLink "FlintMineLaw" (216 : Nat) ({ cls := "FlintMine", name := "saveSnapshot", desc := "()I" } : Jvm.MethodName)) ∈ lw_all := lw_g (lw_at lw_m2 41 rfl) rfl
theorem q584 : (Jvm.Cond.methodLink "FlintMineLaw" (115 : Nat) ({ cls := "FlintMineLaw", name := "rock", desc := "(LFlintMine;III[J)I" } : Jvm.MethodName)) ∈ lw_all := lw_g (lw_at lw_m3 27 rfl) rfl
theorem q585 : (Jvm.Cond.static ({ cls := "FlintMineLaw", name := "rock", desc := "(LFlintMine;III[J)I" } : Jvm.MethodName)) ∈ lw_all := lw_g (lw_at lw_m3 28 rfl) rfl
theorem q586 : (Jvm.Cond.codeWith ({ cls := "FlintMineLaw", name := "rock", desc := "(LFlintMine;III[J)I" } : Jvm.MethodName) method_3_code (6 : Nat) (Option.some Jvm.ClassFile.FieldType.int) [((0 : Nat), (12 : Nat), (15 : Nat), (13 : Nat)), ((0 : Nat), (12 : Nat), (19 : Nat), (15 : Nat)), ((0 : Nat), (12 : Nat), (23 : Nat), (17 : Nat))]) ∈ lw_all := lw_g (lw_at lw_m3 29 rfl) rfl
theorem q587 : (Jvm.Cond.classLink "FlintMineLaw" (13 : Nat) "java/lang/IndexOutOfBoundsException") ∈ lw_all := lw_g (lw_at lw_m3 30 rfl) rfl
theorem q619 : (Jvm.Cond.classLink "FlintMineLaw" (15 : Nat) "java/lang/IllegalArgumentException") ∈ lw_all := lw_g (lw_at lw_m3 62 rfl) rfl
theorem q620 : (Jvm.Cond.classLink "FlintMineLaw" (17 : Nat) "java/lang/UnsupportedOperationException") ∈ lw_all := lw_g (lw_at lw_m3 63 rfl) rfl
theorem q621 : (Jvm.Cond.methodLink "FlintMineLaw" (7 : Nat) ({ cls := "FlintMine", name := "rock", desc := "(III)I" } : Jvm.MethodName)) ∈ lw_all := lw_g (lw_at lw_m3 64 rfl) rfl
theorem q1057 : (Jvm.Cond.methodLink "FlintMineLaw" (124 : Nat) ({ cls := "FlintMineLaw", name := "roof", desc := "(LFlintMine;I[J)I" } : Jvm.MethodName)) ∈ lw_all := lw_g (lw_at lw_m5 20 rfl) rfl
theorem q1058 : (Jvm.Cond.static ({ cls := "FlintMineLaw", name := "roof", desc := "(LFlintMine;I[J)I" } : Jvm.MethodName)) ∈ lw_all := lw_g (lw_at lw_m5 21 rfl) rfl
theorem q1059 : (Jvm.Cond.codeWith ({ cls := "FlintMineLaw", name := "roof", desc := "(LFlintMine;I[J)I" } : Jvm.MethodName) method_4_code (4 : Nat) (Option.some Jvm.ClassFile.FieldType.int) [((0 : Nat), (9 : Nat), (12 : Nat), (15 : Nat)), ((0 : Nat), (9 : Nat), (15 : Nat), (17 : Nat))]) ∈ lw_all := lw_g (lw_at lw_m5 22 rfl) rfl
theorem q1060 : (Jvm.Cond.methodLink "FlintMineLaw" (19 : Nat) ({ cls := "FlintMine", name := "roof", desc := "(I)I" } : Jvm.MethodName)) ∈ lw_all := lw_g (lw_at lw_m5 23 rfl) rfl
theorem q1066 : (Jvm.Cond.methodLink "FlintMineLaw" (128 : Nat) ({ cls := "FlintMineLaw", name := "props", desc := "(LFlintMine;I[J)I" } : Jvm.MethodName)) ∈ lw_all := lw_g (lw_at lw_m5 29 rfl) rfl
theorem q1067 : (Jvm.Cond.static ({ cls := "FlintMineLaw", name := "props", desc := "(LFlintMine;I[J)I" } : Jvm.MethodName)) ∈ lw_all := lw_g (lw_at lw_m5 30 rfl) rfl
theorem q1068 : (Jvm.Cond.codeWith ({ cls := "FlintMineLaw", name := "props", desc := "(LFlintMine;I[J)I" } : Jvm.MethodName) method_5_code (4 : Nat) (Option.some Jvm.ClassFile.FieldType.int) [((0 : Nat), (9 : Nat), (12 : Nat), (15 : Nat))]) ∈ lw_all := lw_g (lw_at lw_m5 31 rfl) rfl
theorem q1069 : (Jvm.Cond.methodLink "FlintMineLaw" (23 : Nat) ({ cls := "FlintMine", name := "props", desc := "(I)I" } : Jvm.MethodName)) ∈ lw_all := lw_g (lw_at lw_m5 32 rfl) rfl
theorem q1075 : (Jvm.Cond.methodLink "FlintMineLaw" (131 : Nat) ({ cls := "FlintMineLaw", name := "pick", desc := "(LFlintMine;I[J)I" } : Jvm.MethodName)) ∈ lw_all := lw_g (lw_at lw_m5 38 rfl) rfl
theorem q1076 : (Jvm.Cond.static ({ cls := "FlintMineLaw", name := "pick", desc := "(LFlintMine;I[J)I" } : Jvm.MethodName)) ∈ lw_all := lw_g (lw_at lw_m5 39 rfl) rfl
theorem q1077 : (Jvm.Cond.codeWith ({ cls := "FlintMineLaw", name := "pick", desc := "(LFlintMine;I[J)I" } : Jvm.MethodName) method_6_code (4 : Nat) (Option.some Jvm.ClassFile.FieldType.int) [((0 : Nat), (9 : Nat), (12 : Nat), (15 : Nat)), ((0 : Nat), (9 : Nat), (15 : Nat), (17 : Nat))]) ∈ lw_all := lw_g (lw_at lw_m5 40 rfl) rfl
theorem q1078 : (Jvm.Cond.methodLink "FlintMineLaw" (26 : Nat) ({ cls := "FlintMine", name := "pick", desc := "(I)I" } : Jvm.MethodName)) ∈ lw_all := lw_g (lw_at lw_m5 41 rfl) rfl
theorem q1084 : (Jvm.Cond.methodLink "FlintMineLaw" (134 : Nat) ({ cls := "FlintMineLaw", name := "edge", desc := "(LFlintMine;I[J)I" } : Jvm.MethodName)) ∈ lw_all := lw_g (lw_at lw_m5 47 rfl) rfl
theorem q1085 : (Jvm.Cond.static ({ cls := "FlintMineLaw", name := "edge", desc := "(LFlintMine;I[J)I" } : Jvm.MethodName)) ∈ lw_all := lw_g (lw_at lw_m5 48 rfl) rfl
theorem q1086 : (Jvm.Cond.codeWith ({ cls := "FlintMineLaw", name := "edge", desc := "(LFlintMine;I[J)I" } : Jvm.MethodName) method_7_code (4 : Nat) (Option.some Jvm.ClassFile.FieldType.int) [((0 : Nat), (9 : Nat), (12 : Nat), (13 : Nat))]) ∈ lw_all := lw_g (lw_at lw_m5 49 rfl) rfl
theorem q1087 : (Jvm.Cond.methodLink "FlintMineLaw" (29 : Nat) ({ cls := "FlintMine", name := "edge", desc := "(I)I" } : Jvm.MethodName)) ∈ lw_all := lw_g (lw_at lw_m5 50 rfl) rfl
theorem q1095 : (Jvm.Cond.methodLink "FlintMineLaw" (137 : Nat) ({ cls := "FlintMineLaw", name := "cell", desc := "(LFlintMine;II[J)I" } : Jvm.MethodName)) ∈ lw_all := lw_g (lw_at lw_m5 58 rfl) rfl
theorem q1096 : (Jvm.Cond.static ({ cls := "FlintMineLaw", name := "cell", desc := "(LFlintMine;II[J)I" } : Jvm.MethodName)) ∈ lw_all := lw_g (lw_at lw_m5 59 rfl) rfl
theorem q1097 : (Jvm.Cond.codeWith ({ cls := "FlintMineLaw", name := "cell", desc := "(LFlintMine;II[J)I" } : Jvm.MethodName) method_8_code (5 : Nat) (Option.some Jvm.ClassFile.FieldType.int) [((0 : Nat), (10 : Nat), (13 : Nat), (13 : Nat)), ((0 : Nat), (10 : Nat), (17 : Nat), (15 : Nat))]) ∈ lw_all := lw_g (lw_at lw_m5 60 rfl) rfl
theorem q1098 : (Jvm.Cond.methodLink "FlintMineLaw" (32 : Nat) ({ cls := "FlintMine", name := "cell", desc := "(II)I" } : Jvm.MethodName)) ∈ lw_all := lw_g (lw_at lw_m5 61 rfl) rfl
theorem q1130 : (Jvm.Cond.methodLink "FlintMineLaw" (141 : Nat) ({ cls := "FlintMineLaw", name := "span", desc := "(LFlintMine;IZ[J)I" } : Jvm.MethodName)) ∈ lw_all := lw_g (lw_at lw_m5 93 rfl) rfl
theorem q1131 : (Jvm.Cond.static ({ cls := "FlintMineLaw", name := "span", desc := "(LFlintMine;IZ[J)I" } : Jvm.MethodName)) ∈ lw_all := lw_g (lw_at lw_m5 94 rfl) rfl
theorem q1132 : (Jvm.Cond.codeWith ({ cls := "FlintMineLaw", name := "span", desc := "(LFlintMine;IZ[J)I" } : Jvm.MethodName) method_9_code (5 : Nat) (Option.some Jvm.ClassFile.FieldType.int) [((0 : Nat), (10 : Nat), (13 : Nat), (13 : Nat))]) ∈ lw_all := lw_g (lw_at lw_m5 95 rfl) rfl
theorem q1133 : (Jvm.Cond.methodLink "FlintMineLaw" (36 : Nat) ({ cls := "FlintMine", name := "span", desc := "(IZ)I" } : Jvm.MethodName)) ∈ lw_all := lw_g (lw_at lw_m5 96 rfl) rfl
theorem q1138 : (Jvm.Cond.methodLink "FlintMineLaw" (149 : Nat) ({ cls := "FlintMineLaw", name := "knock", desc := "(LFlintMine;I[J)I" } : Jvm.MethodName)) ∈ lw_all := lw_g (lw_at lw_m5 101 rfl) rfl
theorem q1139 : (Jvm.Cond.static ({ cls := "FlintMineLaw", name := "knock", desc := "(LFlintMine;I[J)I" } : Jvm.MethodName)) ∈ lw_all := lw_g (lw_at lw_m5 102 rfl) rfl
theorem q1140 : (Jvm.Cond.codeWith ({ cls := "FlintMineLaw", name := "knock", desc := "(LFlintMine;I[J)I" } : Jvm.MethodName) method_10_code (4 : Nat) (Option.some Jvm.ClassFile.FieldType.int) [((0 : Nat), (9 : Nat), (12 : Nat), (13 : Nat)), ((0 : Nat), (9 : Nat), (15 : Nat), (43 : Nat))]) ∈ lw_all := lw_g (lw_at lw_m5 103 rfl) rfl
theorem q1141 : (Jvm.Cond.classLink "FlintMineLaw" (43 : Nat) "java/lang/IllegalStateException") ∈ lw_all := lw_g (lw_at lw_m5 104 rfl) rfl
theorem q1142 : (Jvm.Cond.methodLink "FlintMineLaw" (40 : Nat) ({ cls := "FlintMine", name := "knock", desc := "(I)I" } : Jvm.MethodName)) ∈ lw_all := lw_g (lw_at lw_m5 105 rfl) rfl
theorem q1156 : (Jvm.Cond.methodLink "FlintMineLaw" (152 : Nat) ({ cls := "FlintMineLaw", name := "sink", desc := "(LFlintMine;I[J)I" } : Jvm.MethodName)) ∈ lw_all := lw_g (lw_at lw_m5 119 rfl) rfl
theorem q1157 : (Jvm.Cond.static ({ cls := "FlintMineLaw", name := "sink", desc := "(LFlintMine;I[J)I" } : Jvm.MethodName)) ∈ lw_all := lw_g (lw_at lw_m5 120 rfl) rfl
theorem q1158 : (Jvm.Cond.codeWith ({ cls := "FlintMineLaw", name := "sink", desc := "(LFlintMine;I[J)I" } : Jvm.MethodName) method_11_code (4 : Nat) (Option.some Jvm.ClassFile.FieldType.int) [((0 : Nat), (9 : Nat), (12 : Nat), (13 : Nat)), ((0 : Nat), (9 : Nat), (15 : Nat), (17 : Nat))]) ∈ lw_all := lw_g (lw_at lw_m5 121 rfl) rfl
theorem q1159 : (Jvm.Cond.methodLink "FlintMineLaw" (45 : Nat) ({ cls := "FlintMine", name := "sink", desc := "(I)I" } : Jvm.MethodName)) ∈ lw_all := lw_g (lw_at lw_m5 122 rfl) rfl
theorem q1165 : (Jvm.Cond.methodLink "FlintMineLaw" (155 : Nat) ({ cls := "FlintMineLaw", name := "dig", desc := "(LFlintMine;IIZ[J)I" } : Jvm.MethodName)) ∈ lw_all := lw_g (lw_at lw_m5 128 rfl) rfl
theorem q1166 : (Jvm.Cond.static ({ cls := "FlintMineLaw", name := "dig", desc := "(LFlintMine;IIZ[J)I" } : Jvm.MethodName)) ∈ lw_all := lw_g (lw_at lw_m5 129 rfl) rfl
theorem q1167 : (Jvm.Cond.codeWith ({ cls := "FlintMineLaw", name := "dig", desc := "(LFlintMine;IIZ[J)I" } : Jvm.MethodName) method_12_code (6 : Nat) (Option.some Jvm.ClassFile.FieldType.int) [((0 : Nat), (12 : Nat), (15 : Nat), (13 : Nat)), ((0 : Nat), (12 : Nat), (19 : Nat), (17 : Nat))]) ∈ lw_all := lw_g (lw_at lw_m5 130 rfl) rfl
theorem q1168 : (Jvm.Cond.methodLink "FlintMineLaw" (48 : Nat) ({ cls := "FlintMine", name := "dig", desc := "(IIZ)I" } : Jvm.MethodName)) ∈ lw_all := lw_g (lw_at lw_m5 131 rfl) rfl
theorem q1174 : (Jvm.Cond.methodLink "FlintMineLaw" (159 : Nat) ({ cls := "FlintMineLaw", name := "prop", desc := "(LFlintMine;I[J)I" } : Jvm.MethodName)) ∈ lw_all := lw_g (lw_at lw_m5 137 rfl) rfl
theorem q1175 : (Jvm.Cond.static ({ cls := "FlintMineLaw", name := "prop", desc := "(LFlintMine;I[J)I" } : Jvm.MethodName)) ∈ lw_all := lw_g (lw_at lw_m5 138 rfl) rfl
theorem q1176 : (Jvm.Cond.codeWith ({ cls := "FlintMineLaw", name := "prop", desc := "(LFlintMine;I[J)I" } : Jvm.MethodName) method_13_code (4 : Nat) (Option.some Jvm.ClassFile.FieldType.int) [((0 : Nat), (9 : Nat), (12 : Nat), (13 : Nat)), ((0 : Nat), (9 : Nat), (15 : Nat), (17 : Nat))]) ∈ lw_all := lw_g (lw_at lw_m5 139 rfl) rfl
theorem q1177 : (Jvm.Cond.methodLink "FlintMineLaw" (52 : Nat) ({ cls := "FlintMine", name := "prop", desc := "(I)I" } : Jvm.MethodName)) ∈ lw_all := lw_g (lw_at lw_m5 140 rfl) rfl
theorem q1183 : (Jvm.Cond.methodLink "FlintMineLaw" (162 : Nat) ({ cls := "FlintMineLaw", name := "unprop", desc := "(LFlintMine;I[J)I" } : Jvm.MethodName)) ∈ lw_all := lw_g (lw_at lw_m5 146 rfl) rfl
theorem q1184 : (Jvm.Cond.static ({ cls := "FlintMineLaw", name := "unprop", desc := "(LFlintMine;I[J)I" } : Jvm.MethodName)) ∈ lw_all := lw_g (lw_at lw_m5 147 rfl) rfl
theorem q1185 : (Jvm.Cond.codeWith ({ cls := "FlintMineLaw", name := "unprop", desc := "(LFlintMine;I[J)I" } : Jvm.MethodName) method_14_code (4 : Nat) (Option.some Jvm.ClassFile.FieldType.int) [((0 : Nat), (9 : Nat), (12 : Nat), (13 : Nat)), ((0 : Nat), (9 : Nat), (15 : Nat), (17 : Nat))]) ∈ lw_all := lw_g (lw_at lw_m5 148 rfl) rfl
theorem q1186 : (Jvm.Cond.methodLink "FlintMineLaw" (55 : Nat) ({ cls := "FlintMine", name := "unprop", desc := "(I)I" } : Jvm.MethodName)) ∈ lw_all := lw_g (lw_at lw_m5 149 rfl) rfl
theorem q1192 : (Jvm.Cond.methodLink "FlintMineLaw" (165 : Nat) ({ cls := "FlintMineLaw", name := "close", desc := "(LFlintMine;I[J)I" } : Jvm.MethodName)) ∈ lw_all := lw_g (lw_at lw_m5 155 rfl) rfl
theorem q1193 : (Jvm.Cond.static ({ cls := "FlintMineLaw", name := "close", desc := "(LFlintMine;I[J)I" } : Jvm.MethodName)) ∈ lw_all := lw_g (lw_at lw_m5 156 rfl) rfl
theorem q1194 : (Jvm.Cond.codeWith ({ cls := "FlintMineLaw", name := "close", desc := "(LFlintMine;I[J)I" } : Jvm.MethodName) method_15_code (4 : Nat) (Option.some Jvm.ClassFile.FieldType.int) [((0 : Nat), (9 : Nat), (12 : Nat), (13 : Nat)), ((0 : Nat), (9 : Nat), (15 : Nat), (17 : Nat))]) ∈ lw_all := lw_g (lw_at lw_m5 157 rfl) rfl
theorem q1195 : (Jvm.Cond.methodLink "FlintMineLaw" (58 : Nat) ({ cls := "FlintMine", name := "close", desc := "(I)I" } : Jvm.MethodName)) ∈ lw_all := lw_g (lw_at lw_m5 158 rfl) rfl
theorem q1201 : (Jvm.Cond.methodLink "FlintMineLaw" (168 : Nat) ({ cls := "FlintMineLaw", name := "shaft", desc := "(LFlintMine;II[J)I" } : Jvm.MethodName)) ∈ lw_all := lw_g (lw_at lw_m5 164 rfl) rfl
theorem q1202 : (Jvm.Cond.static ({ cls := "FlintMineLaw", name := "shaft", desc := "(LFlintMine;II[J)I" } : Jvm.MethodName)) ∈ lw_all := lw_g (lw_at lw_m5 165 rfl) rfl
theorem q1203 : (Jvm.Cond.codeWith ({ cls := "FlintMineLaw", name := "shaft", desc := "(LFlintMine;II[J)I" } : Jvm.MethodName) method_16_code (5 : Nat) (Option.some Jvm.ClassFile.FieldType.int) [((0 : Nat), (10 : Nat), (13 : Nat), (13 : Nat)), ((0 : Nat), (10 : Nat), (17 : Nat), (15 : Nat))]) ∈ lw_all := lw_g (lw_at lw_m5 166 rfl) rfl
theorem q1204 : (Jvm.Cond.methodLink "FlintMineLaw" (61 : Nat) ({ cls := "FlintMine", name := "shaft", desc := "(II)I" } : Jvm.MethodName)) ∈ lw_all := lw_g (lw_at lw_m5 167 rfl) rfl
theorem q1256 : (Jvm.Cond.methodLink "FlintMineLaw" (171 : Nat) ({ cls := "FlintMineLaw", name := "best", desc := "(LFlintMine;I[J)I" } : Jvm.MethodName)) ∈ lw_all := lw_g (lw_at lw_m5 219 rfl) rfl
theorem q1257 : (Jvm.Cond.static ({ cls := "FlintMineLaw", name := "best", desc := "(LFlintMine;I[J)I" } : Jvm.MethodName)) ∈ lw_all := lw_g (lw_at lw_m5 220 rfl) rfl
theorem q1258 : (Jvm.Cond.codeWith ({ cls := "FlintMineLaw", name := "best", desc := "(LFlintMine;I[J)I" } : Jvm.MethodName) method_17_code (4 : Nat) (Option.some Jvm.ClassFile.FieldType.int) [((0 : Nat), (9 : Nat), (12 : Nat), (13 : Nat)), ((0 : Nat), (9 : Nat), (15 : Nat), (67 : Nat))]) ∈ lw_all := lw_g (lw_at lw_m5 221 rfl) rfl
theorem q1259 : (Jvm.Cond.classLink "FlintMineLaw" (67 : Nat) "java/util/NoSuchElementException") ∈ lw_all := lw_g (lw_at lw_m5 222 rfl) rfl
theorem q1260 : (Jvm.Cond.methodLink "FlintMineLaw" (64 : Nat) ({ cls := "FlintMine", name := "best", desc := "(I)I" } : Jvm.MethodName)) ∈ lw_all := lw_g (lw_at lw_m5 223 rfl) rfl
theorem q1278 : (Jvm.Cond.methodLink "FlintMineLaw" (174 : Nat) ({ cls := "FlintMineLaw", name := "way", desc := "(LFlintMine;II[J)I" } : Jvm.MethodName)) ∈ lw_all := lw_g (lw_at lw_m6 1 rfl) rfl
theorem q1279 : (Jvm.Cond.static ({ cls := "FlintMineLaw", name := "way", desc := "(LFlintMine;II[J)I" } : Jvm.MethodName)) ∈ lw_all := lw_g (lw_at lw_m6 2 rfl) rfl
theorem q1280 : (Jvm.Cond.codeWith ({ cls := "FlintMineLaw", name := "way", desc := "(LFlintMine;II[J)I" } : Jvm.MethodName) method_18_code (5 : Nat) (Option.some Jvm.ClassFile.FieldType.int) [((0 : Nat), (10 : Nat), (13 : Nat), (13 : Nat)), ((0 : Nat), (10 : Nat), (17 : Nat), (67 : Nat))]) ∈ lw_all := lw_g (lw_at lw_m6 3 rfl) rfl
theorem q1281 : (Jvm.Cond.methodLink "FlintMineLaw" (69 : Nat) ({ cls := "FlintMine", name := "way", desc := "(II)I" } : Jvm.MethodName)) ∈ lw_all := lw_g (lw_at lw_m6 4 rfl) rfl
theorem q1289 : (Jvm.Cond.methodLink "FlintMineLaw" (177 : Nat) ({ cls := "FlintMineLaw", name := "wayAgain", desc := "(LFlintMine;II[J)I" } : Jvm.MethodName)) ∈ lw_all := lw_g (lw_at lw_m6 12 rfl) rfl
theorem q1290 : (Jvm.Cond.static ({ cls := "FlintMineLaw", name := "wayAgain", desc := "(LFlintMine;II[J)I" } : Jvm.MethodName)) ∈ lw_all := lw_g (lw_at lw_m6 13 rfl) rfl
theorem q1291 : (Jvm.Cond.codeWith ({ cls := "FlintMineLaw", name := "wayAgain", desc := "(LFlintMine;II[J)I" } : Jvm.MethodName) method_19_code (5 : Nat) (Option.some Jvm.ClassFile.FieldType.int) [((0 : Nat), (10 : Nat), (13 : Nat), (13 : Nat)), ((0 : Nat), (10 : Nat), (17 : Nat), (67 : Nat))]) ∈ lw_all := lw_g (lw_at lw_m6 14 rfl) rfl
theorem q1292 : (Jvm.Cond.methodLink "FlintMineLaw" (72 : Nat) ({ cls := "FlintMine", name := "wayAgain", desc := "(II)I" } : Jvm.MethodName)) ∈ lw_all := lw_g (lw_at lw_m6 15 rfl) rfl
theorem q1300 : (Jvm.Cond.methodLink "FlintMineLaw" (180 : Nat) ({ cls := "FlintMineLaw", name := "step", desc := "(LFlintMine;III[J)I" } : Jvm.MethodName)) ∈ lw_all := lw_g (lw_at lw_m6 23 rfl) rfl
theorem q1301 : (Jvm.Cond.static ({ cls := "FlintMineLaw", name := "step", desc := "(LFlintMine;III[J)I" } : Jvm.MethodName)) ∈ lw_all := lw_g (lw_at lw_m6 24 rfl) rfl
theorem q1302 : (Jvm.Cond.codeWith ({ cls := "FlintMineLaw", name := "step", desc := "(LFlintMine;III[J)I" } : Jvm.MethodName) method_20_code (6 : Nat) (Option.some Jvm.ClassFile.FieldType.int) [((0 : Nat), (12 : Nat), (15 : Nat), (13 : Nat)), ((0 : Nat), (12 : Nat), (19 : Nat), (67 : Nat))]) ∈ lw_all := lw_g (lw_at lw_m6 25 rfl) rfl
theorem q1303 : (Jvm.Cond.methodLink "FlintMineLaw" (75 : Nat) ({ cls := "FlintMine", name := "step", desc := "(III)I" } : Jvm.MethodName)) ∈ lw_all := lw_g (lw_at lw_m6 26 rfl) rfl
theorem q1312 : (Jvm.Cond.methodLink "FlintMineLaw" (183 : Nat) ({ cls := "FlintMineLaw", name := "strokes", desc := "(LFlintMine;II[J)I" } : Jvm.MethodName)) ∈ lw_all := lw_g (lw_at lw_m6 35 rfl) rfl
theorem q1313 : (Jvm.Cond.static ({ cls := "FlintMineLaw", name := "strokes", desc := "(LFlintMine;II[J)I" } : Jvm.MethodName)) ∈ lw_all := lw_g (lw_at lw_m6 36 rfl) rfl
theorem q1314 : (Jvm.Cond.codeWith ({ cls := "FlintMineLaw", name := "strokes", desc := "(LFlintMine;II[J)I" } : Jvm.MethodName) method_21_code (5 : Nat) (Option.some Jvm.ClassFile.FieldType.int) [((0 : Nat), (10 : Nat), (13 : Nat), (13 : Nat)), ((0 : Nat), (10 : Nat), (17 : Nat), (67 : Nat))]) ∈ lw_all := lw_g (lw_at lw_m6 37 rfl) rfl
theorem q1315 : (Jvm.Cond.methodLink "FlintMineLaw" (78 : Nat) ({ cls := "FlintMine", name := "strokes", desc := "(II)I" } : Jvm.MethodName)) ∈ lw_all := lw_g (lw_at lw_m6 38 rfl) rfl
theorem q1325 : (Jvm.Cond.methodLink "FlintMineLaw" (186 : Nat) ({ cls := "FlintMineLaw", name := "number", desc := "(LFlintMine;I[J)I" } : Jvm.MethodName)) ∈ lw_all := lw_g (lw_at lw_m6 48 rfl) rfl
theorem q1326 : (Jvm.Cond.static ({ cls := "FlintMineLaw", name := "number", desc := "(LFlintMine;I[J)I" } : Jvm.MethodName)) ∈ lw_all := lw_g (lw_at lw_m6 49 rfl) rfl
theorem q1327 : (Jvm.Cond.codeWith ({ cls := "FlintMineLaw", name := "number", desc := "(LFlintMine;I[J)I" } : Jvm.MethodName) method_22_code (4 : Nat) (Option.some Jvm.ClassFile.FieldType.int) [((0 : Nat), (9 : Nat), (12 : Nat), (15 : Nat))]) ∈ lw_all := lw_g (lw_at lw_m6 50 rfl) rfl
theorem q1328 : (Jvm.Cond.methodLink "FlintMineLaw" (81 : Nat) ({ cls := "FlintMine", name := "number", desc := "(I)I" } : Jvm.MethodName)) ∈ lw_all := lw_g (lw_at lw_m6 51 rfl) rfl
theorem q1359 : (Jvm.Cond.methodLink "FlintMineLaw" (189 : Nat) ({ cls := "FlintMineLaw", name := "perStroke", desc := "(LFlintMine;[D)I" } : Jvm.MethodName)) ∈ lw_all := lw_g (lw_at lw_m6 82 rfl) rfl
theorem q1360 : (Jvm.Cond.static ({ cls := "FlintMineLaw", name := "perStroke", desc := "(LFlintMine;[D)I" } : Jvm.MethodName)) ∈ lw_all := lw_g (lw_at lw_m6 83 rfl) rfl
theorem q1361 : (Jvm.Cond.codeWith ({ cls := "FlintMineLaw", name := "perStroke", desc := "(LFlintMine;[D)I" } : Jvm.MethodName) method_23_code (3 : Nat) (Option.some Jvm.ClassFile.FieldType.int) [((0 : Nat), (7 : Nat), (10 : Nat), (88 : Nat))]) ∈ lw_all := lw_g (lw_at lw_m6 84 rfl) rfl
theorem q1362 : (Jvm.Cond.classLink "FlintMineLaw" (88 : Nat) "java/lang/ArithmeticException") ∈ lw_all := lw_g (lw_at lw_m6 85 rfl) rfl
theorem q1376 : (Jvm.Cond.methodLink "FlintMineLaw" (84 : Nat) ({ cls := "FlintMine", name := "perStroke", desc := "()D" } : Jvm.MethodName)) ∈ lw_all := lw_g (lw_at lw_m6 99 rfl) rfl
theorem q1385 : (Jvm.Cond.methodLink "FlintMineLaw" (198 : Nat) ({ cls := "FlintMineLaw", name := "feed", desc := "(LFlintMine;C[J)I" } : Jvm.MethodName)) ∈ lw_all := lw_g (lw_at lw_m6 108 rfl) rfl
theorem q1386 : (Jvm.Cond.static ({ cls := "FlintMineLaw", name := "feed", desc := "(LFlintMine;C[J)I" } : Jvm.MethodName)) ∈ lw_all := lw_g (lw_at lw_m6 109 rfl) rfl
theorem q1387 : (Jvm.Cond.codeWith ({ cls := "FlintMineLaw", name := "feed", desc := "(LFlintMine;C[J)I" } : Jvm.MethodName) method_24_code (4 : Nat) (Option.some Jvm.ClassFile.FieldType.int) [((0 : Nat), (9 : Nat), (12 : Nat), (43 : Nat))]) ∈ lw_all := lw_g (lw_at lw_m6 110 rfl) rfl
theorem q1388 : (Jvm.Cond.methodLink "FlintMineLaw" (90 : Nat) ({ cls := "FlintMine", name := "feed", desc := "(C)I" } : Jvm.MethodName)) ∈ lw_all := lw_g (lw_at lw_m6 111 rfl) rfl
theorem q1470 : (Jvm.Cond.methodLink "FlintMineLaw" (202 : Nat) ({ cls := "FlintMineLaw", name := "read", desc := "(LFlintMine;[J)I" } : Jvm.MethodName)) ∈ lw_all := lw_g (lw_at lw_m6 193 rfl) rfl
theorem q1471 : (Jvm.Cond.static ({ cls := "FlintMineLaw", name := "read", desc := "(LFlintMine;[J)I" } : Jvm.MethodName)) ∈ lw_all := lw_g (lw_at lw_m6 194 rfl) rfl
theorem q1472 : (Jvm.Cond.codeWith ({ cls := "FlintMineLaw", name := "read", desc := "(LFlintMine;[J)I" } : Jvm.MethodName) method_25_code (3 : Nat) (Option.some Jvm.ClassFile.FieldType.int) [((0 : Nat), (8 : Nat), (11 : Nat), (15 : Nat)), ((0 : Nat), (8 : Nat), (14 : Nat), (17 : Nat))]) ∈ lw_all := lw_g (lw_at lw_m6 195 rfl) rfl
theorem q1473 : (Jvm.Cond.methodLink "FlintMineLaw" (94 : Nat) ({ cls := "FlintMine", name := "read", desc := "()I" } : Jvm.MethodName)) ∈ lw_all := lw_g (lw_at lw_m6 196 rfl) rfl
theorem q1824 : (Jvm.Cond.methodLink "FlintMineLaw" (206 : Nat) ({ cls := "FlintMineLaw", name := "faultPosition", desc := "(LFlintMine;[J)I" } : Jvm.MethodName)) ∈ lw_all := lw_g (lw_at lw_m8 67 rfl) rfl
theorem q1825 : (Jvm.Cond.static ({ cls := "FlintMineLaw", name := "faultPosition", desc := "(LFlintMine;[J)I" } : Jvm.MethodName)) ∈ lw_all := lw_g (lw_at lw_m8 68 rfl) rfl
theorem q1826 : (Jvm.Cond.codeWith ({ cls := "FlintMineLaw", name := "faultPosition", desc := "(LFlintMine;[J)I" } : Jvm.MethodName) method_26_code (3 : Nat) (Option.some Jvm.ClassFile.FieldType.int) [((0 : Nat), (8 : Nat), (11 : Nat), (67 : Nat))]) ∈ lw_all := lw_g (lw_at lw_m8 69 rfl) rfl
theorem q1827 : (Jvm.Cond.methodLink "FlintMineLaw" (98 : Nat) ({ cls := "FlintMine", name := "faultPosition", desc := "()I" } : Jvm.MethodName)) ∈ lw_all := lw_g (lw_at lw_m8 70 rfl) rfl
theorem q1831 : (Jvm.Cond.methodLink "FlintMineLaw" (209 : Nat) ({ cls := "FlintMineLaw", name := "refusal", desc := "(LFlintMine;Z[J)I" } : Jvm.MethodName)) ∈ lw_all := lw_g (lw_at lw_m8 74 rfl) rfl
theorem q1832 : (Jvm.Cond.static ({ cls := "FlintMineLaw", name := "refusal", desc := "(LFlintMine;Z[J)I" } : Jvm.MethodName)) ∈ lw_all := lw_g (lw_at lw_m8 75 rfl) rfl
theorem q1833 : (Jvm.Cond.codeWith ({ cls := "FlintMineLaw", name := "refusal", desc := "(LFlintMine;Z[J)I" } : Jvm.MethodName) method_27_code (4 : Nat) (Option.some Jvm.ClassFile.FieldType.int) [((0 : Nat), (9 : Nat), (12 : Nat), (67 : Nat))]) ∈ lw_all := lw_g (lw_at lw_m8 76 rfl) rfl
theorem q1834 : (Jvm.Cond.methodLink "FlintMineLaw" (101 : Nat) ({ cls := "FlintMine", name := "refusal", desc := "(Z)I" } : Jvm.MethodName)) ∈ lw_all := lw_g (lw_at lw_m8 77 rfl) rfl
theorem q1838 : (Jvm.Cond.methodLink "FlintMineLaw" (213 : Nat) ({ cls := "FlintMineLaw", name := "undo", desc := "(LFlintMine;[J)I" } : Jvm.MethodName)) ∈ lw_all := lw_g (lw_at lw_m8 81 rfl) rfl
theorem q1839 : (Jvm.Cond.static ({ cls := "FlintMineLaw", name := "undo", desc := "(LFlintMine;[J)I" } : Jvm.MethodName)) ∈ lw_all := lw_g (lw_at lw_m8 82 rfl) rfl
theorem q1840 : (Jvm.Cond.codeWith ({ cls := "FlintMineLaw", name := "undo", desc := "(LFlintMine;[J)I" } : Jvm.MethodName) method_28_code (3 : Nat) (Option.some Jvm.ClassFile.FieldType.int) [((0 : Nat), (8 : Nat), (11 : Nat), (43 : Nat))]) ∈ lw_all := lw_g (lw_at lw_m8 83 rfl) rfl
theorem q1841 : (Jvm.Cond.methodLink "FlintMineLaw" (105 : Nat) ({ cls := "FlintMine", name := "undo", desc := "()I" } : Jvm.MethodName)) ∈ lw_all := lw_g (lw_at lw_m8 84 rfl) rfl
theorem q1864 : (Jvm.Cond.methodLink "FlintMineLaw" (220 : Nat) ({ cls := "FlintMineLaw", name := "restoreSnapshot", desc := "(LFlintMine;[J)I" } : Jvm.MethodName)) ∈ lw_all := lw_g (lw_at lw_m8 107 rfl) rfl
theorem q1865 : (Jvm.Cond.static ({ cls := "FlintMineLaw", name := "restoreSnapshot", desc := "(LFlintMine;[J)I" } : Jvm.MethodName)) ∈ lw_all := lw_g (lw_at lw_m8 108 rfl) rfl
theorem q1866 : (Jvm.Cond.codeWith ({ cls := "FlintMineLaw", name := "restoreSnapshot", desc := "(LFlintMine;[J)I" } : Jvm.MethodName) method_29_code (3 : Nat) (Option.some Jvm.ClassFile.FieldType.int) [((0 : Nat), (8 : Nat), (11 : Nat), (43 : Nat))]) ∈ lw_all := lw_g (lw_at lw_m8 109 rfl) rfl
theorem q1867 : (Jvm.Cond.methodLink "FlintMineLaw" (108 : Nat) ({ cls := "FlintMine", name := "restoreSnapshot", desc := "()I" } : Jvm.MethodName)) ∈ lw_all := lw_g (lw_at lw_m8 110 rfl) rfl
theorem q1878 : (Jvm.Cond.classLink "FlintMineLaw" (112 : Nat) "FlintMineModel") ∈ lw_all := lw_g (lw_at lw_m8 121 rfl) rfl
theorem q1880 : (Jvm.Cond.methodLink "FlintMineLaw" (114 : Nat) ({ cls := "FlintMineModel", name := "<init>", desc := "()V" } : Jvm.MethodName)) ∈ lw_all := lw_g (lw_at lw_m8 123 rfl) rfl
theorem q1951 : (Jvm.Cond.methodLink "FlintMineLaw" (121 : Nat) ({ cls := "FlintMineModel", name := "thrown", desc := "()I" } : Jvm.MethodName)) ∈ lw_all := lw_g (lw_at lw_m8 194 rfl) rfl
theorem q1955 : (Jvm.Cond.methodLink "FlintMineLaw" (120 : Nat) ({ cls := "FlintMineModel", name := "rock", desc := "(III)I" } : Jvm.MethodName)) ∈ lw_all := lw_g (lw_at lw_m8 198 rfl) rfl
theorem q1988 : (Jvm.Cond.methodLink "FlintMineLaw" (127 : Nat) ({ cls := "FlintMineModel", name := "roof", desc := "(I)I" } : Jvm.MethodName)) ∈ lw_all := lw_g (lw_at lw_m8 231 rfl) rfl
theorem q2019 : (Jvm.Cond.methodLink "FlintMineLaw" (130 : Nat) ({ cls := "FlintMineModel", name := "props", desc := "(I)I" } : Jvm.MethodName)) ∈ lw_all := lw_g (lw_at lw_m9 22 rfl) rfl
theorem q2031 : (Jvm.Cond.methodLink "FlintMineLaw" (133 : Nat) ({ cls := "FlintMineModel", name := "pick", desc := "(I)I" } : Jvm.MethodName)) ∈ lw_all := lw_g (lw_at lw_m9 34 rfl) rfl
theorem q2035 : (Jvm.Cond.methodLink "FlintMineLaw" (136 : Nat) ({ cls := "FlintMineModel", name := "edge", desc := "(I)I" } : Jvm.MethodName)) ∈ lw_all := lw_g (lw_at lw_m9 38 rfl) rfl
theorem q2039 : (Jvm.Cond.methodLink "FlintMineLaw" (140 : Nat) ({ cls := "FlintMineModel", name := "cell", desc := "(II)I" } : Jvm.MethodName)) ∈ lw_all := lw_g (lw_at lw_m9 42 rfl) rfl
theorem q2043 : (Jvm.Cond.methodLink "FlintMineLaw" (144 : Nat) ({ cls := "FlintMineModel", name := "span", desc := "(IZ)I" } : Jvm.MethodName)) ∈ lw_all := lw_g (lw_at lw_m9 46 rfl) rfl
theorem q2051 : (Jvm.Cond.methodLink "FlintMineLaw" (148 : Nat) ({ cls := "FlintMineModel", name := "longest", desc := "()I" } : Jvm.MethodName)) ∈ lw_all := lw_g (lw_at lw_m9 54 rfl) rfl
theorem q2055 : (Jvm.Cond.methodLink "FlintMineLaw" (151 : Nat) ({ cls := "FlintMineModel", name := "knock", desc := "(I)I" } : Jvm.MethodName)) ∈ lw_all := lw_g (lw_at lw_m9 58 rfl) rfl
theorem q2071 : (Jvm.Cond.methodLink "FlintMineLaw" (154 : Nat) ({ cls := "FlintMineModel", name := "sink", desc := "(I)I" } : Jvm.MethodName)) ∈ lw_all := lw_g (lw_at lw_m9 74 rfl) rfl
theorem q2095 : (Jvm.Cond.methodLink "FlintMineLaw" (158 : Nat) ({ cls := "FlintMineModel", name := "dig", desc := "(IIZ)I" } : Jvm.MethodName)) ∈ lw_all := lw_g (lw_at lw_m9 98 rfl) rfl
theorem q2111 : (Jvm.Cond.methodLink "FlintMineLaw" (161 : Nat) ({ cls := "FlintMineModel", name := "prop", desc := "(I)I" } : Jvm.MethodName)) ∈ lw_all := lw_g (lw_at lw_m9 114 rfl) rfl
theorem q2115 : (Jvm.Cond.methodLink "FlintMineLaw" (164 : Nat) ({ cls := "FlintMineModel", name := "unprop", desc := "(I)I" } : Jvm.MethodName)) ∈ lw_all := lw_g (lw_at lw_m9 118 rfl) rfl
theorem q2119 : (Jvm.Cond.methodLink "FlintMineLaw" (167 : Nat) ({ cls := "FlintMineModel", name := "close", desc := "(I)I" } : Jvm.MethodName)) ∈ lw_all := lw_g (lw_at lw_m9 122 rfl) rfl
theorem q2127 : (Jvm.Cond.methodLink "FlintMineLaw" (170 : Nat) ({ cls := "FlintMineModel", name := "shaft", desc := "(II)I" } : Jvm.MethodName)) ∈ lw_all := lw_g (lw_at lw_m9 130 rfl) rfl
theorem q2143 : (Jvm.Cond.methodLink "FlintMineLaw" (173 : Nat) ({ cls := "FlintMineModel", name := "best", desc := "(I)I" } : Jvm.MethodName)) ∈ lw_all := lw_g (lw_at lw_m9 146 rfl) rfl
theorem q2155 : (Jvm.Cond.methodLink "FlintMineLaw" (176 : Nat) ({ cls := "FlintMineModel", name := "way", desc := "(II)I" } : Jvm.MethodName)) ∈ lw_all := lw_g (lw_at lw_m9 158 rfl) rfl
theorem q2171 : (Jvm.Cond.methodLink "FlintMineLaw" (179 : Nat) ({ cls := "FlintMineModel", name := "wayAgain", desc := "(II)I" } : Jvm.MethodName)) ∈ lw_all := lw_g (lw_at lw_m9 174 rfl) rfl
theorem q2176 : (Jvm.Cond.methodLink "FlintMineLaw" (182 : Nat) ({ cls := "FlintMineModel", name := "step", desc := "(III)I" } : Jvm.MethodName)) ∈ lw_all := lw_g (lw_at lw_m9 179 rfl) rfl
theorem q2184 : (Jvm.Cond.methodLink "FlintMineLaw" (185 : Nat) ({ cls := "FlintMineModel", name := "strokes", desc := "(II)I" } : Jvm.MethodName)) ∈ lw_all := lw_g (lw_at lw_m9 187 rfl) rfl
theorem q2188 : (Jvm.Cond.methodLink "FlintMineLaw" (188 : Nat) ({ cls := "FlintMineModel", name := "number", desc := "(I)I" } : Jvm.MethodName)) ∈ lw_all := lw_g (lw_at lw_m9 191 rfl) rfl
theorem q2204 : (Jvm.Cond.methodLink "FlintMineLaw" (192 : Nat) ({ cls := "FlintMineModel", name := "perStroke", desc := "()D" } : Jvm.MethodName)) ∈ lw_all := lw_g (lw_at lw_m9 207 rfl) rfl
theorem q2208 : (Jvm.Cond.methodLink "FlintMineLaw" (197 : Nat) ({ cls := "FlintMineModel", name := "chalk", desc := "()F" } : Jvm.MethodName)) ∈ lw_all := lw_g (lw_at lw_m9 211 rfl) rfl
theorem q2213 : (Jvm.Cond.methodLink "FlintMineLaw" (201 : Nat) ({ cls := "FlintMineModel", name := "feed", desc := "(C)I" } : Jvm.MethodName)) ∈ lw_all := lw_g (lw_at lw_m9 216 rfl) rfl
theorem q2217 : (Jvm.Cond.methodLink "FlintMineLaw" (205 : Nat) ({ cls := "FlintMineModel", name := "read", desc := "()I" } : Jvm.MethodName)) ∈ lw_all := lw_g (lw_at lw_m9 220 rfl) rfl
theorem q2252 : (Jvm.Cond.methodLink "FlintMineLaw" (208 : Nat) ({ cls := "FlintMineModel", name := "faultPosition", desc := "()I" } : Jvm.MethodName)) ∈ lw_all := lw_g (lw_at lw_m10 15 rfl) rfl
theorem q2256 : (Jvm.Cond.methodLink "FlintMineLaw" (212 : Nat) ({ cls := "FlintMineModel", name := "refusal", desc := "(Z)I" } : Jvm.MethodName)) ∈ lw_all := lw_g (lw_at lw_m10 19 rfl) rfl
theorem q2260 : (Jvm.Cond.methodLink "FlintMineLaw" (215 : Nat) ({ cls := "FlintMineModel", name := "undo", desc := "()I" } : Jvm.MethodName)) ∈ lw_all := lw_g (lw_at lw_m10 23 rfl) rfl
theorem q2264 : (Jvm.Cond.methodLink "FlintMineLaw" (219 : Nat) ({ cls := "FlintMineModel", name := "saveSnapshot", desc := "()I" } : Jvm.MethodName)) ∈ lw_all := lw_g (lw_at lw_m10 27 rfl) rfl
theorem q2268 : (Jvm.Cond.methodLink "FlintMineLaw" (222 : Nat) ({ cls := "FlintMineModel", name := "restoreSnapshot", desc := "()I" } : Jvm.MethodName)) ∈ lw_all := lw_g (lw_at lw_m10 31 rfl) rfl
/-! the law's own entry -/
set_option maxRecDepth 100000
abbrev cL_law : ByteArray := code
def dkwL_law_78 : List UInt8 := [4, 172]
abbrev dktL_law_78 : List UInt8 := dkwL_law_78 ++ []
def dkwL_law_77 : List UInt8 := [154, 0, 15, 45, 3, 47, 21, 7, 133, 148, 153, 0, 5, 3, 172, 167, 0, 3, 132, 5, 4, 167, 248, 157]
abbrev dktL_law_77 : List UInt8 := dkwL_law_77 ++ dktL_law_78
def dkwL_law_76 : List UInt8 := [184, 0, 220, 54, 6, 44, 182, 0, 222, 54, 7, 44, 182, 0, 121, 21, 6, 159, 0, 5, 3, 172, 21, 6]
abbrev dktL_law_76 : List UInt8 := dkwL_law_76 ++ dktL_law_77
def dkwL_law_75 : List UInt8 := [153, 0, 5, 3, 172, 167, 0, 60, 43, 182, 0, 216, 44, 182, 0, 219, 159, 0, 49, 3, 172, 43, 45]
abbrev dktL_law_75 : List UInt8 := dkwL_law_75 ++ dktL_law_76
def dkwL_law_74 : List UInt8 := [182, 0, 121, 21, 6, 159, 0, 5, 3, 172, 21, 6, 154, 0, 15, 45, 3, 47, 21, 7, 133, 148]
abbrev dktL_law_74 : List UInt8 := dkwL_law_74 ++ dktL_law_75
def dkwL_law_73 : List UInt8 := [148, 153, 0, 5, 3, 172, 167, 0, 104, 43, 45, 184, 0, 213, 54, 6, 44, 182, 0, 215, 54, 7, 44]
abbrev dktL_law_73 : List UInt8 := dkwL_law_73 ++ dktL_law_74
def dkwL_law_72 : List UInt8 := [54, 7, 44, 182, 0, 121, 21, 6, 159, 0, 5, 3, 172, 21, 6, 154, 0, 15, 45, 3, 47, 21, 7, 133]
abbrev dktL_law_72 : List UInt8 := dkwL_law_72 ++ dktL_law_73
def dkwL_law_71 : List UInt8 := [184, 0, 209, 54, 6, 44, 42, 21, 5, 4, 96, 46, 153, 0, 7, 4, 167, 0, 4, 3, 182, 0, 212]
abbrev dktL_law_71 : List UInt8 := dkwL_law_71 ++ dktL_law_72
def dkwL_law_70 : List UInt8 := [153, 0, 5, 3, 172, 167, 0, 176, 43, 42, 21, 5, 4, 96, 46, 153, 0, 7, 4, 167, 0, 4, 3, 45]
abbrev dktL_law_70 : List UInt8 := dkwL_law_70 ++ dktL_law_71
def dkwL_law_69 : List UInt8 := [182, 0, 121, 21, 6, 159, 0, 5, 3, 172, 21, 6, 154, 0, 15, 45, 3, 47, 21, 7, 133, 148]
abbrev dktL_law_69 : List UInt8 := dkwL_law_69 ++ dktL_law_70
def dkwL_law_68 : List UInt8 := [153, 0, 5, 3, 172, 167, 0, 220, 43, 45, 184, 0, 206, 54, 6, 44, 182, 0, 208, 54, 7, 44]
abbrev dktL_law_68 : List UInt8 := dkwL_law_68 ++ dktL_law_69
def dkwL_law_67 : List UInt8 := [182, 0, 121, 21, 6, 159, 0, 5, 3, 172, 21, 6, 154, 0, 15, 45, 3, 47, 21, 7, 133, 148]
abbrev dktL_law_67 : List UInt8 := dkwL_law_67 ++ dktL_law_68
def dkwL_law_66 : List UInt8 := [153, 0, 5, 3, 172, 167, 1, 8, 43, 45, 184, 0, 202, 54, 6, 44, 182, 0, 205, 54, 7, 44]
abbrev dktL_law_66 : List UInt8 := dkwL_law_66 ++ dktL_law_67
def dkwL_law_65 : List UInt8 := [182, 0, 121, 21, 6, 159, 0, 5, 3, 172, 21, 6, 154, 0, 15, 45, 3, 47, 21, 7, 133, 148]
abbrev dktL_law_65 : List UInt8 := dkwL_law_65 ++ dktL_law_66
def dkwL_law_64 : List UInt8 := [96, 46, 146, 45, 184, 0, 198, 54, 6, 44, 42, 21, 5, 4, 96, 46, 146, 182, 0, 201, 54, 7, 44]
abbrev dktL_law_64 : List UInt8 := dkwL_law_64 ++ dktL_law_65
def dkwL_law_63 : List UInt8 := [24, 6, 151, 153, 0, 11, 24, 8, 24, 8, 151, 154, 0, 5, 3, 172, 167, 1, 66, 43, 42, 21, 5, 4]
abbrev dktL_law_63 : List UInt8 := dkwL_law_63 ++ dktL_law_64
def dkwL_law_62 : List UInt8 := [182, 0, 193, 141, 57, 6, 44, 182, 0, 197, 141, 57, 8, 24, 6, 24, 8, 151, 153, 0, 21, 24, 6]
abbrev dktL_law_62 : List UInt8 := dkwL_law_62 ++ dktL_law_63
def dkwL_law_61 : List UInt8 := [25, 4, 3, 49, 151, 153, 0, 11, 24, 7, 24, 7, 151, 154, 0, 5, 3, 172, 167, 1, 109, 43]
abbrev dktL_law_61 : List UInt8 := dkwL_law_61 ++ dktL_law_62
def dkwL_law_60 : List UInt8 := [159, 0, 5, 3, 172, 21, 6, 154, 0, 35, 25, 4, 3, 49, 24, 7, 151, 153, 0, 25, 25, 4, 3, 49]
abbrev dktL_law_60 : List UInt8 := dkwL_law_60 ++ dktL_law_61
def dkwL_law_59 : List UInt8 := [167, 1, 174, 43, 25, 4, 184, 0, 189, 54, 6, 44, 182, 0, 192, 57, 7, 44, 182, 0, 121, 21, 6]
abbrev dktL_law_59 : List UInt8 := dkwL_law_59 ++ dktL_law_60
def dkwL_law_58 : List UInt8 := [159, 0, 5, 3, 172, 21, 6, 154, 0, 15, 45, 3, 47, 21, 7, 133, 148, 153, 0, 5, 3, 172]
abbrev dktL_law_58 : List UInt8 := dkwL_law_58 ++ dktL_law_59
def dkwL_law_57 : List UInt8 := [184, 0, 186, 54, 6, 44, 42, 21, 5, 4, 96, 46, 182, 0, 188, 54, 7, 44, 182, 0, 121, 21, 6]
abbrev dktL_law_57 : List UInt8 := dkwL_law_57 ++ dktL_law_58
def dkwL_law_56 : List UInt8 := [3, 47, 21, 7, 133, 148, 153, 0, 5, 3, 172, 167, 1, 230, 43, 42, 21, 5, 4, 96, 46, 45]
abbrev dktL_law_56 : List UInt8 := dkwL_law_56 ++ dktL_law_57
def dkwL_law_55 : List UInt8 := [96, 46, 182, 0, 185, 54, 7, 44, 182, 0, 121, 21, 6, 159, 0, 5, 3, 172, 21, 6, 154, 0, 15, 45]
abbrev dktL_law_55 : List UInt8 := dkwL_law_55 ++ dktL_law_56
def dkwL_law_54 : List UInt8 := [46, 42, 21, 5, 5, 96, 46, 45, 184, 0, 183, 54, 6, 44, 42, 21, 5, 4, 96, 46, 42, 21, 5, 5]
abbrev dktL_law_54 : List UInt8 := dkwL_law_54 ++ dktL_law_55
def dkwL_law_53 : List UInt8 := [154, 0, 15, 45, 3, 47, 21, 7, 133, 148, 153, 0, 5, 3, 172, 167, 2, 42, 43, 42, 21, 5, 4, 96]
abbrev dktL_law_53 : List UInt8 := dkwL_law_53 ++ dktL_law_54
def dkwL_law_52 : List UInt8 := [21, 5, 6, 96, 46, 182, 0, 182, 54, 7, 44, 182, 0, 121, 21, 6, 159, 0, 5, 3, 172, 21, 6]
abbrev dktL_law_52 : List UInt8 := dkwL_law_52 ++ dktL_law_53
def dkwL_law_51 : List UInt8 := [6, 96, 46, 45, 184, 0, 180, 54, 6, 44, 42, 21, 5, 4, 96, 46, 42, 21, 5, 5, 96, 46, 42]
abbrev dktL_law_51 : List UInt8 := dkwL_law_51 ++ dktL_law_52
def dkwL_law_50 : List UInt8 := [153, 0, 5, 3, 172, 167, 2, 122, 43, 42, 21, 5, 4, 96, 46, 42, 21, 5, 5, 96, 46, 42, 21, 5]
abbrev dktL_law_50 : List UInt8 := dkwL_law_50 ++ dktL_law_51
def dkwL_law_49 : List UInt8 := [182, 0, 121, 21, 6, 159, 0, 5, 3, 172, 21, 6, 154, 0, 15, 45, 3, 47, 21, 7, 133, 148]
abbrev dktL_law_49 : List UInt8 := dkwL_law_49 ++ dktL_law_50
def dkwL_law_48 : List UInt8 := [184, 0, 177, 54, 6, 44, 42, 21, 5, 4, 96, 46, 42, 21, 5, 5, 96, 46, 182, 0, 179, 54, 7, 44]
abbrev dktL_law_48 : List UInt8 := dkwL_law_48 ++ dktL_law_49
def dkwL_law_47 : List UInt8 := [148, 153, 0, 5, 3, 172, 167, 2, 190, 43, 42, 21, 5, 4, 96, 46, 42, 21, 5, 5, 96, 46, 45]
abbrev dktL_law_47 : List UInt8 := dkwL_law_47 ++ dktL_law_48
def dkwL_law_46 : List UInt8 := [54, 7, 44, 182, 0, 121, 21, 6, 159, 0, 5, 3, 172, 21, 6, 154, 0, 15, 45, 3, 47, 21, 7, 133]
abbrev dktL_law_46 : List UInt8 := dkwL_law_46 ++ dktL_law_47
def dkwL_law_45 : List UInt8 := [46, 45, 184, 0, 174, 54, 6, 44, 42, 21, 5, 4, 96, 46, 42, 21, 5, 5, 96, 46, 182, 0, 176]
abbrev dktL_law_45 : List UInt8 := dkwL_law_45 ++ dktL_law_46
def dkwL_law_44 : List UInt8 := [21, 7, 133, 148, 153, 0, 5, 3, 172, 167, 3, 2, 43, 42, 21, 5, 4, 96, 46, 42, 21, 5, 5, 96]
abbrev dktL_law_44 : List UInt8 := dkwL_law_44 ++ dktL_law_45
def dkwL_law_43 : List UInt8 := [182, 0, 173, 54, 7, 44, 182, 0, 121, 21, 6, 159, 0, 5, 3, 172, 21, 6, 154, 0, 15, 45, 3, 47]
abbrev dktL_law_43 : List UInt8 := dkwL_law_43 ++ dktL_law_44
def dkwL_law_42 : List UInt8 := [167, 3, 58, 43, 42, 21, 5, 4, 96, 46, 45, 184, 0, 171, 54, 6, 44, 42, 21, 5, 4, 96, 46]
abbrev dktL_law_42 : List UInt8 := dkwL_law_42 ++ dktL_law_43
def dkwL_law_41 : List UInt8 := [159, 0, 5, 3, 172, 21, 6, 154, 0, 15, 45, 3, 47, 21, 7, 133, 148, 153, 0, 5, 3, 172]
abbrev dktL_law_41 : List UInt8 := dkwL_law_41 ++ dktL_law_42
def dkwL_law_40 : List UInt8 := [21, 5, 4, 96, 46, 42, 21, 5, 5, 96, 46, 182, 0, 170, 54, 7, 44, 182, 0, 121, 21, 6]
abbrev dktL_law_40 : List UInt8 := dkwL_law_40 ++ dktL_law_41
def dkwL_law_39 : List UInt8 := [167, 3, 126, 43, 42, 21, 5, 4, 96, 46, 42, 21, 5, 5, 96, 46, 45, 184, 0, 168, 54, 6, 44, 42]
abbrev dktL_law_39 : List UInt8 := dkwL_law_39 ++ dktL_law_40
def dkwL_law_38 : List UInt8 := [21, 6, 159, 0, 5, 3, 172, 21, 6, 154, 0, 15, 45, 3, 47, 21, 7, 133, 148, 153, 0, 5, 3, 172]
abbrev dktL_law_38 : List UInt8 := dkwL_law_38 ++ dktL_law_39
def dkwL_law_37 : List UInt8 := [46, 45, 184, 0, 165, 54, 6, 44, 42, 21, 5, 4, 96, 46, 182, 0, 167, 54, 7, 44, 182, 0, 121]
abbrev dktL_law_37 : List UInt8 := dkwL_law_37 ++ dktL_law_38
def dkwL_law_36 : List UInt8 := [154, 0, 15, 45, 3, 47, 21, 7, 133, 148, 153, 0, 5, 3, 172, 167, 3, 182, 43, 42, 21, 5, 4, 96]
abbrev dktL_law_36 : List UInt8 := dkwL_law_36 ++ dktL_law_37
def dkwL_law_35 : List UInt8 := [21, 5, 4, 96, 46, 182, 0, 164, 54, 7, 44, 182, 0, 121, 21, 6, 159, 0, 5, 3, 172, 21, 6]
abbrev dktL_law_35 : List UInt8 := dkwL_law_35 ++ dktL_law_36
def dkwL_law_34 : List UInt8 := [153, 0, 5, 3, 172, 167, 3, 238, 43, 42, 21, 5, 4, 96, 46, 45, 184, 0, 162, 54, 6, 44, 42]
abbrev dktL_law_34 : List UInt8 := dkwL_law_34 ++ dktL_law_35
def dkwL_law_33 : List UInt8 := [182, 0, 121, 21, 6, 159, 0, 5, 3, 172, 21, 6, 154, 0, 15, 45, 3, 47, 21, 7, 133, 148]
abbrev dktL_law_33 : List UInt8 := dkwL_law_33 ++ dktL_law_34
def dkwL_law_32 : List UInt8 := [4, 96, 46, 45, 184, 0, 159, 54, 6, 44, 42, 21, 5, 4, 96, 46, 182, 0, 161, 54, 7, 44]
abbrev dktL_law_32 : List UInt8 := dkwL_law_32 ++ dktL_law_33
def dkwL_law_31 : List UInt8 := [21, 6, 154, 0, 15, 45, 3, 47, 21, 7, 133, 148, 153, 0, 5, 3, 172, 167, 4, 38, 43, 42, 21, 5]
abbrev dktL_law_31 : List UInt8 := dkwL_law_31 ++ dktL_law_32
def dkwL_law_30 : List UInt8 := [153, 0, 7, 4, 167, 0, 4, 3, 182, 0, 158, 54, 7, 44, 182, 0, 121, 21, 6, 159, 0, 5, 3, 172]
abbrev dktL_law_30 : List UInt8 := dkwL_law_30 ++ dktL_law_31
def dkwL_law_29 : List UInt8 := [184, 0, 155, 54, 6, 44, 42, 21, 5, 4, 96, 46, 42, 21, 5, 5, 96, 46, 42, 21, 5, 6, 96, 46]
abbrev dktL_law_29 : List UInt8 := dkwL_law_29 ++ dktL_law_30
def dkwL_law_28 : List UInt8 := [46, 42, 21, 5, 5, 96, 46, 42, 21, 5, 6, 96, 46, 153, 0, 7, 4, 167, 0, 4, 3, 45]
abbrev dktL_law_28 : List UInt8 := dkwL_law_28 ++ dktL_law_29
def dkwL_law_27 : List UInt8 := [154, 0, 15, 45, 3, 47, 21, 7, 133, 148, 153, 0, 5, 3, 172, 167, 4, 134, 43, 42, 21, 5, 4, 96]
abbrev dktL_law_27 : List UInt8 := dkwL_law_27 ++ dktL_law_28
def dkwL_law_26 : List UInt8 := [21, 5, 4, 96, 46, 182, 0, 154, 54, 7, 44, 182, 0, 121, 21, 6, 159, 0, 5, 3, 172, 21, 6]
abbrev dktL_law_26 : List UInt8 := dkwL_law_26 ++ dktL_law_27
def dkwL_law_25 : List UInt8 := [153, 0, 5, 3, 172, 167, 4, 190, 43, 42, 21, 5, 4, 96, 46, 45, 184, 0, 152, 54, 6, 44, 42]
abbrev dktL_law_25 : List UInt8 := dkwL_law_25 ++ dktL_law_26
def dkwL_law_24 : List UInt8 := [182, 0, 121, 21, 6, 159, 0, 5, 3, 172, 21, 6, 154, 0, 15, 45, 3, 47, 21, 7, 133, 148]
abbrev dktL_law_24 : List UInt8 := dkwL_law_24 ++ dktL_law_25
def dkwL_law_23 : List UInt8 := [21, 5, 4, 96, 46, 45, 184, 0, 149, 54, 6, 44, 42, 21, 5, 4, 96, 46, 182, 0, 151, 54, 7, 44]
abbrev dktL_law_23 : List UInt8 := dkwL_law_23 ++ dktL_law_24
def dkwL_law_22 : List UInt8 := [153, 0, 5, 3, 172, 167, 5, 3, 43, 182, 0, 145, 44, 182, 0, 148, 159, 4, 248, 3, 172, 43, 42]
abbrev dktL_law_22 : List UInt8 := dkwL_law_22 ++ dktL_law_23
def dkwL_law_21 : List UInt8 := [44, 182, 0, 121, 21, 6, 159, 0, 5, 3, 172, 21, 6, 154, 0, 15, 45, 3, 47, 21, 7, 133, 148]
abbrev dktL_law_21 : List UInt8 := dkwL_law_21 ++ dktL_law_22
def dkwL_law_20 : List UInt8 := [21, 5, 4, 96, 46, 42, 21, 5, 5, 96, 46, 153, 0, 7, 4, 167, 0, 4, 3, 182, 0, 144, 54, 7]
abbrev dktL_law_20 : List UInt8 := dkwL_law_20 ++ dktL_law_21
def dkwL_law_19 : List UInt8 := [46, 42, 21, 5, 5, 96, 46, 153, 0, 7, 4, 167, 0, 4, 3, 45, 184, 0, 141, 54, 6, 44, 42]
abbrev dktL_law_19 : List UInt8 := dkwL_law_19 ++ dktL_law_20
def dkwL_law_18 : List UInt8 := [154, 0, 15, 45, 3, 47, 21, 7, 133, 148, 153, 0, 5, 3, 172, 167, 5, 87, 43, 42, 21, 5, 4, 96]
abbrev dktL_law_18 : List UInt8 := dkwL_law_18 ++ dktL_law_19
def dkwL_law_17 : List UInt8 := [42, 21, 5, 5, 96, 46, 182, 0, 140, 54, 7, 44, 182, 0, 121, 21, 6, 159, 0, 5, 3, 172, 21, 6]
abbrev dktL_law_17 : List UInt8 := dkwL_law_17 ++ dktL_law_18
def dkwL_law_16 : List UInt8 := [21, 5, 4, 96, 46, 42, 21, 5, 5, 96, 46, 45, 184, 0, 137, 54, 6, 44, 42, 21, 5, 4, 96, 46]
abbrev dktL_law_16 : List UInt8 := dkwL_law_16 ++ dktL_law_17
def dkwL_law_15 : List UInt8 := [172, 21, 6, 154, 0, 15, 45, 3, 47, 21, 7, 133, 148, 153, 0, 5, 3, 172, 167, 5, 155, 43, 42]
abbrev dktL_law_15 : List UInt8 := dkwL_law_15 ++ dktL_law_16
def dkwL_law_14 : List UInt8 := [54, 6, 44, 42, 21, 5, 4, 96, 46, 182, 0, 136, 54, 7, 44, 182, 0, 121, 21, 6, 159, 0, 5, 3]
abbrev dktL_law_14 : List UInt8 := dkwL_law_14 ++ dktL_law_15
def dkwL_law_13 : List UInt8 := [21, 7, 133, 148, 153, 0, 5, 3, 172, 167, 5, 211, 43, 42, 21, 5, 4, 96, 46, 45, 184, 0, 134]
abbrev dktL_law_13 : List UInt8 := dkwL_law_13 ++ dktL_law_14
def dkwL_law_12 : List UInt8 := [182, 0, 133, 54, 7, 44, 182, 0, 121, 21, 6, 159, 0, 5, 3, 172, 21, 6, 154, 0, 15, 45, 3, 47]
abbrev dktL_law_12 : List UInt8 := dkwL_law_12 ++ dktL_law_13
def dkwL_law_11 : List UInt8 := [167, 6, 11, 43, 42, 21, 5, 4, 96, 46, 45, 184, 0, 131, 54, 6, 44, 42, 21, 5, 4, 96, 46]
abbrev dktL_law_11 : List UInt8 := dkwL_law_11 ++ dktL_law_12
def dkwL_law_10 : List UInt8 := [21, 6, 159, 0, 5, 3, 172, 21, 6, 154, 0, 15, 45, 3, 47, 21, 7, 133, 148, 153, 0, 5, 3, 172]
abbrev dktL_law_10 : List UInt8 := dkwL_law_10 ++ dktL_law_11
def dkwL_law_9 : List UInt8 := [46, 45, 184, 0, 128, 54, 6, 44, 42, 21, 5, 4, 96, 46, 182, 0, 130, 54, 7, 44, 182, 0, 121]
abbrev dktL_law_9 : List UInt8 := dkwL_law_9 ++ dktL_law_10
def dkwL_law_8 : List UInt8 := [154, 0, 15, 45, 3, 47, 21, 7, 133, 148, 153, 0, 5, 3, 172, 167, 6, 67, 43, 42, 21, 5, 4, 96]
abbrev dktL_law_8 : List UInt8 := dkwL_law_8 ++ dktL_law_9
def dkwL_law_7 : List UInt8 := [21, 5, 4, 96, 46, 182, 0, 127, 54, 7, 44, 182, 0, 121, 21, 6, 159, 0, 5, 3, 172, 21, 6]
abbrev dktL_law_7 : List UInt8 := dkwL_law_7 ++ dktL_law_8
def dkwL_law_6 : List UInt8 := [148, 153, 0, 5, 3, 172, 167, 6, 123, 43, 42, 21, 5, 4, 96, 46, 45, 184, 0, 124, 54, 6, 44, 42]
abbrev dktL_law_6 : List UInt8 := dkwL_law_6 ++ dktL_law_7
def dkwL_law_5 : List UInt8 := [54, 7, 44, 182, 0, 121, 21, 6, 159, 0, 5, 3, 172, 21, 6, 154, 0, 15, 45, 3, 47, 21, 7, 133]
abbrev dktL_law_5 : List UInt8 := dkwL_law_5 ++ dktL_law_6
def dkwL_law_4 : List UInt8 := [54, 6, 44, 42, 21, 5, 4, 96, 46, 42, 21, 5, 5, 96, 46, 42, 21, 5, 6, 96, 46, 182, 0, 120]
abbrev dktL_law_4 : List UInt8 := dkwL_law_4 ++ dktL_law_5
def dkwL_law_3 : List UInt8 := [43, 42, 21, 5, 4, 96, 46, 42, 21, 5, 5, 96, 46, 42, 21, 5, 6, 96, 46, 45, 184, 0, 115]
abbrev dktL_law_3 : List UInt8 := dkwL_law_3 ++ dktL_law_4
def dkwL_law_2 : List UInt8 := [170, 0, 0, 0, 0, 0, 7, 80, 0, 0, 0, 0, 0, 0, 0, 29, 0, 0, 0, 136, 0, 0, 0, 216, 0, 0, 1, 16, 0, 0, 1, 72, 0, 0, 1, 128, 0, 0, 1, 184, 0, 0, 1, 252, 0, 0, 2, 80, 0, 0, 2, 93, 0, 0, 2, 149, 0, 0, 2, 205, 0, 0, 3, 45, 0, 0, 3, 101, 0, 0, 3, 157, 0, 0, 3, 213, 0, 0, 4, 25, 0, 0, 4, 81, 0, 0, 4, 149, 0, 0, 4, 217, 0, 0, 5, 41, 0, 0, 5, 109, 0, 0, 5, 165, 0, 0, 5, 230, 0, 0, 6, 17, 0, 0, 6, 75, 0, 0, 6, 119, 0, 0, 6, 163, 0, 0, 6, 235, 0, 0, 7, 23, 0, 0, 7, 36]
abbrev dktL_law_2 : List UInt8 := dkwL_law_2 ++ dktL_law_3
def dkwL_law_1 : List UInt8 := [58, 4, 3, 54, 5, 21, 5, 42, 190, 7, 100, 163, 7, 96, 42, 21, 5, 46, 16, 31, 126]
abbrev dktL_law_1 : List UInt8 := dkwL_law_1 ++ dktL_law_2
def dkwL_law_0 : List UInt8 := [187, 0, 8, 89, 183, 0, 111, 76, 187, 0, 112, 89, 183, 0, 114, 77, 4, 188, 11, 78, 4, 188, 7]
abbrev dktL_law_0 : List UInt8 := dkwL_law_0 ++ dktL_law_1
theorem dksL_law_0 : cL_law.data.toList.drop 0 = dktL_law_0 := by decide +kernel
theorem dksL_law_1 : cL_law.data.toList.drop 23 = dktL_law_1 := dk_seg dksL_law_0 23 rfl rfl
theorem dksL_law_2 : cL_law.data.toList.drop 44 = dktL_law_2 := dk_seg dksL_law_1 21 rfl rfl
theorem dksL_law_3 : cL_law.data.toList.drop 180 = dktL_law_3 := dk_seg dksL_law_2 136 rfl rfl
theorem dksL_law_4 : cL_law.data.toList.drop 203 = dktL_law_4 := dk_seg dksL_law_3 23 rfl rfl
theorem dksL_law_5 : cL_law.data.toList.drop 227 = dktL_law_5 := dk_seg dksL_law_4 24 rfl rfl
theorem dksL_law_6 : cL_law.data.toList.drop 251 = dktL_law_6 := dk_seg dksL_law_5 24 rfl rfl
theorem dksL_law_7 : cL_law.data.toList.drop 275 = dktL_law_7 := dk_seg dksL_law_6 24 rfl rfl
theorem dksL_law_8 : cL_law.data.toList.drop 298 = dktL_law_8 := dk_seg dksL_law_7 23 rfl rfl
theorem dksL_law_9 : cL_law.data.toList.drop 322 = dktL_law_9 := dk_seg dksL_law_8 24 rfl rfl
theorem dksL_law_10 : cL_law.data.toList.drop 345 = dktL_law_10 := dk_seg dksL_law_9 23 rfl rfl
theorem dksL_law_11 : cL_law.data.toList.drop 369 = dktL_law_11 := dk_seg dksL_law_10 24 rfl rfl
theorem dksL_law_12 : cL_law.data.toList.drop 392 = dktL_law_12 := dk_seg dksL_law_11 23 rfl rfl
theorem dksL_law_13 : cL_law.data.toList.drop 416 = dktL_law_13 := dk_seg dksL_law_12 24 rfl rfl
theorem dksL_law_14 : cL_law.data.toList.drop 439 = dktL_law_14 := dk_seg dksL_law_13 23 rfl rfl
theorem dksL_law_15 : cL_law.data.toList.drop 463 = dktL_law_15 := dk_seg dksL_law_14 24 rfl rfl
theorem dksL_law_16 : cL_law.data.toList.drop 486 = dktL_law_16 := dk_seg dksL_law_15 23 rfl rfl
theorem dksL_law_17 : cL_law.data.toList.drop 510 = dktL_law_17 := dk_seg dksL_law_16 24 rfl rfl
theorem dksL_law_18 : cL_law.data.toList.drop 534 = dktL_law_18 := dk_seg dksL_law_17 24 rfl rfl
theorem dksL_law_19 : cL_law.data.toList.drop 558 = dktL_law_19 := dk_seg dksL_law_18 24 rfl rfl
theorem dksL_law_20 : cL_law.data.toList.drop 581 = dktL_law_20 := dk_seg dksL_law_19 23 rfl rfl
theorem dksL_law_21 : cL_law.data.toList.drop 605 = dktL_law_21 := dk_seg dksL_law_20 24 rfl rfl
theorem dksL_law_22 : cL_law.data.toList.drop 628 = dktL_law_22 := dk_seg dksL_law_21 23 rfl rfl
theorem dksL_law_23 : cL_law.data.toList.drop 651 = dktL_law_23 := dk_seg dksL_law_22 23 rfl rfl
theorem dksL_law_24 : cL_law.data.toList.drop 675 = dktL_law_24 := dk_seg dksL_law_23 24 rfl rfl
theorem dksL_law_25 : cL_law.data.toList.drop 697 = dktL_law_25 := dk_seg dksL_law_24 22 rfl rfl
theorem dksL_law_26 : cL_law.data.toList.drop 720 = dktL_law_26 := dk_seg dksL_law_25 23 rfl rfl
theorem dksL_law_27 : cL_law.data.toList.drop 743 = dktL_law_27 := dk_seg dksL_law_26 23 rfl rfl
theorem dksL_law_28 : cL_law.data.toList.drop 767 = dktL_law_28 := dk_seg dksL_law_27 24 rfl rfl
theorem dksL_law_29 : cL_law.data.toList.drop 789 = dktL_law_29 := dk_seg dksL_law_28 22 rfl rfl
theorem dksL_law_30 : cL_law.data.toList.drop 813 = dktL_law_30 := dk_seg dksL_law_29 24 rfl rfl
theorem dksL_law_31 : cL_law.data.toList.drop 837 = dktL_law_31 := dk_seg dksL_law_30 24 rfl rfl
theorem dksL_law_32 : cL_law.data.toList.drop 861 = dktL_law_32 := dk_seg dksL_law_31 24 rfl rfl
theorem dksL_law_33 : cL_law.data.toList.drop 883 = dktL_law_33 := dk_seg dksL_law_32 22 rfl rfl
theorem dksL_law_34 : cL_law.data.toList.drop 905 = dktL_law_34 := dk_seg dksL_law_33 22 rfl rfl
theorem dksL_law_35 : cL_law.data.toList.drop 928 = dktL_law_35 := dk_seg dksL_law_34 23 rfl rfl
theorem dksL_law_36 : cL_law.data.toList.drop 951 = dktL_law_36 := dk_seg dksL_law_35 23 rfl rfl
theorem dksL_law_37 : cL_law.data.toList.drop 975 = dktL_law_37 := dk_seg dksL_law_36 24 rfl rfl
theorem dksL_law_38 : cL_law.data.toList.drop 998 = dktL_law_38 := dk_seg dksL_law_37 23 rfl rfl
theorem dksL_law_39 : cL_law.data.toList.drop 1022 = dktL_law_39 := dk_seg dksL_law_38 24 rfl rfl
theorem dksL_law_40 : cL_law.data.toList.drop 1046 = dktL_law_40 := dk_seg dksL_law_39 24 rfl rfl
theorem dksL_law_41 : cL_law.data.toList.drop 1068 = dktL_law_41 := dk_seg dksL_law_40 22 rfl rfl
theorem dksL_law_42 : cL_law.data.toList.drop 1090 = dktL_law_42 := dk_seg dksL_law_41 22 rfl rfl
theorem dksL_law_43 : cL_law.data.toList.drop 1113 = dktL_law_43 := dk_seg dksL_law_42 23 rfl rfl
theorem dksL_law_44 : cL_law.data.toList.drop 1137 = dktL_law_44 := dk_seg dksL_law_43 24 rfl rfl
theorem dksL_law_45 : cL_law.data.toList.drop 1161 = dktL_law_45 := dk_seg dksL_law_44 24 rfl rfl
theorem dksL_law_46 : cL_law.data.toList.drop 1184 = dktL_law_46 := dk_seg dksL_law_45 23 rfl rfl
theorem dksL_law_47 : cL_law.data.toList.drop 1208 = dktL_law_47 := dk_seg dksL_law_46 24 rfl rfl
theorem dksL_law_48 : cL_law.data.toList.drop 1231 = dktL_law_48 := dk_seg dksL_law_47 23 rfl rfl
theorem dksL_law_49 : cL_law.data.toList.drop 1255 = dktL_law_49 := dk_seg dksL_law_48 24 rfl rfl
theorem dksL_law_50 : cL_law.data.toList.drop 1277 = dktL_law_50 := dk_seg dksL_law_49 22 rfl rfl
theorem dksL_law_51 : cL_law.data.toList.drop 1301 = dktL_law_51 := dk_seg dksL_law_50 24 rfl rfl
theorem dksL_law_52 : cL_law.data.toList.drop 1324 = dktL_law_52 := dk_seg dksL_law_51 23 rfl rfl
theorem dksL_law_53 : cL_law.data.toList.drop 1347 = dktL_law_53 := dk_seg dksL_law_52 23 rfl rfl
theorem dksL_law_54 : cL_law.data.toList.drop 1371 = dktL_law_54 := dk_seg dksL_law_53 24 rfl rfl
theorem dksL_law_55 : cL_law.data.toList.drop 1395 = dktL_law_55 := dk_seg dksL_law_54 24 rfl rfl
theorem dksL_law_56 : cL_law.data.toList.drop 1419 = dktL_law_56 := dk_seg dksL_law_55 24 rfl rfl
theorem dksL_law_57 : cL_law.data.toList.drop 1441 = dktL_law_57 := dk_seg dksL_law_56 22 rfl rfl
theorem dksL_law_58 : cL_law.data.toList.drop 1464 = dktL_law_58 := dk_seg dksL_law_57 23 rfl rfl
theorem dksL_law_59 : cL_law.data.toList.drop 1486 = dktL_law_59 := dk_seg dksL_law_58 22 rfl rfl
theorem dksL_law_60 : cL_law.data.toList.drop 1509 = dktL_law_60 := dk_seg dksL_law_59 23 rfl rfl
theorem dksL_law_61 : cL_law.data.toList.drop 1533 = dktL_law_61 := dk_seg dksL_law_60 24 rfl rfl
theorem dksL_law_62 : cL_law.data.toList.drop 1555 = dktL_law_62 := dk_seg dksL_law_61 22 rfl rfl
theorem dksL_law_63 : cL_law.data.toList.drop 1578 = dktL_law_63 := dk_seg dksL_law_62 23 rfl rfl
theorem dksL_law_64 : cL_law.data.toList.drop 1602 = dktL_law_64 := dk_seg dksL_law_63 24 rfl rfl
theorem dksL_law_65 : cL_law.data.toList.drop 1625 = dktL_law_65 := dk_seg dksL_law_64 23 rfl rfl
theorem dksL_law_66 : cL_law.data.toList.drop 1647 = dktL_law_66 := dk_seg dksL_law_65 22 rfl rfl
theorem dksL_law_67 : cL_law.data.toList.drop 1669 = dktL_law_67 := dk_seg dksL_law_66 22 rfl rfl
theorem dksL_law_68 : cL_law.data.toList.drop 1691 = dktL_law_68 := dk_seg dksL_law_67 22 rfl rfl
theorem dksL_law_69 : cL_law.data.toList.drop 1713 = dktL_law_69 := dk_seg dksL_law_68 22 rfl rfl
theorem dksL_law_70 : cL_law.data.toList.drop 1735 = dktL_law_70 := dk_seg dksL_law_69 22 rfl rfl
theorem dksL_law_71 : cL_law.data.toList.drop 1759 = dktL_law_71 := dk_seg dksL_law_70 24 rfl rfl
theorem dksL_law_72 : cL_law.data.toList.drop 1782 = dktL_law_72 := dk_seg dksL_law_71 23 rfl rfl
theorem dksL_law_73 : cL_law.data.toList.drop 1806 = dktL_law_73 := dk_seg dksL_law_72 24 rfl rfl
theorem dksL_law_74 : cL_law.data.toList.drop 1829 = dktL_law_74 := dk_seg dksL_law_73 23 rfl rfl
theorem dksL_law_75 : cL_law.data.toList.drop 1851 = dktL_law_75 := dk_seg dksL_law_74 22 rfl rfl
theorem dksL_law_76 : cL_law.data.toList.drop 1874 = dktL_law_76 := dk_seg dksL_law_75 23 rfl rfl
theorem dksL_law_77 : cL_law.data.toList.drop 1898 = dktL_law_77 := dk_seg dksL_law_76 24 rfl rfl
theorem dksL_law_78 : cL_law.data.toList.drop 1922 = dktL_law_78 := dk_seg dksL_law_77 24 rfl rfl
theorem dL_law_0 : decode cL_law 0 = .ok (.new 8, 3) := dk_187 0 8 (dk_at dksL_law_0 0 rfl rfl)
theorem dL_law_3 : decode cL_law 3 = .ok (.dup, 1) := dk_89 (dk_at dksL_law_0 3 rfl rfl)
theorem dL_law_4 : decode cL_law 4 = .ok (.invokespecial 111, 3) := dk_183 0 111 (dk_at dksL_law_0 4 rfl rfl)
theorem dL_law_7 : decode cL_law 7 = .ok (.astore_n 1, 1) := dk_76 (dk_at dksL_law_0 7 rfl rfl)
theorem dL_law_8 : decode cL_law 8 = .ok (.new 112, 3) := dk_187 0 112 (dk_at dksL_law_0 8 rfl rfl)
theorem dL_law_11 : decode cL_law 11 = .ok (.dup, 1) := dk_89 (dk_at dksL_law_0 11 rfl rfl)
theorem dL_law_12 : decode cL_law 12 = .ok (.invokespecial 114, 3) := dk_183 0 114 (dk_at dksL_law_0 12 rfl rfl)
theorem dL_law_15 : decode cL_law 15 = .ok (.astore_n 2, 1) := dk_77 (dk_at dksL_law_0 15 rfl rfl)
theorem dL_law_16 : decode cL_law 16 = .ok (.iconst 1, 1) := dk_4 (dk_at dksL_law_0 16 rfl rfl)
theorem dL_law_17 : decode cL_law 17 = .ok (.newarray .long, 2) := dk_188_11 (dk_at dksL_law_0 17 rfl rfl)
theorem dL_law_19 : decode cL_law 19 = .ok (.astore_n 3, 1) := dk_78 (dk_at dksL_law_0 19 rfl rfl)
theorem dL_law_20 : decode cL_law 20 = .ok (.iconst 1, 1) := dk_4 (dk_at dksL_law_0 20 rfl rfl)
theorem dL_law_21 : decode cL_law 21 = .ok (.newarray .double, 2) := dk_188_7 (dk_at dksL_law_0 21 rfl rfl)
theorem dL_law_23 : decode cL_law 23 = .ok (.astore 4, 2) := dk_58 4 (dk_at dksL_law_1 0 rfl rfl)
theorem dL_law_25 : decode cL_law 25 = .ok (.iconst 0, 1) := dk_3 (dk_at dksL_law_1 2 rfl rfl)
theorem dL_law_26 : decode cL_law 26 = .ok (.istore 5, 2) := dk_54 5 (dk_at dksL_law_1 3 rfl rfl)
theorem dL_law_28 : decode cL_law 28 = .ok (.iload 5, 2) := dk_21 5 (dk_at dksL_law_1 5 rfl rfl)
theorem dL_law_30 : decode cL_law 30 = .ok (.aload_n 0, 1) := dk_42 (dk_at dksL_law_1 7 rfl rfl)
theorem dL_law_31 : decode cL_law 31 = .ok (.arraylength, 1) := dk_190 (dk_at dksL_law_1 8 rfl rfl)
theorem dL_law_32 : decode cL_law 32 = .ok (.iconst 4, 1) := dk_7 (dk_at dksL_law_1 9 rfl rfl)
theorem dL_law_33 : decode cL_law 33 = .ok (.isub, 1) := dk_100 (dk_at dksL_law_1 10 rfl rfl)
theorem dL_law_34 : decode cL_law 34 = .ok (.if_icmp .gt 1888, 3) := dk_163 7 96 (dk_at dksL_law_1 11 rfl rfl)
theorem dL_law_37 : decode cL_law 37 = .ok (.aload_n 0, 1) := dk_42 (dk_at dksL_law_1 14 rfl rfl)
theorem dL_law_38 : decode cL_law 38 = .ok (.iload 5, 2) := dk_21 5 (dk_at dksL_law_1 15 rfl rfl)
theorem dL_law_40 : decode cL_law 40 = .ok (.iaload, 1) := dk_46 (dk_at dksL_law_1 17 rfl rfl)
theorem dL_law_41 : decode cL_law 41 = .ok (.bipush 31, 2) := dk_16 31 (dk_at dksL_law_1 18 rfl rfl)
theorem dL_law_43 : decode cL_law 43 = .ok (.iand, 1) := dk_126 (dk_at dksL_law_1 20 rfl rfl)
theorem dL_law_44 : decode cL_law 44 = .ok (.tableswitch 1872 0 29 #[136, 216, 272, 328, 384, 440, 508, 592, 605, 661, 717, 813, 869, 925, 981, 1049, 1105, 1173, 1241, 1321, 1389, 1445, 1510, 1553, 1611, 1655, 1699, 1771, 1815, 1828], 136) := by decide +kernel
theorem dL_law_180 : decode cL_law 180 = .ok (.aload_n 1, 1) := dk_43 (dk_at dksL_law_3 0 rfl rfl)
theorem dL_law_181 : decode cL_law 181 = .ok (.aload_n 0, 1) := dk_42 (dk_at dksL_law_3 1 rfl rfl)
theorem dL_law_182 : decode cL_law 182 = .ok (.iload 5, 2) := dk_21 5 (dk_at dksL_law_3 2 rfl rfl)
theorem dL_law_184 : decode cL_law 184 = .ok (.iconst 1, 1) := dk_4 (dk_at dksL_law_3 4 rfl rfl)
theorem dL_law_185 : decode cL_law 185 = .ok (.iadd, 1) := dk_96 (dk_at dksL_law_3 5 rfl rfl)
theorem dL_law_186 : decode cL_law 186 = .ok (.iaload, 1) := dk_46 (dk_at dksL_law_3 6 rfl rfl)
theorem dL_law_187 : decode cL_law 187 = .ok (.aload_n 0, 1) := dk_42 (dk_at dksL_law_3 7 rfl rfl)
theorem dL_law_188 : decode cL_law 188 = .ok (.iload 5, 2) := dk_21 5 (dk_at dksL_law_3 8 rfl rfl)
theorem dL_law_190 : decode cL_law 190 = .ok (.iconst 2, 1) := dk_5 (dk_at dksL_law_3 10 rfl rfl)
theorem dL_law_191 : decode cL_law 191 = .ok (.iadd, 1) := dk_96 (dk_at dksL_law_3 11 rfl rfl)
theorem dL_law_192 : decode cL_law 192 = .ok (.iaload, 1) := dk_46 (dk_at dksL_law_3 12 rfl rfl)
theorem dL_law_193 : decode cL_law 193 = .ok (.aload_n 0, 1) := dk_42 (dk_at dksL_law_3 13 rfl rfl)
theorem dL_law_194 : decode cL_law 194 = .ok (.iload 5, 2) := dk_21 5 (dk_at dksL_law_3 14 rfl rfl)
theorem dL_law_196 : decode cL_law 196 = .ok (.iconst 3, 1) := dk_6 (dk_at dksL_law_3 16 rfl rfl)
theorem dL_law_197 : decode cL_law 197 = .ok (.iadd, 1) := dk_96 (dk_at dksL_law_3 17 rfl rfl)
theorem dL_law_198 : decode cL_law 198 = .ok (.iaload, 1) := dk_46 (dk_at dksL_law_3 18 rfl rfl)
theorem dL_law_199 : decode cL_law 199 = .ok (.aload_n 3, 1) := dk_45 (dk_at dksL_law_3 19 rfl rfl)
theorem dL_law_200 : decode cL_law 200 = .ok (.invokestatic 115, 3) := dk_184 0 115 (dk_at dksL_law_3 20 rfl rfl)
theorem dL_law_203 : decode cL_law 203 = .ok (.istore 6, 2) := dk_54 6 (dk_at dksL_law_4 0 rfl rfl)
theorem dL_law_205 : decode cL_law 205 = .ok (.aload_n 2, 1) := dk_44 (dk_at dksL_law_4 2 rfl rfl)
theorem dL_law_206 : decode cL_law 206 = .ok (.aload_n 0, 1) := dk_42 (dk_at dksL_law_4 3 rfl rfl)
theorem dL_law_207 : decode cL_law 207 = .ok (.iload 5, 2) := dk_21 5 (dk_at dksL_law_4 4 rfl rfl)
theorem dL_law_209 : decode cL_law 209 = .ok (.iconst 1, 1) := dk_4 (dk_at dksL_law_4 6 rfl rfl)
theorem dL_law_210 : decode cL_law 210 = .ok (.iadd, 1) := dk_96 (dk_at dksL_law_4 7 rfl rfl)
theorem dL_law_211 : decode cL_law 211 = .ok (.iaload, 1) := dk_46 (dk_at dksL_law_4 8 rfl rfl)
theorem dL_law_212 : decode cL_law 212 = .ok (.aload_n 0, 1) := dk_42 (dk_at dksL_law_4 9 rfl rfl)
theorem dL_law_213 : decode cL_law 213 = .ok (.iload 5, 2) := dk_21 5 (dk_at dksL_law_4 10 rfl rfl)
theorem dL_law_215 : decode cL_law 215 = .ok (.iconst 2, 1) := dk_5 (dk_at dksL_law_4 12 rfl rfl)
theorem dL_law_216 : decode cL_law 216 = .ok (.iadd, 1) := dk_96 (dk_at dksL_law_4 13 rfl rfl)
theorem dL_law_217 : decode cL_law 217 = .ok (.iaload, 1) := dk_46 (dk_at dksL_law_4 14 rfl rfl)
theorem dL_law_218 : decode cL_law 218 = .ok (.aload_n 0, 1) := dk_42 (dk_at dksL_law_4 15 rfl rfl)
theorem dL_law_219 : decode cL_law 219 = .ok (.iload 5, 2) := dk_21 5 (dk_at dksL_law_4 16 rfl rfl)
theorem dL_law_221 : decode cL_law 221 = .ok (.iconst 3, 1) := dk_6 (dk_at dksL_law_4 18 rfl rfl)
theorem dL_law_222 : decode cL_law 222 = .ok (.iadd, 1) := dk_96 (dk_at dksL_law_4 19 rfl rfl)
theorem dL_law_223 : decode cL_law 223 = .ok (.iaload, 1) := dk_46 (dk_at dksL_law_4 20 rfl rfl)
theorem dL_law_224 : decode cL_law 224 = .ok (.invokevirtual 120, 3) := dk_182 0 120 (dk_at dksL_law_4 21 rfl rfl)
theorem dL_law_227 : decode cL_law 227 = .ok (.istore 7, 2) := dk_54 7 (dk_at dksL_law_5 0 rfl rfl)
theorem dL_law_229 : decode cL_law 229 = .ok (.aload_n 2, 1) := dk_44 (dk_at dksL_law_5 2 rfl rfl)
theorem dL_law_230 : decode cL_law 230 = .ok (.invokevirtual 121, 3) := dk_182 0 121 (dk_at dksL_law_5 3 rfl rfl)
theorem dL_law_233 : decode cL_law 233 = .ok (.iload 6, 2) := dk_21 6 (dk_at dksL_law_5 6 rfl rfl)
theorem dL_law_235 : decode cL_law 235 = .ok (.if_icmp .eq 5, 3) := dk_159 0 5 (dk_at dksL_law_5 8 rfl rfl)
theorem dL_law_238 : decode cL_law 238 = .ok (.iconst 0, 1) := dk_3 (dk_at dksL_law_5 11 rfl rfl)
theorem dL_law_239 : decode cL_law 239 = .ok (.ireturn, 1) := dk_172 (dk_at dksL_law_5 12 rfl rfl)
theorem dL_law_240 : decode cL_law 240 = .ok (.iload 6, 2) := dk_21 6 (dk_at dksL_law_5 13 rfl rfl)
theorem dL_law_242 : decode cL_law 242 = .ok (.ifCond .ne 15, 3) := dk_154 0 15 (dk_at dksL_law_5 15 rfl rfl)
theorem dL_law_245 : decode cL_law 245 = .ok (.aload_n 3, 1) := dk_45 (dk_at dksL_law_5 18 rfl rfl)
theorem dL_law_246 : decode cL_law 246 = .ok (.iconst 0, 1) := dk_3 (dk_at dksL_law_5 19 rfl rfl)
theorem dL_law_247 : decode cL_law 247 = .ok (.laload, 1) := dk_47 (dk_at dksL_law_5 20 rfl rfl)
theorem dL_law_248 : decode cL_law 248 = .ok (.iload 7, 2) := dk_21 7 (dk_at dksL_law_5 21 rfl rfl)
theorem dL_law_250 : decode cL_law 250 = .ok (.i2l, 1) := dk_133 (dk_at dksL_law_5 23 rfl rfl)
theorem dL_law_251 : decode cL_law 251 = .ok (.lcmp, 1) := dk_148 (dk_at dksL_law_6 0 rfl rfl)
theorem dL_law_252 : decode cL_law 252 = .ok (.ifCond .eq 5, 3) := dk_153 0 5 (dk_at dksL_law_6 1 rfl rfl)
theorem dL_law_255 : decode cL_law 255 = .ok (.iconst 0, 1) := dk_3 (dk_at dksL_law_6 4 rfl rfl)
theorem dL_law_256 : decode cL_law 256 = .ok (.ireturn, 1) := dk_172 (dk_at dksL_law_6 5 rfl rfl)
theorem dL_law_257 : decode cL_law 257 = .ok (.goto 1659, 3) := dk_167 6 123 (dk_at dksL_law_6 6 rfl rfl)
theorem dL_law_260 : decode cL_law 260 = .ok (.aload_n 1, 1) := dk_43 (dk_at dksL_law_6 9 rfl rfl)
theorem dL_law_261 : decode cL_law 261 = .ok (.aload_n 0, 1) := dk_42 (dk_at dksL_law_6 10 rfl rfl)
theorem dL_law_262 : decode cL_law 262 = .ok (.iload 5, 2) := dk_21 5 (dk_at dksL_law_6 11 rfl rfl)
theorem dL_law_264 : decode cL_law 264 = .ok (.iconst 1, 1) := dk_4 (dk_at dksL_law_6 13 rfl rfl)
theorem dL_law_265 : decode cL_law 265 = .ok (.iadd, 1) := dk_96 (dk_at dksL_law_6 14 rfl rfl)
theorem dL_law_266 : decode cL_law 266 = .ok (.iaload, 1) := dk_46 (dk_at dksL_law_6 15 rfl rfl)
theorem dL_law_267 : decode cL_law 267 = .ok (.aload_n 3, 1) := dk_45 (dk_at dksL_law_6 16 rfl rfl)
theorem dL_law_268 : decode cL_law 268 = .ok (.invokestatic 124, 3) := dk_184 0 124 (dk_at dksL_law_6 17 rfl rfl)
theorem dL_law_271 : decode cL_law 271 = .ok (.istore 6, 2) := dk_54 6 (dk_at dksL_law_6 20 rfl rfl)
theorem dL_law_273 : decode cL_law 273 = .ok (.aload_n 2, 1) := dk_44 (dk_at dksL_law_6 22 rfl rfl)
theorem dL_law_274 : decode cL_law 274 = .ok (.aload_n 0, 1) := dk_42 (dk_at dksL_law_6 23 rfl rfl)
theorem dL_law_275 : decode cL_law 275 = .ok (.iload 5, 2) := dk_21 5 (dk_at dksL_law_7 0 rfl rfl)
theorem dL_law_277 : decode cL_law 277 = .ok (.iconst 1, 1) := dk_4 (dk_at dksL_law_7 2 rfl rfl)
theorem dL_law_278 : decode cL_law 278 = .ok (.iadd, 1) := dk_96 (dk_at dksL_law_7 3 rfl rfl)
theorem dL_law_279 : decode cL_law 279 = .ok (.iaload, 1) := dk_46 (dk_at dksL_law_7 4 rfl rfl)
theorem dL_law_280 : decode cL_law 280 = .ok (.invokevirtual 127, 3) := dk_182 0 127 (dk_at dksL_law_7 5 rfl rfl)
theorem dL_law_283 : decode cL_law 283 = .ok (.istore 7, 2) := dk_54 7 (dk_at dksL_law_7 8 rfl rfl)
theorem dL_law_285 : decode cL_law 285 = .ok (.aload_n 2, 1) := dk_44 (dk_at dksL_law_7 10 rfl rfl)
theorem dL_law_286 : decode cL_law 286 = .ok (.invokevirtual 121, 3) := dk_182 0 121 (dk_at dksL_law_7 11 rfl rfl)
theorem dL_law_289 : decode cL_law 289 = .ok (.iload 6, 2) := dk_21 6 (dk_at dksL_law_7 14 rfl rfl)
theorem dL_law_291 : decode cL_law 291 = .ok (.if_icmp .eq 5, 3) := dk_159 0 5 (dk_at dksL_law_7 16 rfl rfl)
theorem dL_law_294 : decode cL_law 294 = .ok (.iconst 0, 1) := dk_3 (dk_at dksL_law_7 19 rfl rfl)
theorem dL_law_295 : decode cL_law 295 = .ok (.ireturn, 1) := dk_172 (dk_at dksL_law_7 20 rfl rfl)
theorem dL_law_296 : decode cL_law 296 = .ok (.iload 6, 2) := dk_21 6 (dk_at dksL_law_7 21 rfl rfl)
theorem dL_law_298 : decode cL_law 298 = .ok (.ifCond .ne 15, 3) := dk_154 0 15 (dk_at dksL_law_8 0 rfl rfl)
theorem dL_law_301 : decode cL_law 301 = .ok (.aload_n 3, 1) := dk_45 (dk_at dksL_law_8 3 rfl rfl)
theorem dL_law_302 : decode cL_law 302 = .ok (.iconst 0, 1) := dk_3 (dk_at dksL_law_8 4 rfl rfl)
theorem dL_law_303 : decode cL_law 303 = .ok (.laload, 1) := dk_47 (dk_at dksL_law_8 5 rfl rfl)
theorem dL_law_304 : decode cL_law 304 = .ok (.iload 7, 2) := dk_21 7 (dk_at dksL_law_8 6 rfl rfl)
theorem dL_law_306 : decode cL_law 306 = .ok (.i2l, 1) := dk_133 (dk_at dksL_law_8 8 rfl rfl)
theorem dL_law_307 : decode cL_law 307 = .ok (.lcmp, 1) := dk_148 (dk_at dksL_law_8 9 rfl rfl)
theorem dL_law_308 : decode cL_law 308 = .ok (.ifCond .eq 5, 3) := dk_153 0 5 (dk_at dksL_law_8 10 rfl rfl)
theorem dL_law_311 : decode cL_law 311 = .ok (.iconst 0, 1) := dk_3 (dk_at dksL_law_8 13 rfl rfl)
theorem dL_law_312 : decode cL_law 312 = .ok (.ireturn, 1) := dk_172 (dk_at dksL_law_8 14 rfl rfl)
theorem dL_law_313 : decode cL_law 313 = .ok (.goto 1603, 3) := dk_167 6 67 (dk_at dksL_law_8 15 rfl rfl)
theorem dL_law_316 : decode cL_law 316 = .ok (.aload_n 1, 1) := dk_43 (dk_at dksL_law_8 18 rfl rfl)
theorem dL_law_317 : decode cL_law 317 = .ok (.aload_n 0, 1) := dk_42 (dk_at dksL_law_8 19 rfl rfl)
theorem dL_law_318 : decode cL_law 318 = .ok (.iload 5, 2) := dk_21 5 (dk_at dksL_law_8 20 rfl rfl)
theorem dL_law_320 : decode cL_law 320 = .ok (.iconst 1, 1) := dk_4 (dk_at dksL_law_8 22 rfl rfl)
theorem dL_law_321 : decode cL_law 321 = .ok (.iadd, 1) := dk_96 (dk_at dksL_law_8 23 rfl rfl)
theorem dL_law_322 : decode cL_law 322 = .ok (.iaload, 1) := dk_46 (dk_at dksL_law_9 0 rfl rfl)
theorem dL_law_323 : decode cL_law 323 = .ok (.aload_n 3, 1) := dk_45 (dk_at dksL_law_9 1 rfl rfl)
theorem dL_law_324 : decode cL_law 324 = .ok (.invokestatic 128, 3) := dk_184 0 128 (dk_at dksL_law_9 2 rfl rfl)
theorem dL_law_327 : decode cL_law 327 = .ok (.istore 6, 2) := dk_54 6 (dk_at dksL_law_9 5 rfl rfl)
theorem dL_law_329 : decode cL_law 329 = .ok (.aload_n 2, 1) := dk_44 (dk_at dksL_law_9 7 rfl rfl)
theorem dL_law_330 : decode cL_law 330 = .ok (.aload_n 0, 1) := dk_42 (dk_at dksL_law_9 8 rfl rfl)
theorem dL_law_331 : decode cL_law 331 = .ok (.iload 5, 2) := dk_21 5 (dk_at dksL_law_9 9 rfl rfl)
theorem dL_law_333 : decode cL_law 333 = .ok (.iconst 1, 1) := dk_4 (dk_at dksL_law_9 11 rfl rfl)
theorem dL_law_334 : decode cL_law 334 = .ok (.iadd, 1) := dk_96 (dk_at dksL_law_9 12 rfl rfl)
theorem dL_law_335 : decode cL_law 335 = .ok (.iaload, 1) := dk_46 (dk_at dksL_law_9 13 rfl rfl)
theorem dL_law_336 : decode cL_law 336 = .ok (.invokevirtual 130, 3) := dk_182 0 130 (dk_at dksL_law_9 14 rfl rfl)
theorem dL_law_339 : decode cL_law 339 = .ok (.istore 7, 2) := dk_54 7 (dk_at dksL_law_9 17 rfl rfl)
theorem dL_law_341 : decode cL_law 341 = .ok (.aload_n 2, 1) := dk_44 (dk_at dksL_law_9 19 rfl rfl)
theorem dL_law_342 : decode cL_law 342 = .ok (.invokevirtual 121, 3) := dk_182 0 121 (dk_at dksL_law_9 20 rfl rfl)
theorem dL_law_345 : decode cL_law 345 = .ok (.iload 6, 2) := dk_21 6 (dk_at dksL_law_10 0 rfl rfl)
theorem dL_law_347 : decode cL_law 347 = .ok (.if_icmp .eq 5, 3) := dk_159 0 5 (dk_at dksL_law_10 2 rfl rfl)
theorem dL_law_350 : decode cL_law 350 = .ok (.iconst 0, 1) := dk_3 (dk_at dksL_law_10 5 rfl rfl)
theorem dL_law_351 : decode cL_law 351 = .ok (.ireturn, 1) := dk_172 (dk_at dksL_law_10 6 rfl rfl)
theorem dL_law_352 : decode cL_law 352 = .ok (.iload 6, 2) := dk_21 6 (dk_at dksL_law_10 7 rfl rfl)
theorem dL_law_354 : decode cL_law 354 = .ok (.ifCond .ne 15, 3) := dk_154 0 15 (dk_at dksL_law_10 9 rfl rfl)
theorem dL_law_357 : decode cL_law 357 = .ok (.aload_n 3, 1) := dk_45 (dk_at dksL_law_10 12 rfl rfl)
theorem dL_law_358 : decode cL_law 358 = .ok (.iconst 0, 1) := dk_3 (dk_at dksL_law_10 13 rfl rfl)
theorem dL_law_359 : decode cL_law 359 = .ok (.laload, 1) := dk_47 (dk_at dksL_law_10 14 rfl rfl)
theorem dL_law_360 : decode cL_law 360 = .ok (.iload 7, 2) := dk_21 7 (dk_at dksL_law_10 15 rfl rfl)
theorem dL_law_362 : decode cL_law 362 = .ok (.i2l, 1) := dk_133 (dk_at dksL_law_10 17 rfl rfl)
theorem dL_law_363 : decode cL_law 363 = .ok (.lcmp, 1) := dk_148 (dk_at dksL_law_10 18 rfl rfl)
theorem dL_law_364 : decode cL_law 364 = .ok (.ifCond .eq 5, 3) := dk_153 0 5 (dk_at dksL_law_10 19 rfl rfl)
theorem dL_law_367 : decode cL_law 367 = .ok (.iconst 0, 1) := dk_3 (dk_at dksL_law_10 22 rfl rfl)
theorem dL_law_368 : decode cL_law 368 = .ok (.ireturn, 1) := dk_172 (dk_at dksL_law_10 23 rfl rfl)
theorem dL_law_369 : decode cL_law 369 = .ok (.goto 1547, 3) := dk_167 6 11 (dk_at dksL_law_11 0 rfl rfl)
theorem dL_law_372 : decode cL_law 372 = .ok (.aload_n 1, 1) := dk_43 (dk_at dksL_law_11 3 rfl rfl)
theorem dL_law_373 : decode cL_law 373 = .ok (.aload_n 0, 1) := dk_42 (dk_at dksL_law_11 4 rfl rfl)
theorem dL_law_374 : decode cL_law 374 = .ok (.iload 5, 2) := dk_21 5 (dk_at dksL_law_11 5 rfl rfl)
theorem dL_law_376 : decode cL_law 376 = .ok (.iconst 1, 1) := dk_4 (dk_at dksL_law_11 7 rfl rfl)
theorem dL_law_377 : decode cL_law 377 = .ok (.iadd, 1) := dk_96 (dk_at dksL_law_11 8 rfl rfl)
theorem dL_law_378 : decode cL_law 378 = .ok (.iaload, 1) := dk_46 (dk_at dksL_law_11 9 rfl rfl)
theorem dL_law_379 : decode cL_law 379 = .ok (.aload_n 3, 1) := dk_45 (dk_at dksL_law_11 10 rfl rfl)
theorem dL_law_380 : decode cL_law 380 = .ok (.invokestatic 131, 3) := dk_184 0 131 (dk_at dksL_law_11 11 rfl rfl)
theorem dL_law_383 : decode cL_law 383 = .ok (.istore 6, 2) := dk_54 6 (dk_at dksL_law_11 14 rfl rfl)
theorem dL_law_385 : decode cL_law 385 = .ok (.aload_n 2, 1) := dk_44 (dk_at dksL_law_11 16 rfl rfl)
theorem dL_law_386 : decode cL_law 386 = .ok (.aload_n 0, 1) := dk_42 (dk_at dksL_law_11 17 rfl rfl)
theorem dL_law_387 : decode cL_law 387 = .ok (.iload 5, 2) := dk_21 5 (dk_at dksL_law_11 18 rfl rfl)
theorem dL_law_389 : decode cL_law 389 = .ok (.iconst 1, 1) := dk_4 (dk_at dksL_law_11 20 rfl rfl)
theorem dL_law_390 : decode cL_law 390 = .ok (.iadd, 1) := dk_96 (dk_at dksL_law_11 21 rfl rfl)
theorem dL_law_391 : decode cL_law 391 = .ok (.iaload, 1) := dk_46 (dk_at dksL_law_11 22 rfl rfl)
theorem dL_law_392 : decode cL_law 392 = .ok (.invokevirtual 133, 3) := dk_182 0 133 (dk_at dksL_law_12 0 rfl rfl)
theorem dL_law_395 : decode cL_law 395 = .ok (.istore 7, 2) := dk_54 7 (dk_at dksL_law_12 3 rfl rfl)
theorem dL_law_397 : decode cL_law 397 = .ok (.aload_n 2, 1) := dk_44 (dk_at dksL_law_12 5 rfl rfl)
theorem dL_law_398 : decode cL_law 398 = .ok (.invokevirtual 121, 3) := dk_182 0 121 (dk_at dksL_law_12 6 rfl rfl)
theorem dL_law_401 : decode cL_law 401 = .ok (.iload 6, 2) := dk_21 6 (dk_at dksL_law_12 9 rfl rfl)
theorem dL_law_403 : decode cL_law 403 = .ok (.if_icmp .eq 5, 3) := dk_159 0 5 (dk_at dksL_law_12 11 rfl rfl)
theorem dL_law_406 : decode cL_law 406 = .ok (.iconst 0, 1) := dk_3 (dk_at dksL_law_12 14 rfl rfl)
theorem dL_law_407 : decode cL_law 407 = .ok (.ireturn, 1) := dk_172 (dk_at dksL_law_12 15 rfl rfl)
theorem dL_law_408 : decode cL_law 408 = .ok (.iload 6, 2) := dk_21 6 (dk_at dksL_law_12 16 rfl rfl)
theorem dL_law_410 : decode cL_law 410 = .ok (.ifCond .ne 15, 3) := dk_154 0 15 (dk_at dksL_law_12 18 rfl rfl)
theorem dL_law_413 : decode cL_law 413 = .ok (.aload_n 3, 1) := dk_45 (dk_at dksL_law_12 21 rfl rfl)
theorem dL_law_414 : decode cL_law 414 = .ok (.iconst 0, 1) := dk_3 (dk_at dksL_law_12 22 rfl rfl)
theorem dL_law_415 : decode cL_law 415 = .ok (.laload, 1) := dk_47 (dk_at dksL_law_12 23 rfl rfl)
theorem dL_law_416 : decode cL_law 416 = .ok (.iload 7, 2) := dk_21 7 (dk_at dksL_law_13 0 rfl rfl)
theorem dL_law_418 : decode cL_law 418 = .ok (.i2l, 1) := dk_133 (dk_at dksL_law_13 2 rfl rfl)
theorem dL_law_419 : decode cL_law 419 = .ok (.lcmp, 1) := dk_148 (dk_at dksL_law_13 3 rfl rfl)
theorem dL_law_420 : decode cL_law 420 = .ok (.ifCond .eq 5, 3) := dk_153 0 5 (dk_at dksL_law_13 4 rfl rfl)
theorem dL_law_423 : decode cL_law 423 = .ok (.iconst 0, 1) := dk_3 (dk_at dksL_law_13 7 rfl rfl)
theorem dL_law_424 : decode cL_law 424 = .ok (.ireturn, 1) := dk_172 (dk_at dksL_law_13 8 rfl rfl)
theorem dL_law_425 : decode cL_law 425 = .ok (.goto 1491, 3) := dk_167 5 211 (dk_at dksL_law_13 9 rfl rfl)
theorem dL_law_428 : decode cL_law 428 = .ok (.aload_n 1, 1) := dk_43 (dk_at dksL_law_13 12 rfl rfl)
theorem dL_law_429 : decode cL_law 429 = .ok (.aload_n 0, 1) := dk_42 (dk_at dksL_law_13 13 rfl rfl)
theorem dL_law_430 : decode cL_law 430 = .ok (.iload 5, 2) := dk_21 5 (dk_at dksL_law_13 14 rfl rfl)
theorem dL_law_432 : decode cL_law 432 = .ok (.iconst 1, 1) := dk_4 (dk_at dksL_law_13 16 rfl rfl)
theorem dL_law_433 : decode cL_law 433 = .ok (.iadd, 1) := dk_96 (dk_at dksL_law_13 17 rfl rfl)
theorem dL_law_434 : decode cL_law 434 = .ok (.iaload, 1) := dk_46 (dk_at dksL_law_13 18 rfl rfl)
theorem dL_law_435 : decode cL_law 435 = .ok (.aload_n 3, 1) := dk_45 (dk_at dksL_law_13 19 rfl rfl)
theorem dL_law_436 : decode cL_law 436 = .ok (.invokestatic 134, 3) := dk_184 0 134 (dk_at dksL_law_13 20 rfl rfl)
theorem dL_law_439 : decode cL_law 439 = .ok (.istore 6, 2) := dk_54 6 (dk_at dksL_law_14 0 rfl rfl)
theorem dL_law_441 : decode cL_law 441 = .ok (.aload_n 2, 1) := dk_44 (dk_at dksL_law_14 2 rfl rfl)
theorem dL_law_442 : decode cL_law 442 = .ok (.aload_n 0, 1) := dk_42 (dk_at dksL_law_14 3 rfl rfl)
theorem dL_law_443 : decode cL_law 443 = .ok (.iload 5, 2) := dk_21 5 (dk_at dksL_law_14 4 rfl rfl)
theorem dL_law_445 : decode cL_law 445 = .ok (.iconst 1, 1) := dk_4 (dk_at dksL_law_14 6 rfl rfl)
theorem dL_law_446 : decode cL_law 446 = .ok (.iadd, 1) := dk_96 (dk_at dksL_law_14 7 rfl rfl)
theorem dL_law_447 : decode cL_law 447 = .ok (.iaload, 1) := dk_46 (dk_at dksL_law_14 8 rfl rfl)
theorem dL_law_448 : decode cL_law 448 = .ok (.invokevirtual 136, 3) := dk_182 0 136 (dk_at dksL_law_14 9 rfl rfl)
theorem dL_law_451 : decode cL_law 451 = .ok (.istore 7, 2) := dk_54 7 (dk_at dksL_law_14 12 rfl rfl)
theorem dL_law_453 : decode cL_law 453 = .ok (.aload_n 2, 1) := dk_44 (dk_at dksL_law_14 14 rfl rfl)
theorem dL_law_454 : decode cL_law 454 = .ok (.invokevirtual 121, 3) := dk_182 0 121 (dk_at dksL_law_14 15 rfl rfl)
theorem dL_law_457 : decode cL_law 457 = .ok (.iload 6, 2) := dk_21 6 (dk_at dksL_law_14 18 rfl rfl)
theorem dL_law_459 : decode cL_law 459 = .ok (.if_icmp .eq 5, 3) := dk_159 0 5 (dk_at dksL_law_14 20 rfl rfl)
theorem dL_law_462 : decode cL_law 462 = .ok (.iconst 0, 1) := dk_3 (dk_at dksL_law_14 23 rfl rfl)
theorem dL_law_463 : decode cL_law 463 = .ok (.ireturn, 1) := dk_172 (dk_at dksL_law_15 0 rfl rfl)
theorem dL_law_464 : decode cL_law 464 = .ok (.iload 6, 2) := dk_21 6 (dk_at dksL_law_15 1 rfl rfl)
theorem dL_law_466 : decode cL_law 466 = .ok (.ifCond .ne 15, 3) := dk_154 0 15 (dk_at dksL_law_15 3 rfl rfl)
theorem dL_law_469 : decode cL_law 469 = .ok (.aload_n 3, 1) := dk_45 (dk_at dksL_law_15 6 rfl rfl)
theorem dL_law_470 : decode cL_law 470 = .ok (.iconst 0, 1) := dk_3 (dk_at dksL_law_15 7 rfl rfl)
theorem dL_law_471 : decode cL_law 471 = .ok (.laload, 1) := dk_47 (dk_at dksL_law_15 8 rfl rfl)
theorem dL_law_472 : decode cL_law 472 = .ok (.iload 7, 2) := dk_21 7 (dk_at dksL_law_15 9 rfl rfl)
theorem dL_law_474 : decode cL_law 474 = .ok (.i2l, 1) := dk_133 (dk_at dksL_law_15 11 rfl rfl)
theorem dL_law_475 : decode cL_law 475 = .ok (.lcmp, 1) := dk_148 (dk_at dksL_law_15 12 rfl rfl)
theorem dL_law_476 : decode cL_law 476 = .ok (.ifCond .eq 5, 3) := dk_153 0 5 (dk_at dksL_law_15 13 rfl rfl)
theorem dL_law_479 : decode cL_law 479 = .ok (.iconst 0, 1) := dk_3 (dk_at dksL_law_15 16 rfl rfl)
theorem dL_law_480 : decode cL_law 480 = .ok (.ireturn, 1) := dk_172 (dk_at dksL_law_15 17 rfl rfl)
theorem dL_law_481 : decode cL_law 481 = .ok (.goto 1435, 3) := dk_167 5 155 (dk_at dksL_law_15 18 rfl rfl)
theorem dL_law_484 : decode cL_law 484 = .ok (.aload_n 1, 1) := dk_43 (dk_at dksL_law_15 21 rfl rfl)
theorem dL_law_485 : decode cL_law 485 = .ok (.aload_n 0, 1) := dk_42 (dk_at dksL_law_15 22 rfl rfl)
theorem dL_law_486 : decode cL_law 486 = .ok (.iload 5, 2) := dk_21 5 (dk_at dksL_law_16 0 rfl rfl)
theorem dL_law_488 : decode cL_law 488 = .ok (.iconst 1, 1) := dk_4 (dk_at dksL_law_16 2 rfl rfl)
theorem dL_law_489 : decode cL_law 489 = .ok (.iadd, 1) := dk_96 (dk_at dksL_law_16 3 rfl rfl)
theorem dL_law_490 : decode cL_law 490 = .ok (.iaload, 1) := dk_46 (dk_at dksL_law_16 4 rfl rfl)
theorem dL_law_491 : decode cL_law 491 = .ok (.aload_n 0, 1) := dk_42 (dk_at dksL_law_16 5 rfl rfl)
theorem dL_law_492 : decode cL_law 492 = .ok (.iload 5, 2) := dk_21 5 (dk_at dksL_law_16 6 rfl rfl)
theorem dL_law_494 : decode cL_law 494 = .ok (.iconst 2, 1) := dk_5 (dk_at dksL_law_16 8 rfl rfl)
theorem dL_law_495 : decode cL_law 495 = .ok (.iadd, 1) := dk_96 (dk_at dksL_law_16 9 rfl rfl)
theorem dL_law_496 : decode cL_law 496 = .ok (.iaload, 1) := dk_46 (dk_at dksL_law_16 10 rfl rfl)
theorem dL_law_497 : decode cL_law 497 = .ok (.aload_n 3, 1) := dk_45 (dk_at dksL_law_16 11 rfl rfl)
theorem dL_law_498 : decode cL_law 498 = .ok (.invokestatic 137, 3) := dk_184 0 137 (dk_at dksL_law_16 12 rfl rfl)
theorem dL_law_501 : decode cL_law 501 = .ok (.istore 6, 2) := dk_54 6 (dk_at dksL_law_16 15 rfl rfl)
theorem dL_law_503 : decode cL_law 503 = .ok (.aload_n 2, 1) := dk_44 (dk_at dksL_law_16 17 rfl rfl)
theorem dL_law_504 : decode cL_law 504 = .ok (.aload_n 0, 1) := dk_42 (dk_at dksL_law_16 18 rfl rfl)
theorem dL_law_505 : decode cL_law 505 = .ok (.iload 5, 2) := dk_21 5 (dk_at dksL_law_16 19 rfl rfl)
theorem dL_law_507 : decode cL_law 507 = .ok (.iconst 1, 1) := dk_4 (dk_at dksL_law_16 21 rfl rfl)
theorem dL_law_508 : decode cL_law 508 = .ok (.iadd, 1) := dk_96 (dk_at dksL_law_16 22 rfl rfl)
theorem dL_law_509 : decode cL_law 509 = .ok (.iaload, 1) := dk_46 (dk_at dksL_law_16 23 rfl rfl)
theorem dL_law_510 : decode cL_law 510 = .ok (.aload_n 0, 1) := dk_42 (dk_at dksL_law_17 0 rfl rfl)
theorem dL_law_511 : decode cL_law 511 = .ok (.iload 5, 2) := dk_21 5 (dk_at dksL_law_17 1 rfl rfl)
theorem dL_law_513 : decode cL_law 513 = .ok (.iconst 2, 1) := dk_5 (dk_at dksL_law_17 3 rfl rfl)
theorem dL_law_514 : decode cL_law 514 = .ok (.iadd, 1) := dk_96 (dk_at dksL_law_17 4 rfl rfl)
theorem dL_law_515 : decode cL_law 515 = .ok (.iaload, 1) := dk_46 (dk_at dksL_law_17 5 rfl rfl)
theorem dL_law_516 : decode cL_law 516 = .ok (.invokevirtual 140, 3) := dk_182 0 140 (dk_at dksL_law_17 6 rfl rfl)
theorem dL_law_519 : decode cL_law 519 = .ok (.istore 7, 2) := dk_54 7 (dk_at dksL_law_17 9 rfl rfl)
theorem dL_law_521 : decode cL_law 521 = .ok (.aload_n 2, 1) := dk_44 (dk_at dksL_law_17 11 rfl rfl)
theorem dL_law_522 : decode cL_law 522 = .ok (.invokevirtual 121, 3) := dk_182 0 121 (dk_at dksL_law_17 12 rfl rfl)
theorem dL_law_525 : decode cL_law 525 = .ok (.iload 6, 2) := dk_21 6 (dk_at dksL_law_17 15 rfl rfl)
theorem dL_law_527 : decode cL_law 527 = .ok (.if_icmp .eq 5, 3) := dk_159 0 5 (dk_at dksL_law_17 17 rfl rfl)
theorem dL_law_530 : decode cL_law 530 = .ok (.iconst 0, 1) := dk_3 (dk_at dksL_law_17 20 rfl rfl)
theorem dL_law_531 : decode cL_law 531 = .ok (.ireturn, 1) := dk_172 (dk_at dksL_law_17 21 rfl rfl)
theorem dL_law_532 : decode cL_law 532 = .ok (.iload 6, 2) := dk_21 6 (dk_at dksL_law_17 22 rfl rfl)
theorem dL_law_534 : decode cL_law 534 = .ok (.ifCond .ne 15, 3) := dk_154 0 15 (dk_at dksL_law_18 0 rfl rfl)
theorem dL_law_537 : decode cL_law 537 = .ok (.aload_n 3, 1) := dk_45 (dk_at dksL_law_18 3 rfl rfl)
theorem dL_law_538 : decode cL_law 538 = .ok (.iconst 0, 1) := dk_3 (dk_at dksL_law_18 4 rfl rfl)
theorem dL_law_539 : decode cL_law 539 = .ok (.laload, 1) := dk_47 (dk_at dksL_law_18 5 rfl rfl)
theorem dL_law_540 : decode cL_law 540 = .ok (.iload 7, 2) := dk_21 7 (dk_at dksL_law_18 6 rfl rfl)
theorem dL_law_542 : decode cL_law 542 = .ok (.i2l, 1) := dk_133 (dk_at dksL_law_18 8 rfl rfl)
theorem dL_law_543 : decode cL_law 543 = .ok (.lcmp, 1) := dk_148 (dk_at dksL_law_18 9 rfl rfl)
theorem dL_law_544 : decode cL_law 544 = .ok (.ifCond .eq 5, 3) := dk_153 0 5 (dk_at dksL_law_18 10 rfl rfl)
theorem dL_law_547 : decode cL_law 547 = .ok (.iconst 0, 1) := dk_3 (dk_at dksL_law_18 13 rfl rfl)
theorem dL_law_548 : decode cL_law 548 = .ok (.ireturn, 1) := dk_172 (dk_at dksL_law_18 14 rfl rfl)
theorem dL_law_549 : decode cL_law 549 = .ok (.goto 1367, 3) := dk_167 5 87 (dk_at dksL_law_18 15 rfl rfl)
theorem dL_law_552 : decode cL_law 552 = .ok (.aload_n 1, 1) := dk_43 (dk_at dksL_law_18 18 rfl rfl)
theorem dL_law_553 : decode cL_law 553 = .ok (.aload_n 0, 1) := dk_42 (dk_at dksL_law_18 19 rfl rfl)
theorem dL_law_554 : decode cL_law 554 = .ok (.iload 5, 2) := dk_21 5 (dk_at dksL_law_18 20 rfl rfl)
theorem dL_law_556 : decode cL_law 556 = .ok (.iconst 1, 1) := dk_4 (dk_at dksL_law_18 22 rfl rfl)
theorem dL_law_557 : decode cL_law 557 = .ok (.iadd, 1) := dk_96 (dk_at dksL_law_18 23 rfl rfl)
theorem dL_law_558 : decode cL_law 558 = .ok (.iaload, 1) := dk_46 (dk_at dksL_law_19 0 rfl rfl)
theorem dL_law_559 : decode cL_law 559 = .ok (.aload_n 0, 1) := dk_42 (dk_at dksL_law_19 1 rfl rfl)
theorem dL_law_560 : decode cL_law 560 = .ok (.iload 5, 2) := dk_21 5 (dk_at dksL_law_19 2 rfl rfl)
theorem dL_law_562 : decode cL_law 562 = .ok (.iconst 2, 1) := dk_5 (dk_at dksL_law_19 4 rfl rfl)
theorem dL_law_563 : decode cL_law 563 = .ok (.iadd, 1) := dk_96 (dk_at dksL_law_19 5 rfl rfl)
theorem dL_law_564 : decode cL_law 564 = .ok (.iaload, 1) := dk_46 (dk_at dksL_law_19 6 rfl rfl)
theorem dL_law_565 : decode cL_law 565 = .ok (.ifCond .eq 7, 3) := dk_153 0 7 (dk_at dksL_law_19 7 rfl rfl)
theorem dL_law_568 : decode cL_law 568 = .ok (.iconst 1, 1) := dk_4 (dk_at dksL_law_19 10 rfl rfl)
theorem dL_law_569 : decode cL_law 569 = .ok (.goto 4, 3) := dk_167 0 4 (dk_at dksL_law_19 11 rfl rfl)
theorem dL_law_572 : decode cL_law 572 = .ok (.iconst 0, 1) := dk_3 (dk_at dksL_law_19 14 rfl rfl)
theorem dL_law_573 : decode cL_law 573 = .ok (.aload_n 3, 1) := dk_45 (dk_at dksL_law_19 15 rfl rfl)
theorem dL_law_574 : decode cL_law 574 = .ok (.invokestatic 141, 3) := dk_184 0 141 (dk_at dksL_law_19 16 rfl rfl)
theorem dL_law_577 : decode cL_law 577 = .ok (.istore 6, 2) := dk_54 6 (dk_at dksL_law_19 19 rfl rfl)
theorem dL_law_579 : decode cL_law 579 = .ok (.aload_n 2, 1) := dk_44 (dk_at dksL_law_19 21 rfl rfl)
theorem dL_law_580 : decode cL_law 580 = .ok (.aload_n 0, 1) := dk_42 (dk_at dksL_law_19 22 rfl rfl)
theorem dL_law_581 : decode cL_law 581 = .ok (.iload 5, 2) := dk_21 5 (dk_at dksL_law_20 0 rfl rfl)
theorem dL_law_583 : decode cL_law 583 = .ok (.iconst 1, 1) := dk_4 (dk_at dksL_law_20 2 rfl rfl)
theorem dL_law_584 : decode cL_law 584 = .ok (.iadd, 1) := dk_96 (dk_at dksL_law_20 3 rfl rfl)
theorem dL_law_585 : decode cL_law 585 = .ok (.iaload, 1) := dk_46 (dk_at dksL_law_20 4 rfl rfl)
theorem dL_law_586 : decode cL_law 586 = .ok (.aload_n 0, 1) := dk_42 (dk_at dksL_law_20 5 rfl rfl)
theorem dL_law_587 : decode cL_law 587 = .ok (.iload 5, 2) := dk_21 5 (dk_at dksL_law_20 6 rfl rfl)
theorem dL_law_589 : decode cL_law 589 = .ok (.iconst 2, 1) := dk_5 (dk_at dksL_law_20 8 rfl rfl)
theorem dL_law_590 : decode cL_law 590 = .ok (.iadd, 1) := dk_96 (dk_at dksL_law_20 9 rfl rfl)
theorem dL_law_591 : decode cL_law 591 = .ok (.iaload, 1) := dk_46 (dk_at dksL_law_20 10 rfl rfl)
theorem dL_law_592 : decode cL_law 592 = .ok (.ifCond .eq 7, 3) := dk_153 0 7 (dk_at dksL_law_20 11 rfl rfl)
theorem dL_law_595 : decode cL_law 595 = .ok (.iconst 1, 1) := dk_4 (dk_at dksL_law_20 14 rfl rfl)
theorem dL_law_596 : decode cL_law 596 = .ok (.goto 4, 3) := dk_167 0 4 (dk_at dksL_law_20 15 rfl rfl)
theorem dL_law_599 : decode cL_law 599 = .ok (.iconst 0, 1) := dk_3 (dk_at dksL_law_20 18 rfl rfl)
theorem dL_law_600 : decode cL_law 600 = .ok (.invokevirtual 144, 3) := dk_182 0 144 (dk_at dksL_law_20 19 rfl rfl)
theorem dL_law_603 : decode cL_law 603 = .ok (.istore 7, 2) := dk_54 7 (dk_at dksL_law_20 22 rfl rfl)
theorem dL_law_605 : decode cL_law 605 = .ok (.aload_n 2, 1) := dk_44 (dk_at dksL_law_21 0 rfl rfl)
theorem dL_law_606 : decode cL_law 606 = .ok (.invokevirtual 121, 3) := dk_182 0 121 (dk_at dksL_law_21 1 rfl rfl)
theorem dL_law_609 : decode cL_law 609 = .ok (.iload 6, 2) := dk_21 6 (dk_at dksL_law_21 4 rfl rfl)
theorem dL_law_611 : decode cL_law 611 = .ok (.if_icmp .eq 5, 3) := dk_159 0 5 (dk_at dksL_law_21 6 rfl rfl)
theorem dL_law_614 : decode cL_law 614 = .ok (.iconst 0, 1) := dk_3 (dk_at dksL_law_21 9 rfl rfl)
theorem dL_law_615 : decode cL_law 615 = .ok (.ireturn, 1) := dk_172 (dk_at dksL_law_21 10 rfl rfl)
theorem dL_law_616 : decode cL_law 616 = .ok (.iload 6, 2) := dk_21 6 (dk_at dksL_law_21 11 rfl rfl)
theorem dL_law_618 : decode cL_law 618 = .ok (.ifCond .ne 15, 3) := dk_154 0 15 (dk_at dksL_law_21 13 rfl rfl)
theorem dL_law_621 : decode cL_law 621 = .ok (.aload_n 3, 1) := dk_45 (dk_at dksL_law_21 16 rfl rfl)
theorem dL_law_622 : decode cL_law 622 = .ok (.iconst 0, 1) := dk_3 (dk_at dksL_law_21 17 rfl rfl)
theorem dL_law_623 : decode cL_law 623 = .ok (.laload, 1) := dk_47 (dk_at dksL_law_21 18 rfl rfl)
theorem dL_law_624 : decode cL_law 624 = .ok (.iload 7, 2) := dk_21 7 (dk_at dksL_law_21 19 rfl rfl)
theorem dL_law_626 : decode cL_law 626 = .ok (.i2l, 1) := dk_133 (dk_at dksL_law_21 21 rfl rfl)
theorem dL_law_627 : decode cL_law 627 = .ok (.lcmp, 1) := dk_148 (dk_at dksL_law_21 22 rfl rfl)
theorem dL_law_628 : decode cL_law 628 = .ok (.ifCond .eq 5, 3) := dk_153 0 5 (dk_at dksL_law_22 0 rfl rfl)
theorem dL_law_631 : decode cL_law 631 = .ok (.iconst 0, 1) := dk_3 (dk_at dksL_law_22 3 rfl rfl)
theorem dL_law_632 : decode cL_law 632 = .ok (.ireturn, 1) := dk_172 (dk_at dksL_law_22 4 rfl rfl)
theorem dL_law_633 : decode cL_law 633 = .ok (.goto 1283, 3) := dk_167 5 3 (dk_at dksL_law_22 5 rfl rfl)
theorem dL_law_636 : decode cL_law 636 = .ok (.aload_n 1, 1) := dk_43 (dk_at dksL_law_22 8 rfl rfl)
theorem dL_law_637 : decode cL_law 637 = .ok (.invokevirtual 145, 3) := dk_182 0 145 (dk_at dksL_law_22 9 rfl rfl)
theorem dL_law_640 : decode cL_law 640 = .ok (.aload_n 2, 1) := dk_44 (dk_at dksL_law_22 12 rfl rfl)
theorem dL_law_641 : decode cL_law 641 = .ok (.invokevirtual 148, 3) := dk_182 0 148 (dk_at dksL_law_22 13 rfl rfl)
theorem dL_law_644 : decode cL_law 644 = .ok (.if_icmp .eq 1272, 3) := dk_159 4 248 (dk_at dksL_law_22 16 rfl rfl)
theorem dL_law_647 : decode cL_law 647 = .ok (.iconst 0, 1) := dk_3 (dk_at dksL_law_22 19 rfl rfl)
theorem dL_law_648 : decode cL_law 648 = .ok (.ireturn, 1) := dk_172 (dk_at dksL_law_22 20 rfl rfl)
theorem dL_law_649 : decode cL_law 649 = .ok (.aload_n 1, 1) := dk_43 (dk_at dksL_law_22 21 rfl rfl)
theorem dL_law_650 : decode cL_law 650 = .ok (.aload_n 0, 1) := dk_42 (dk_at dksL_law_22 22 rfl rfl)
theorem dL_law_651 : decode cL_law 651 = .ok (.iload 5, 2) := dk_21 5 (dk_at dksL_law_23 0 rfl rfl)
theorem dL_law_653 : decode cL_law 653 = .ok (.iconst 1, 1) := dk_4 (dk_at dksL_law_23 2 rfl rfl)
theorem dL_law_654 : decode cL_law 654 = .ok (.iadd, 1) := dk_96 (dk_at dksL_law_23 3 rfl rfl)
theorem dL_law_655 : decode cL_law 655 = .ok (.iaload, 1) := dk_46 (dk_at dksL_law_23 4 rfl rfl)
theorem dL_law_656 : decode cL_law 656 = .ok (.aload_n 3, 1) := dk_45 (dk_at dksL_law_23 5 rfl rfl)
theorem dL_law_657 : decode cL_law 657 = .ok (.invokestatic 149, 3) := dk_184 0 149 (dk_at dksL_law_23 6 rfl rfl)
theorem dL_law_660 : decode cL_law 660 = .ok (.istore 6, 2) := dk_54 6 (dk_at dksL_law_23 9 rfl rfl)
theorem dL_law_662 : decode cL_law 662 = .ok (.aload_n 2, 1) := dk_44 (dk_at dksL_law_23 11 rfl rfl)
theorem dL_law_663 : decode cL_law 663 = .ok (.aload_n 0, 1) := dk_42 (dk_at dksL_law_23 12 rfl rfl)
theorem dL_law_664 : decode cL_law 664 = .ok (.iload 5, 2) := dk_21 5 (dk_at dksL_law_23 13 rfl rfl)
theorem dL_law_666 : decode cL_law 666 = .ok (.iconst 1, 1) := dk_4 (dk_at dksL_law_23 15 rfl rfl)
theorem dL_law_667 : decode cL_law 667 = .ok (.iadd, 1) := dk_96 (dk_at dksL_law_23 16 rfl rfl)
theorem dL_law_668 : decode cL_law 668 = .ok (.iaload, 1) := dk_46 (dk_at dksL_law_23 17 rfl rfl)
theorem dL_law_669 : decode cL_law 669 = .ok (.invokevirtual 151, 3) := dk_182 0 151 (dk_at dksL_law_23 18 rfl rfl)
theorem dL_law_672 : decode cL_law 672 = .ok (.istore 7, 2) := dk_54 7 (dk_at dksL_law_23 21 rfl rfl)
theorem dL_law_674 : decode cL_law 674 = .ok (.aload_n 2, 1) := dk_44 (dk_at dksL_law_23 23 rfl rfl)
theorem dL_law_675 : decode cL_law 675 = .ok (.invokevirtual 121, 3) := dk_182 0 121 (dk_at dksL_law_24 0 rfl rfl)
theorem dL_law_678 : decode cL_law 678 = .ok (.iload 6, 2) := dk_21 6 (dk_at dksL_law_24 3 rfl rfl)
theorem dL_law_680 : decode cL_law 680 = .ok (.if_icmp .eq 5, 3) := dk_159 0 5 (dk_at dksL_law_24 5 rfl rfl)
theorem dL_law_683 : decode cL_law 683 = .ok (.iconst 0, 1) := dk_3 (dk_at dksL_law_24 8 rfl rfl)
theorem dL_law_684 : decode cL_law 684 = .ok (.ireturn, 1) := dk_172 (dk_at dksL_law_24 9 rfl rfl)
theorem dL_law_685 : decode cL_law 685 = .ok (.iload 6, 2) := dk_21 6 (dk_at dksL_law_24 10 rfl rfl)
theorem dL_law_687 : decode cL_law 687 = .ok (.ifCond .ne 15, 3) := dk_154 0 15 (dk_at dksL_law_24 12 rfl rfl)
theorem dL_law_690 : decode cL_law 690 = .ok (.aload_n 3, 1) := dk_45 (dk_at dksL_law_24 15 rfl rfl)
theorem dL_law_691 : decode cL_law 691 = .ok (.iconst 0, 1) := dk_3 (dk_at dksL_law_24 16 rfl rfl)
theorem dL_law_692 : decode cL_law 692 = .ok (.laload, 1) := dk_47 (dk_at dksL_law_24 17 rfl rfl)
theorem dL_law_693 : decode cL_law 693 = .ok (.iload 7, 2) := dk_21 7 (dk_at dksL_law_24 18 rfl rfl)
theorem dL_law_695 : decode cL_law 695 = .ok (.i2l, 1) := dk_133 (dk_at dksL_law_24 20 rfl rfl)
theorem dL_law_696 : decode cL_law 696 = .ok (.lcmp, 1) := dk_148 (dk_at dksL_law_24 21 rfl rfl)
theorem dL_law_697 : decode cL_law 697 = .ok (.ifCond .eq 5, 3) := dk_153 0 5 (dk_at dksL_law_25 0 rfl rfl)
theorem dL_law_700 : decode cL_law 700 = .ok (.iconst 0, 1) := dk_3 (dk_at dksL_law_25 3 rfl rfl)
theorem dL_law_701 : decode cL_law 701 = .ok (.ireturn, 1) := dk_172 (dk_at dksL_law_25 4 rfl rfl)
theorem dL_law_702 : decode cL_law 702 = .ok (.goto 1214, 3) := dk_167 4 190 (dk_at dksL_law_25 5 rfl rfl)
theorem dL_law_705 : decode cL_law 705 = .ok (.aload_n 1, 1) := dk_43 (dk_at dksL_law_25 8 rfl rfl)
theorem dL_law_706 : decode cL_law 706 = .ok (.aload_n 0, 1) := dk_42 (dk_at dksL_law_25 9 rfl rfl)
theorem dL_law_707 : decode cL_law 707 = .ok (.iload 5, 2) := dk_21 5 (dk_at dksL_law_25 10 rfl rfl)
theorem dL_law_709 : decode cL_law 709 = .ok (.iconst 1, 1) := dk_4 (dk_at dksL_law_25 12 rfl rfl)
theorem dL_law_710 : decode cL_law 710 = .ok (.iadd, 1) := dk_96 (dk_at dksL_law_25 13 rfl rfl)
theorem dL_law_711 : decode cL_law 711 = .ok (.iaload, 1) := dk_46 (dk_at dksL_law_25 14 rfl rfl)
theorem dL_law_712 : decode cL_law 712 = .ok (.aload_n 3, 1) := dk_45 (dk_at dksL_law_25 15 rfl rfl)
theorem dL_law_713 : decode cL_law 713 = .ok (.invokestatic 152, 3) := dk_184 0 152 (dk_at dksL_law_25 16 rfl rfl)
theorem dL_law_716 : decode cL_law 716 = .ok (.istore 6, 2) := dk_54 6 (dk_at dksL_law_25 19 rfl rfl)
theorem dL_law_718 : decode cL_law 718 = .ok (.aload_n 2, 1) := dk_44 (dk_at dksL_law_25 21 rfl rfl)
theorem dL_law_719 : decode cL_law 719 = .ok (.aload_n 0, 1) := dk_42 (dk_at dksL_law_25 22 rfl rfl)
theorem dL_law_720 : decode cL_law 720 = .ok (.iload 5, 2) := dk_21 5 (dk_at dksL_law_26 0 rfl rfl)
theorem dL_law_722 : decode cL_law 722 = .ok (.iconst 1, 1) := dk_4 (dk_at dksL_law_26 2 rfl rfl)
theorem dL_law_723 : decode cL_law 723 = .ok (.iadd, 1) := dk_96 (dk_at dksL_law_26 3 rfl rfl)
theorem dL_law_724 : decode cL_law 724 = .ok (.iaload, 1) := dk_46 (dk_at dksL_law_26 4 rfl rfl)
theorem dL_law_725 : decode cL_law 725 = .ok (.invokevirtual 154, 3) := dk_182 0 154 (dk_at dksL_law_26 5 rfl rfl)
theorem dL_law_728 : decode cL_law 728 = .ok (.istore 7, 2) := dk_54 7 (dk_at dksL_law_26 8 rfl rfl)
theorem dL_law_730 : decode cL_law 730 = .ok (.aload_n 2, 1) := dk_44 (dk_at dksL_law_26 10 rfl rfl)
theorem dL_law_731 : decode cL_law 731 = .ok (.invokevirtual 121, 3) := dk_182 0 121 (dk_at dksL_law_26 11 rfl rfl)
theorem dL_law_734 : decode cL_law 734 = .ok (.iload 6, 2) := dk_21 6 (dk_at dksL_law_26 14 rfl rfl)
theorem dL_law_736 : decode cL_law 736 = .ok (.if_icmp .eq 5, 3) := dk_159 0 5 (dk_at dksL_law_26 16 rfl rfl)
theorem dL_law_739 : decode cL_law 739 = .ok (.iconst 0, 1) := dk_3 (dk_at dksL_law_26 19 rfl rfl)
theorem dL_law_740 : decode cL_law 740 = .ok (.ireturn, 1) := dk_172 (dk_at dksL_law_26 20 rfl rfl)
theorem dL_law_741 : decode cL_law 741 = .ok (.iload 6, 2) := dk_21 6 (dk_at dksL_law_26 21 rfl rfl)
theorem dL_law_743 : decode cL_law 743 = .ok (.ifCond .ne 15, 3) := dk_154 0 15 (dk_at dksL_law_27 0 rfl rfl)
theorem dL_law_746 : decode cL_law 746 = .ok (.aload_n 3, 1) := dk_45 (dk_at dksL_law_27 3 rfl rfl)
theorem dL_law_747 : decode cL_law 747 = .ok (.iconst 0, 1) := dk_3 (dk_at dksL_law_27 4 rfl rfl)
theorem dL_law_748 : decode cL_law 748 = .ok (.laload, 1) := dk_47 (dk_at dksL_law_27 5 rfl rfl)
theorem dL_law_749 : decode cL_law 749 = .ok (.iload 7, 2) := dk_21 7 (dk_at dksL_law_27 6 rfl rfl)
theorem dL_law_751 : decode cL_law 751 = .ok (.i2l, 1) := dk_133 (dk_at dksL_law_27 8 rfl rfl)
theorem dL_law_752 : decode cL_law 752 = .ok (.lcmp, 1) := dk_148 (dk_at dksL_law_27 9 rfl rfl)
theorem dL_law_753 : decode cL_law 753 = .ok (.ifCond .eq 5, 3) := dk_153 0 5 (dk_at dksL_law_27 10 rfl rfl)
theorem dL_law_756 : decode cL_law 756 = .ok (.iconst 0, 1) := dk_3 (dk_at dksL_law_27 13 rfl rfl)
theorem dL_law_757 : decode cL_law 757 = .ok (.ireturn, 1) := dk_172 (dk_at dksL_law_27 14 rfl rfl)
theorem dL_law_758 : decode cL_law 758 = .ok (.goto 1158, 3) := dk_167 4 134 (dk_at dksL_law_27 15 rfl rfl)
theorem dL_law_761 : decode cL_law 761 = .ok (.aload_n 1, 1) := dk_43 (dk_at dksL_law_27 18 rfl rfl)
theorem dL_law_762 : decode cL_law 762 = .ok (.aload_n 0, 1) := dk_42 (dk_at dksL_law_27 19 rfl rfl)
theorem dL_law_763 : decode cL_law 763 = .ok (.iload 5, 2) := dk_21 5 (dk_at dksL_law_27 20 rfl rfl)
theorem dL_law_765 : decode cL_law 765 = .ok (.iconst 1, 1) := dk_4 (dk_at dksL_law_27 22 rfl rfl)
theorem dL_law_766 : decode cL_law 766 = .ok (.iadd, 1) := dk_96 (dk_at dksL_law_27 23 rfl rfl)
theorem dL_law_767 : decode cL_law 767 = .ok (.iaload, 1) := dk_46 (dk_at dksL_law_28 0 rfl rfl)
theorem dL_law_768 : decode cL_law 768 = .ok (.aload_n 0, 1) := dk_42 (dk_at dksL_law_28 1 rfl rfl)
theorem dL_law_769 : decode cL_law 769 = .ok (.iload 5, 2) := dk_21 5 (dk_at dksL_law_28 2 rfl rfl)
theorem dL_law_771 : decode cL_law 771 = .ok (.iconst 2, 1) := dk_5 (dk_at dksL_law_28 4 rfl rfl)
theorem dL_law_772 : decode cL_law 772 = .ok (.iadd, 1) := dk_96 (dk_at dksL_law_28 5 rfl rfl)
theorem dL_law_773 : decode cL_law 773 = .ok (.iaload, 1) := dk_46 (dk_at dksL_law_28 6 rfl rfl)
theorem dL_law_774 : decode cL_law 774 = .ok (.aload_n 0, 1) := dk_42 (dk_at dksL_law_28 7 rfl rfl)
theorem dL_law_775 : decode cL_law 775 = .ok (.iload 5, 2) := dk_21 5 (dk_at dksL_law_28 8 rfl rfl)
theorem dL_law_777 : decode cL_law 777 = .ok (.iconst 3, 1) := dk_6 (dk_at dksL_law_28 10 rfl rfl)
theorem dL_law_778 : decode cL_law 778 = .ok (.iadd, 1) := dk_96 (dk_at dksL_law_28 11 rfl rfl)
theorem dL_law_779 : decode cL_law 779 = .ok (.iaload, 1) := dk_46 (dk_at dksL_law_28 12 rfl rfl)
theorem dL_law_780 : decode cL_law 780 = .ok (.ifCond .eq 7, 3) := dk_153 0 7 (dk_at dksL_law_28 13 rfl rfl)
theorem dL_law_783 : decode cL_law 783 = .ok (.iconst 1, 1) := dk_4 (dk_at dksL_law_28 16 rfl rfl)
theorem dL_law_784 : decode cL_law 784 = .ok (.goto 4, 3) := dk_167 0 4 (dk_at dksL_law_28 17 rfl rfl)
theorem dL_law_787 : decode cL_law 787 = .ok (.iconst 0, 1) := dk_3 (dk_at dksL_law_28 20 rfl rfl)
theorem dL_law_788 : decode cL_law 788 = .ok (.aload_n 3, 1) := dk_45 (dk_at dksL_law_28 21 rfl rfl)
theorem dL_law_789 : decode cL_law 789 = .ok (.invokestatic 155, 3) := dk_184 0 155 (dk_at dksL_law_29 0 rfl rfl)
theorem dL_law_792 : decode cL_law 792 = .ok (.istore 6, 2) := dk_54 6 (dk_at dksL_law_29 3 rfl rfl)
theorem dL_law_794 : decode cL_law 794 = .ok (.aload_n 2, 1) := dk_44 (dk_at dksL_law_29 5 rfl rfl)
theorem dL_law_795 : decode cL_law 795 = .ok (.aload_n 0, 1) := dk_42 (dk_at dksL_law_29 6 rfl rfl)
theorem dL_law_796 : decode cL_law 796 = .ok (.iload 5, 2) := dk_21 5 (dk_at dksL_law_29 7 rfl rfl)
theorem dL_law_798 : decode cL_law 798 = .ok (.iconst 1, 1) := dk_4 (dk_at dksL_law_29 9 rfl rfl)
theorem dL_law_799 : decode cL_law 799 = .ok (.iadd, 1) := dk_96 (dk_at dksL_law_29 10 rfl rfl)
theorem dL_law_800 : decode cL_law 800 = .ok (.iaload, 1) := dk_46 (dk_at dksL_law_29 11 rfl rfl)
theorem dL_law_801 : decode cL_law 801 = .ok (.aload_n 0, 1) := dk_42 (dk_at dksL_law_29 12 rfl rfl)
theorem dL_law_802 : decode cL_law 802 = .ok (.iload 5, 2) := dk_21 5 (dk_at dksL_law_29 13 rfl rfl)
theorem dL_law_804 : decode cL_law 804 = .ok (.iconst 2, 1) := dk_5 (dk_at dksL_law_29 15 rfl rfl)
theorem dL_law_805 : decode cL_law 805 = .ok (.iadd, 1) := dk_96 (dk_at dksL_law_29 16 rfl rfl)
theorem dL_law_806 : decode cL_law 806 = .ok (.iaload, 1) := dk_46 (dk_at dksL_law_29 17 rfl rfl)
theorem dL_law_807 : decode cL_law 807 = .ok (.aload_n 0, 1) := dk_42 (dk_at dksL_law_29 18 rfl rfl)
theorem dL_law_808 : decode cL_law 808 = .ok (.iload 5, 2) := dk_21 5 (dk_at dksL_law_29 19 rfl rfl)
theorem dL_law_810 : decode cL_law 810 = .ok (.iconst 3, 1) := dk_6 (dk_at dksL_law_29 21 rfl rfl)
theorem dL_law_811 : decode cL_law 811 = .ok (.iadd, 1) := dk_96 (dk_at dksL_law_29 22 rfl rfl)
theorem dL_law_812 : decode cL_law 812 = .ok (.iaload, 1) := dk_46 (dk_at dksL_law_29 23 rfl rfl)
theorem dL_law_813 : decode cL_law 813 = .ok (.ifCond .eq 7, 3) := dk_153 0 7 (dk_at dksL_law_30 0 rfl rfl)
theorem dL_law_816 : decode cL_law 816 = .ok (.iconst 1, 1) := dk_4 (dk_at dksL_law_30 3 rfl rfl)
theorem dL_law_817 : decode cL_law 817 = .ok (.goto 4, 3) := dk_167 0 4 (dk_at dksL_law_30 4 rfl rfl)
theorem dL_law_820 : decode cL_law 820 = .ok (.iconst 0, 1) := dk_3 (dk_at dksL_law_30 7 rfl rfl)
theorem dL_law_821 : decode cL_law 821 = .ok (.invokevirtual 158, 3) := dk_182 0 158 (dk_at dksL_law_30 8 rfl rfl)
theorem dL_law_824 : decode cL_law 824 = .ok (.istore 7, 2) := dk_54 7 (dk_at dksL_law_30 11 rfl rfl)
theorem dL_law_826 : decode cL_law 826 = .ok (.aload_n 2, 1) := dk_44 (dk_at dksL_law_30 13 rfl rfl)
theorem dL_law_827 : decode cL_law 827 = .ok (.invokevirtual 121, 3) := dk_182 0 121 (dk_at dksL_law_30 14 rfl rfl)
theorem dL_law_830 : decode cL_law 830 = .ok (.iload 6, 2) := dk_21 6 (dk_at dksL_law_30 17 rfl rfl)
theorem dL_law_832 : decode cL_law 832 = .ok (.if_icmp .eq 5, 3) := dk_159 0 5 (dk_at dksL_law_30 19 rfl rfl)
theorem dL_law_835 : decode cL_law 835 = .ok (.iconst 0, 1) := dk_3 (dk_at dksL_law_30 22 rfl rfl)
theorem dL_law_836 : decode cL_law 836 = .ok (.ireturn, 1) := dk_172 (dk_at dksL_law_30 23 rfl rfl)
theorem dL_law_837 : decode cL_law 837 = .ok (.iload 6, 2) := dk_21 6 (dk_at dksL_law_31 0 rfl rfl)
theorem dL_law_839 : decode cL_law 839 = .ok (.ifCond .ne 15, 3) := dk_154 0 15 (dk_at dksL_law_31 2 rfl rfl)
theorem dL_law_842 : decode cL_law 842 = .ok (.aload_n 3, 1) := dk_45 (dk_at dksL_law_31 5 rfl rfl)
theorem dL_law_843 : decode cL_law 843 = .ok (.iconst 0, 1) := dk_3 (dk_at dksL_law_31 6 rfl rfl)
theorem dL_law_844 : decode cL_law 844 = .ok (.laload, 1) := dk_47 (dk_at dksL_law_31 7 rfl rfl)
theorem dL_law_845 : decode cL_law 845 = .ok (.iload 7, 2) := dk_21 7 (dk_at dksL_law_31 8 rfl rfl)
theorem dL_law_847 : decode cL_law 847 = .ok (.i2l, 1) := dk_133 (dk_at dksL_law_31 10 rfl rfl)
theorem dL_law_848 : decode cL_law 848 = .ok (.lcmp, 1) := dk_148 (dk_at dksL_law_31 11 rfl rfl)
theorem dL_law_849 : decode cL_law 849 = .ok (.ifCond .eq 5, 3) := dk_153 0 5 (dk_at dksL_law_31 12 rfl rfl)
theorem dL_law_852 : decode cL_law 852 = .ok (.iconst 0, 1) := dk_3 (dk_at dksL_law_31 15 rfl rfl)
theorem dL_law_853 : decode cL_law 853 = .ok (.ireturn, 1) := dk_172 (dk_at dksL_law_31 16 rfl rfl)
theorem dL_law_854 : decode cL_law 854 = .ok (.goto 1062, 3) := dk_167 4 38 (dk_at dksL_law_31 17 rfl rfl)
theorem dL_law_857 : decode cL_law 857 = .ok (.aload_n 1, 1) := dk_43 (dk_at dksL_law_31 20 rfl rfl)
theorem dL_law_858 : decode cL_law 858 = .ok (.aload_n 0, 1) := dk_42 (dk_at dksL_law_31 21 rfl rfl)
theorem dL_law_859 : decode cL_law 859 = .ok (.iload 5, 2) := dk_21 5 (dk_at dksL_law_31 22 rfl rfl)
theorem dL_law_861 : decode cL_law 861 = .ok (.iconst 1, 1) := dk_4 (dk_at dksL_law_32 0 rfl rfl)
theorem dL_law_862 : decode cL_law 862 = .ok (.iadd, 1) := dk_96 (dk_at dksL_law_32 1 rfl rfl)
theorem dL_law_863 : decode cL_law 863 = .ok (.iaload, 1) := dk_46 (dk_at dksL_law_32 2 rfl rfl)
theorem dL_law_864 : decode cL_law 864 = .ok (.aload_n 3, 1) := dk_45 (dk_at dksL_law_32 3 rfl rfl)
theorem dL_law_865 : decode cL_law 865 = .ok (.invokestatic 159, 3) := dk_184 0 159 (dk_at dksL_law_32 4 rfl rfl)
theorem dL_law_868 : decode cL_law 868 = .ok (.istore 6, 2) := dk_54 6 (dk_at dksL_law_32 7 rfl rfl)
theorem dL_law_870 : decode cL_law 870 = .ok (.aload_n 2, 1) := dk_44 (dk_at dksL_law_32 9 rfl rfl)
theorem dL_law_871 : decode cL_law 871 = .ok (.aload_n 0, 1) := dk_42 (dk_at dksL_law_32 10 rfl rfl)
theorem dL_law_872 : decode cL_law 872 = .ok (.iload 5, 2) := dk_21 5 (dk_at dksL_law_32 11 rfl rfl)
theorem dL_law_874 : decode cL_law 874 = .ok (.iconst 1, 1) := dk_4 (dk_at dksL_law_32 13 rfl rfl)
theorem dL_law_875 : decode cL_law 875 = .ok (.iadd, 1) := dk_96 (dk_at dksL_law_32 14 rfl rfl)
theorem dL_law_876 : decode cL_law 876 = .ok (.iaload, 1) := dk_46 (dk_at dksL_law_32 15 rfl rfl)
theorem dL_law_877 : decode cL_law 877 = .ok (.invokevirtual 161, 3) := dk_182 0 161 (dk_at dksL_law_32 16 rfl rfl)
theorem dL_law_880 : decode cL_law 880 = .ok (.istore 7, 2) := dk_54 7 (dk_at dksL_law_32 19 rfl rfl)
theorem dL_law_882 : decode cL_law 882 = .ok (.aload_n 2, 1) := dk_44 (dk_at dksL_law_32 21 rfl rfl)
theorem dL_law_883 : decode cL_law 883 = .ok (.invokevirtual 121, 3) := dk_182 0 121 (dk_at dksL_law_33 0 rfl rfl)
theorem dL_law_886 : decode cL_law 886 = .ok (.iload 6, 2) := dk_21 6 (dk_at dksL_law_33 3 rfl rfl)
theorem dL_law_888 : decode cL_law 888 = .ok (.if_icmp .eq 5, 3) := dk_159 0 5 (dk_at dksL_law_33 5 rfl rfl)
theorem dL_law_891 : decode cL_law 891 = .ok (.iconst 0, 1) := dk_3 (dk_at dksL_law_33 8 rfl rfl)
theorem dL_law_892 : decode cL_law 892 = .ok (.ireturn, 1) := dk_172 (dk_at dksL_law_33 9 rfl rfl)
theorem dL_law_893 : decode cL_law 893 = .ok (.iload 6, 2) := dk_21 6 (dk_at dksL_law_33 10 rfl rfl)
theorem dL_law_895 : decode cL_law 895 = .ok (.ifCond .ne 15, 3) := dk_154 0 15 (dk_at dksL_law_33 12 rfl rfl)
theorem dL_law_898 : decode cL_law 898 = .ok (.aload_n 3, 1) := dk_45 (dk_at dksL_law_33 15 rfl rfl)
theorem dL_law_899 : decode cL_law 899 = .ok (.iconst 0, 1) := dk_3 (dk_at dksL_law_33 16 rfl rfl)
theorem dL_law_900 : decode cL_law 900 = .ok (.laload, 1) := dk_47 (dk_at dksL_law_33 17 rfl rfl)
theorem dL_law_901 : decode cL_law 901 = .ok (.iload 7, 2) := dk_21 7 (dk_at dksL_law_33 18 rfl rfl)
theorem dL_law_903 : decode cL_law 903 = .ok (.i2l, 1) := dk_133 (dk_at dksL_law_33 20 rfl rfl)
theorem dL_law_904 : decode cL_law 904 = .ok (.lcmp, 1) := dk_148 (dk_at dksL_law_33 21 rfl rfl)
theorem dL_law_905 : decode cL_law 905 = .ok (.ifCond .eq 5, 3) := dk_153 0 5 (dk_at dksL_law_34 0 rfl rfl)
theorem dL_law_908 : decode cL_law 908 = .ok (.iconst 0, 1) := dk_3 (dk_at dksL_law_34 3 rfl rfl)
theorem dL_law_909 : decode cL_law 909 = .ok (.ireturn, 1) := dk_172 (dk_at dksL_law_34 4 rfl rfl)
theorem dL_law_910 : decode cL_law 910 = .ok (.goto 1006, 3) := dk_167 3 238 (dk_at dksL_law_34 5 rfl rfl)
theorem dL_law_913 : decode cL_law 913 = .ok (.aload_n 1, 1) := dk_43 (dk_at dksL_law_34 8 rfl rfl)
theorem dL_law_914 : decode cL_law 914 = .ok (.aload_n 0, 1) := dk_42 (dk_at dksL_law_34 9 rfl rfl)
theorem dL_law_915 : decode cL_law 915 = .ok (.iload 5, 2) := dk_21 5 (dk_at dksL_law_34 10 rfl rfl)
theorem dL_law_917 : decode cL_law 917 = .ok (.iconst 1, 1) := dk_4 (dk_at dksL_law_34 12 rfl rfl)
theorem dL_law_918 : decode cL_law 918 = .ok (.iadd, 1) := dk_96 (dk_at dksL_law_34 13 rfl rfl)
theorem dL_law_919 : decode cL_law 919 = .ok (.iaload, 1) := dk_46 (dk_at dksL_law_34 14 rfl rfl)
theorem dL_law_920 : decode cL_law 920 = .ok (.aload_n 3, 1) := dk_45 (dk_at dksL_law_34 15 rfl rfl)
theorem dL_law_921 : decode cL_law 921 = .ok (.invokestatic 162, 3) := dk_184 0 162 (dk_at dksL_law_34 16 rfl rfl)
theorem dL_law_924 : decode cL_law 924 = .ok (.istore 6, 2) := dk_54 6 (dk_at dksL_law_34 19 rfl rfl)
theorem dL_law_926 : decode cL_law 926 = .ok (.aload_n 2, 1) := dk_44 (dk_at dksL_law_34 21 rfl rfl)
theorem dL_law_927 : decode cL_law 927 = .ok (.aload_n 0, 1) := dk_42 (dk_at dksL_law_34 22 rfl rfl)
theorem dL_law_928 : decode cL_law 928 = .ok (.iload 5, 2) := dk_21 5 (dk_at dksL_law_35 0 rfl rfl)
theorem dL_law_930 : decode cL_law 930 = .ok (.iconst 1, 1) := dk_4 (dk_at dksL_law_35 2 rfl rfl)
theorem dL_law_931 : decode cL_law 931 = .ok (.iadd, 1) := dk_96 (dk_at dksL_law_35 3 rfl rfl)
theorem dL_law_932 : decode cL_law 932 = .ok (.iaload, 1) := dk_46 (dk_at dksL_law_35 4 rfl rfl)
theorem dL_law_933 : decode cL_law 933 = .ok (.invokevirtual 164, 3) := dk_182 0 164 (dk_at dksL_law_35 5 rfl rfl)
theorem dL_law_936 : decode cL_law 936 = .ok (.istore 7, 2) := dk_54 7 (dk_at dksL_law_35 8 rfl rfl)
theorem dL_law_938 : decode cL_law 938 = .ok (.aload_n 2, 1) := dk_44 (dk_at dksL_law_35 10 rfl rfl)
theorem dL_law_939 : decode cL_law 939 = .ok (.invokevirtual 121, 3) := dk_182 0 121 (dk_at dksL_law_35 11 rfl rfl)
theorem dL_law_942 : decode cL_law 942 = .ok (.iload 6, 2) := dk_21 6 (dk_at dksL_law_35 14 rfl rfl)
theorem dL_law_944 : decode cL_law 944 = .ok (.if_icmp .eq 5, 3) := dk_159 0 5 (dk_at dksL_law_35 16 rfl rfl)
theorem dL_law_947 : decode cL_law 947 = .ok (.iconst 0, 1) := dk_3 (dk_at dksL_law_35 19 rfl rfl)
theorem dL_law_948 : decode cL_law 948 = .ok (.ireturn, 1) := dk_172 (dk_at dksL_law_35 20 rfl rfl)
theorem dL_law_949 : decode cL_law 949 = .ok (.iload 6, 2) := dk_21 6 (dk_at dksL_law_35 21 rfl rfl)
theorem dL_law_951 : decode cL_law 951 = .ok (.ifCond .ne 15, 3) := dk_154 0 15 (dk_at dksL_law_36 0 rfl rfl)
theorem dL_law_954 : decode cL_law 954 = .ok (.aload_n 3, 1) := dk_45 (dk_at dksL_law_36 3 rfl rfl)
theorem dL_law_955 : decode cL_law 955 = .ok (.iconst 0, 1) := dk_3 (dk_at dksL_law_36 4 rfl rfl)
theorem dL_law_956 : decode cL_law 956 = .ok (.laload, 1) := dk_47 (dk_at dksL_law_36 5 rfl rfl)
theorem dL_law_957 : decode cL_law 957 = .ok (.iload 7, 2) := dk_21 7 (dk_at dksL_law_36 6 rfl rfl)
theorem dL_law_959 : decode cL_law 959 = .ok (.i2l, 1) := dk_133 (dk_at dksL_law_36 8 rfl rfl)
theorem dL_law_960 : decode cL_law 960 = .ok (.lcmp, 1) := dk_148 (dk_at dksL_law_36 9 rfl rfl)
theorem dL_law_961 : decode cL_law 961 = .ok (.ifCond .eq 5, 3) := dk_153 0 5 (dk_at dksL_law_36 10 rfl rfl)
theorem dL_law_964 : decode cL_law 964 = .ok (.iconst 0, 1) := dk_3 (dk_at dksL_law_36 13 rfl rfl)
theorem dL_law_965 : decode cL_law 965 = .ok (.ireturn, 1) := dk_172 (dk_at dksL_law_36 14 rfl rfl)
theorem dL_law_966 : decode cL_law 966 = .ok (.goto 950, 3) := dk_167 3 182 (dk_at dksL_law_36 15 rfl rfl)
theorem dL_law_969 : decode cL_law 969 = .ok (.aload_n 1, 1) := dk_43 (dk_at dksL_law_36 18 rfl rfl)
theorem dL_law_970 : decode cL_law 970 = .ok (.aload_n 0, 1) := dk_42 (dk_at dksL_law_36 19 rfl rfl)
theorem dL_law_971 : decode cL_law 971 = .ok (.iload 5, 2) := dk_21 5 (dk_at dksL_law_36 20 rfl rfl)
theorem dL_law_973 : decode cL_law 973 = .ok (.iconst 1, 1) := dk_4 (dk_at dksL_law_36 22 rfl rfl)
theorem dL_law_974 : decode cL_law 974 = .ok (.iadd, 1) := dk_96 (dk_at dksL_law_36 23 rfl rfl)
theorem dL_law_975 : decode cL_law 975 = .ok (.iaload, 1) := dk_46 (dk_at dksL_law_37 0 rfl rfl)
theorem dL_law_976 : decode cL_law 976 = .ok (.aload_n 3, 1) := dk_45 (dk_at dksL_law_37 1 rfl rfl)
theorem dL_law_977 : decode cL_law 977 = .ok (.invokestatic 165, 3) := dk_184 0 165 (dk_at dksL_law_37 2 rfl rfl)
theorem dL_law_980 : decode cL_law 980 = .ok (.istore 6, 2) := dk_54 6 (dk_at dksL_law_37 5 rfl rfl)
theorem dL_law_982 : decode cL_law 982 = .ok (.aload_n 2, 1) := dk_44 (dk_at dksL_law_37 7 rfl rfl)
theorem dL_law_983 : decode cL_law 983 = .ok (.aload_n 0, 1) := dk_42 (dk_at dksL_law_37 8 rfl rfl)
theorem dL_law_984 : decode cL_law 984 = .ok (.iload 5, 2) := dk_21 5 (dk_at dksL_law_37 9 rfl rfl)
theorem dL_law_986 : decode cL_law 986 = .ok (.iconst 1, 1) := dk_4 (dk_at dksL_law_37 11 rfl rfl)
theorem dL_law_987 : decode cL_law 987 = .ok (.iadd, 1) := dk_96 (dk_at dksL_law_37 12 rfl rfl)
theorem dL_law_988 : decode cL_law 988 = .ok (.iaload, 1) := dk_46 (dk_at dksL_law_37 13 rfl rfl)
theorem dL_law_989 : decode cL_law 989 = .ok (.invokevirtual 167, 3) := dk_182 0 167 (dk_at dksL_law_37 14 rfl rfl)
theorem dL_law_992 : decode cL_law 992 = .ok (.istore 7, 2) := dk_54 7 (dk_at dksL_law_37 17 rfl rfl)
theorem dL_law_994 : decode cL_law 994 = .ok (.aload_n 2, 1) := dk_44 (dk_at dksL_law_37 19 rfl rfl)
theorem dL_law_995 : decode cL_law 995 = .ok (.invokevirtual 121, 3) := dk_182 0 121 (dk_at dksL_law_37 20 rfl rfl)
theorem dL_law_998 : decode cL_law 998 = .ok (.iload 6, 2) := dk_21 6 (dk_at dksL_law_38 0 rfl rfl)
theorem dL_law_1000 : decode cL_law 1000 = .ok (.if_icmp .eq 5, 3) := dk_159 0 5 (dk_at dksL_law_38 2 rfl rfl)
theorem dL_law_1003 : decode cL_law 1003 = .ok (.iconst 0, 1) := dk_3 (dk_at dksL_law_38 5 rfl rfl)
theorem dL_law_1004 : decode cL_law 1004 = .ok (.ireturn, 1) := dk_172 (dk_at dksL_law_38 6 rfl rfl)
theorem dL_law_1005 : decode cL_law 1005 = .ok (.iload 6, 2) := dk_21 6 (dk_at dksL_law_38 7 rfl rfl)
theorem dL_law_1007 : decode cL_law 1007 = .ok (.ifCond .ne 15, 3) := dk_154 0 15 (dk_at dksL_law_38 9 rfl rfl)
theorem dL_law_1010 : decode cL_law 1010 = .ok (.aload_n 3, 1) := dk_45 (dk_at dksL_law_38 12 rfl rfl)
theorem dL_law_1011 : decode cL_law 1011 = .ok (.iconst 0, 1) := dk_3 (dk_at dksL_law_38 13 rfl rfl)
theorem dL_law_1012 : decode cL_law 1012 = .ok (.laload, 1) := dk_47 (dk_at dksL_law_38 14 rfl rfl)
theorem dL_law_1013 : decode cL_law 1013 = .ok (.iload 7, 2) := dk_21 7 (dk_at dksL_law_38 15 rfl rfl)
theorem dL_law_1015 : decode cL_law 1015 = .ok (.i2l, 1) := dk_133 (dk_at dksL_law_38 17 rfl rfl)
theorem dL_law_1016 : decode cL_law 1016 = .ok (.lcmp, 1) := dk_148 (dk_at dksL_law_38 18 rfl rfl)
theorem dL_law_1017 : decode cL_law 1017 = .ok (.ifCond .eq 5, 3) := dk_153 0 5 (dk_at dksL_law_38 19 rfl rfl)
theorem dL_law_1020 : decode cL_law 1020 = .ok (.iconst 0, 1) := dk_3 (dk_at dksL_law_38 22 rfl rfl)
theorem dL_law_1021 : decode cL_law 1021 = .ok (.ireturn, 1) := dk_172 (dk_at dksL_law_38 23 rfl rfl)
theorem dL_law_1022 : decode cL_law 1022 = .ok (.goto 894, 3) := dk_167 3 126 (dk_at dksL_law_39 0 rfl rfl)
theorem dL_law_1025 : decode cL_law 1025 = .ok (.aload_n 1, 1) := dk_43 (dk_at dksL_law_39 3 rfl rfl)
theorem dL_law_1026 : decode cL_law 1026 = .ok (.aload_n 0, 1) := dk_42 (dk_at dksL_law_39 4 rfl rfl)
theorem dL_law_1027 : decode cL_law 1027 = .ok (.iload 5, 2) := dk_21 5 (dk_at dksL_law_39 5 rfl rfl)
theorem dL_law_1029 : decode cL_law 1029 = .ok (.iconst 1, 1) := dk_4 (dk_at dksL_law_39 7 rfl rfl)
theorem dL_law_1030 : decode cL_law 1030 = .ok (.iadd, 1) := dk_96 (dk_at dksL_law_39 8 rfl rfl)
theorem dL_law_1031 : decode cL_law 1031 = .ok (.iaload, 1) := dk_46 (dk_at dksL_law_39 9 rfl rfl)
theorem dL_law_1032 : decode cL_law 1032 = .ok (.aload_n 0, 1) := dk_42 (dk_at dksL_law_39 10 rfl rfl)
theorem dL_law_1033 : decode cL_law 1033 = .ok (.iload 5, 2) := dk_21 5 (dk_at dksL_law_39 11 rfl rfl)
theorem dL_law_1035 : decode cL_law 1035 = .ok (.iconst 2, 1) := dk_5 (dk_at dksL_law_39 13 rfl rfl)
theorem dL_law_1036 : decode cL_law 1036 = .ok (.iadd, 1) := dk_96 (dk_at dksL_law_39 14 rfl rfl)
theorem dL_law_1037 : decode cL_law 1037 = .ok (.iaload, 1) := dk_46 (dk_at dksL_law_39 15 rfl rfl)
theorem dL_law_1038 : decode cL_law 1038 = .ok (.aload_n 3, 1) := dk_45 (dk_at dksL_law_39 16 rfl rfl)
theorem dL_law_1039 : decode cL_law 1039 = .ok (.invokestatic 168, 3) := dk_184 0 168 (dk_at dksL_law_39 17 rfl rfl)
theorem dL_law_1042 : decode cL_law 1042 = .ok (.istore 6, 2) := dk_54 6 (dk_at dksL_law_39 20 rfl rfl)
theorem dL_law_1044 : decode cL_law 1044 = .ok (.aload_n 2, 1) := dk_44 (dk_at dksL_law_39 22 rfl rfl)
theorem dL_law_1045 : decode cL_law 1045 = .ok (.aload_n 0, 1) := dk_42 (dk_at dksL_law_39 23 rfl rfl)
theorem dL_law_1046 : decode cL_law 1046 = .ok (.iload 5, 2) := dk_21 5 (dk_at dksL_law_40 0 rfl rfl)
theorem dL_law_1048 : decode cL_law 1048 = .ok (.iconst 1, 1) := dk_4 (dk_at dksL_law_40 2 rfl rfl)
theorem dL_law_1049 : decode cL_law 1049 = .ok (.iadd, 1) := dk_96 (dk_at dksL_law_40 3 rfl rfl)
theorem dL_law_1050 : decode cL_law 1050 = .ok (.iaload, 1) := dk_46 (dk_at dksL_law_40 4 rfl rfl)
theorem dL_law_1051 : decode cL_law 1051 = .ok (.aload_n 0, 1) := dk_42 (dk_at dksL_law_40 5 rfl rfl)
theorem dL_law_1052 : decode cL_law 1052 = .ok (.iload 5, 2) := dk_21 5 (dk_at dksL_law_40 6 rfl rfl)
theorem dL_law_1054 : decode cL_law 1054 = .ok (.iconst 2, 1) := dk_5 (dk_at dksL_law_40 8 rfl rfl)
theorem dL_law_1055 : decode cL_law 1055 = .ok (.iadd, 1) := dk_96 (dk_at dksL_law_40 9 rfl rfl)
theorem dL_law_1056 : decode cL_law 1056 = .ok (.iaload, 1) := dk_46 (dk_at dksL_law_40 10 rfl rfl)
theorem dL_law_1057 : decode cL_law 1057 = .ok (.invokevirtual 170, 3) := dk_182 0 170 (dk_at dksL_law_40 11 rfl rfl)
theorem dL_law_1060 : decode cL_law 1060 = .ok (.istore 7, 2) := dk_54 7 (dk_at dksL_law_40 14 rfl rfl)
theorem dL_law_1062 : decode cL_law 1062 = .ok (.aload_n 2, 1) := dk_44 (dk_at dksL_law_40 16 rfl rfl)
theorem dL_law_1063 : decode cL_law 1063 = .ok (.invokevirtual 121, 3) := dk_182 0 121 (dk_at dksL_law_40 17 rfl rfl)
theorem dL_law_1066 : decode cL_law 1066 = .ok (.iload 6, 2) := dk_21 6 (dk_at dksL_law_40 20 rfl rfl)
theorem dL_law_1068 : decode cL_law 1068 = .ok (.if_icmp .eq 5, 3) := dk_159 0 5 (dk_at dksL_law_41 0 rfl rfl)
theorem dL_law_1071 : decode cL_law 1071 = .ok (.iconst 0, 1) := dk_3 (dk_at dksL_law_41 3 rfl rfl)
theorem dL_law_1072 : decode cL_law 1072 = .ok (.ireturn, 1) := dk_172 (dk_at dksL_law_41 4 rfl rfl)
theorem dL_law_1073 : decode cL_law 1073 = .ok (.iload 6, 2) := dk_21 6 (dk_at dksL_law_41 5 rfl rfl)
theorem dL_law_1075 : decode cL_law 1075 = .ok (.ifCond .ne 15, 3) := dk_154 0 15 (dk_at dksL_law_41 7 rfl rfl)
theorem dL_law_1078 : decode cL_law 1078 = .ok (.aload_n 3, 1) := dk_45 (dk_at dksL_law_41 10 rfl rfl)
theorem dL_law_1079 : decode cL_law 1079 = .ok (.iconst 0, 1) := dk_3 (dk_at dksL_law_41 11 rfl rfl)
theorem dL_law_1080 : decode cL_law 1080 = .ok (.laload, 1) := dk_47 (dk_at dksL_law_41 12 rfl rfl)
theorem dL_law_1081 : decode cL_law 1081 = .ok (.iload 7, 2) := dk_21 7 (dk_at dksL_law_41 13 rfl rfl)
theorem dL_law_1083 : decode cL_law 1083 = .ok (.i2l, 1) := dk_133 (dk_at dksL_law_41 15 rfl rfl)
theorem dL_law_1084 : decode cL_law 1084 = .ok (.lcmp, 1) := dk_148 (dk_at dksL_law_41 16 rfl rfl)
theorem dL_law_1085 : decode cL_law 1085 = .ok (.ifCond .eq 5, 3) := dk_153 0 5 (dk_at dksL_law_41 17 rfl rfl)
theorem dL_law_1088 : decode cL_law 1088 = .ok (.iconst 0, 1) := dk_3 (dk_at dksL_law_41 20 rfl rfl)
theorem dL_law_1089 : decode cL_law 1089 = .ok (.ireturn, 1) := dk_172 (dk_at dksL_law_41 21 rfl rfl)
theorem dL_law_1090 : decode cL_law 1090 = .ok (.goto 826, 3) := dk_167 3 58 (dk_at dksL_law_42 0 rfl rfl)
theorem dL_law_1093 : decode cL_law 1093 = .ok (.aload_n 1, 1) := dk_43 (dk_at dksL_law_42 3 rfl rfl)
theorem dL_law_1094 : decode cL_law 1094 = .ok (.aload_n 0, 1) := dk_42 (dk_at dksL_law_42 4 rfl rfl)
theorem dL_law_1095 : decode cL_law 1095 = .ok (.iload 5, 2) := dk_21 5 (dk_at dksL_law_42 5 rfl rfl)
theorem dL_law_1097 : decode cL_law 1097 = .ok (.iconst 1, 1) := dk_4 (dk_at dksL_law_42 7 rfl rfl)
theorem dL_law_1098 : decode cL_law 1098 = .ok (.iadd, 1) := dk_96 (dk_at dksL_law_42 8 rfl rfl)
theorem dL_law_1099 : decode cL_law 1099 = .ok (.iaload, 1) := dk_46 (dk_at dksL_law_42 9 rfl rfl)
theorem dL_law_1100 : decode cL_law 1100 = .ok (.aload_n 3, 1) := dk_45 (dk_at dksL_law_42 10 rfl rfl)
theorem dL_law_1101 : decode cL_law 1101 = .ok (.invokestatic 171, 3) := dk_184 0 171 (dk_at dksL_law_42 11 rfl rfl)
theorem dL_law_1104 : decode cL_law 1104 = .ok (.istore 6, 2) := dk_54 6 (dk_at dksL_law_42 14 rfl rfl)
theorem dL_law_1106 : decode cL_law 1106 = .ok (.aload_n 2, 1) := dk_44 (dk_at dksL_law_42 16 rfl rfl)
theorem dL_law_1107 : decode cL_law 1107 = .ok (.aload_n 0, 1) := dk_42 (dk_at dksL_law_42 17 rfl rfl)
theorem dL_law_1108 : decode cL_law 1108 = .ok (.iload 5, 2) := dk_21 5 (dk_at dksL_law_42 18 rfl rfl)
theorem dL_law_1110 : decode cL_law 1110 = .ok (.iconst 1, 1) := dk_4 (dk_at dksL_law_42 20 rfl rfl)
theorem dL_law_1111 : decode cL_law 1111 = .ok (.iadd, 1) := dk_96 (dk_at dksL_law_42 21 rfl rfl)
theorem dL_law_1112 : decode cL_law 1112 = .ok (.iaload, 1) := dk_46 (dk_at dksL_law_42 22 rfl rfl)
theorem dL_law_1113 : decode cL_law 1113 = .ok (.invokevirtual 173, 3) := dk_182 0 173 (dk_at dksL_law_43 0 rfl rfl)
theorem dL_law_1116 : decode cL_law 1116 = .ok (.istore 7, 2) := dk_54 7 (dk_at dksL_law_43 3 rfl rfl)
theorem dL_law_1118 : decode cL_law 1118 = .ok (.aload_n 2, 1) := dk_44 (dk_at dksL_law_43 5 rfl rfl)
theorem dL_law_1119 : decode cL_law 1119 = .ok (.invokevirtual 121, 3) := dk_182 0 121 (dk_at dksL_law_43 6 rfl rfl)
theorem dL_law_1122 : decode cL_law 1122 = .ok (.iload 6, 2) := dk_21 6 (dk_at dksL_law_43 9 rfl rfl)
theorem dL_law_1124 : decode cL_law 1124 = .ok (.if_icmp .eq 5, 3) := dk_159 0 5 (dk_at dksL_law_43 11 rfl rfl)
theorem dL_law_1127 : decode cL_law 1127 = .ok (.iconst 0, 1) := dk_3 (dk_at dksL_law_43 14 rfl rfl)
theorem dL_law_1128 : decode cL_law 1128 = .ok (.ireturn, 1) := dk_172 (dk_at dksL_law_43 15 rfl rfl)
theorem dL_law_1129 : decode cL_law 1129 = .ok (.iload 6, 2) := dk_21 6 (dk_at dksL_law_43 16 rfl rfl)
theorem dL_law_1131 : decode cL_law 1131 = .ok (.ifCond .ne 15, 3) := dk_154 0 15 (dk_at dksL_law_43 18 rfl rfl)
theorem dL_law_1134 : decode cL_law 1134 = .ok (.aload_n 3, 1) := dk_45 (dk_at dksL_law_43 21 rfl rfl)
theorem dL_law_1135 : decode cL_law 1135 = .ok (.iconst 0, 1) := dk_3 (dk_at dksL_law_43 22 rfl rfl)
theorem dL_law_1136 : decode cL_law 1136 = .ok (.laload, 1) := dk_47 (dk_at dksL_law_43 23 rfl rfl)
theorem dL_law_1137 : decode cL_law 1137 = .ok (.iload 7, 2) := dk_21 7 (dk_at dksL_law_44 0 rfl rfl)
theorem dL_law_1139 : decode cL_law 1139 = .ok (.i2l, 1) := dk_133 (dk_at dksL_law_44 2 rfl rfl)
theorem dL_law_1140 : decode cL_law 1140 = .ok (.lcmp, 1) := dk_148 (dk_at dksL_law_44 3 rfl rfl)
theorem dL_law_1141 : decode cL_law 1141 = .ok (.ifCond .eq 5, 3) := dk_153 0 5 (dk_at dksL_law_44 4 rfl rfl)
theorem dL_law_1144 : decode cL_law 1144 = .ok (.iconst 0, 1) := dk_3 (dk_at dksL_law_44 7 rfl rfl)
theorem dL_law_1145 : decode cL_law 1145 = .ok (.ireturn, 1) := dk_172 (dk_at dksL_law_44 8 rfl rfl)
theorem dL_law_1146 : decode cL_law 1146 = .ok (.goto 770, 3) := dk_167 3 2 (dk_at dksL_law_44 9 rfl rfl)
theorem dL_law_1149 : decode cL_law 1149 = .ok (.aload_n 1, 1) := dk_43 (dk_at dksL_law_44 12 rfl rfl)
theorem dL_law_1150 : decode cL_law 1150 = .ok (.aload_n 0, 1) := dk_42 (dk_at dksL_law_44 13 rfl rfl)
theorem dL_law_1151 : decode cL_law 1151 = .ok (.iload 5, 2) := dk_21 5 (dk_at dksL_law_44 14 rfl rfl)
theorem dL_law_1153 : decode cL_law 1153 = .ok (.iconst 1, 1) := dk_4 (dk_at dksL_law_44 16 rfl rfl)
theorem dL_law_1154 : decode cL_law 1154 = .ok (.iadd, 1) := dk_96 (dk_at dksL_law_44 17 rfl rfl)
theorem dL_law_1155 : decode cL_law 1155 = .ok (.iaload, 1) := dk_46 (dk_at dksL_law_44 18 rfl rfl)
theorem dL_law_1156 : decode cL_law 1156 = .ok (.aload_n 0, 1) := dk_42 (dk_at dksL_law_44 19 rfl rfl)
theorem dL_law_1157 : decode cL_law 1157 = .ok (.iload 5, 2) := dk_21 5 (dk_at dksL_law_44 20 rfl rfl)
theorem dL_law_1159 : decode cL_law 1159 = .ok (.iconst 2, 1) := dk_5 (dk_at dksL_law_44 22 rfl rfl)
theorem dL_law_1160 : decode cL_law 1160 = .ok (.iadd, 1) := dk_96 (dk_at dksL_law_44 23 rfl rfl)
theorem dL_law_1161 : decode cL_law 1161 = .ok (.iaload, 1) := dk_46 (dk_at dksL_law_45 0 rfl rfl)
theorem dL_law_1162 : decode cL_law 1162 = .ok (.aload_n 3, 1) := dk_45 (dk_at dksL_law_45 1 rfl rfl)
theorem dL_law_1163 : decode cL_law 1163 = .ok (.invokestatic 174, 3) := dk_184 0 174 (dk_at dksL_law_45 2 rfl rfl)
theorem dL_law_1166 : decode cL_law 1166 = .ok (.istore 6, 2) := dk_54 6 (dk_at dksL_law_45 5 rfl rfl)
theorem dL_law_1168 : decode cL_law 1168 = .ok (.aload_n 2, 1) := dk_44 (dk_at dksL_law_45 7 rfl rfl)
theorem dL_law_1169 : decode cL_law 1169 = .ok (.aload_n 0, 1) := dk_42 (dk_at dksL_law_45 8 rfl rfl)
theorem dL_law_1170 : decode cL_law 1170 = .ok (.iload 5, 2) := dk_21 5 (dk_at dksL_law_45 9 rfl rfl)
theorem dL_law_1172 : decode cL_law 1172 = .ok (.iconst 1, 1) := dk_4 (dk_at dksL_law_45 11 rfl rfl)
theorem dL_law_1173 : decode cL_law 1173 = .ok (.iadd, 1) := dk_96 (dk_at dksL_law_45 12 rfl rfl)
theorem dL_law_1174 : decode cL_law 1174 = .ok (.iaload, 1) := dk_46 (dk_at dksL_law_45 13 rfl rfl)
theorem dL_law_1175 : decode cL_law 1175 = .ok (.aload_n 0, 1) := dk_42 (dk_at dksL_law_45 14 rfl rfl)
theorem dL_law_1176 : decode cL_law 1176 = .ok (.iload 5, 2) := dk_21 5 (dk_at dksL_law_45 15 rfl rfl)
theorem dL_law_1178 : decode cL_law 1178 = .ok (.iconst 2, 1) := dk_5 (dk_at dksL_law_45 17 rfl rfl)
theorem dL_law_1179 : decode cL_law 1179 = .ok (.iadd, 1) := dk_96 (dk_at dksL_law_45 18 rfl rfl)
theorem dL_law_1180 : decode cL_law 1180 = .ok (.iaload, 1) := dk_46 (dk_at dksL_law_45 19 rfl rfl)
theorem dL_law_1181 : decode cL_law 1181 = .ok (.invokevirtual 176, 3) := dk_182 0 176 (dk_at dksL_law_45 20 rfl rfl)
theorem dL_law_1184 : decode cL_law 1184 = .ok (.istore 7, 2) := dk_54 7 (dk_at dksL_law_46 0 rfl rfl)
theorem dL_law_1186 : decode cL_law 1186 = .ok (.aload_n 2, 1) := dk_44 (dk_at dksL_law_46 2 rfl rfl)
theorem dL_law_1187 : decode cL_law 1187 = .ok (.invokevirtual 121, 3) := dk_182 0 121 (dk_at dksL_law_46 3 rfl rfl)
theorem dL_law_1190 : decode cL_law 1190 = .ok (.iload 6, 2) := dk_21 6 (dk_at dksL_law_46 6 rfl rfl)
theorem dL_law_1192 : decode cL_law 1192 = .ok (.if_icmp .eq 5, 3) := dk_159 0 5 (dk_at dksL_law_46 8 rfl rfl)
theorem dL_law_1195 : decode cL_law 1195 = .ok (.iconst 0, 1) := dk_3 (dk_at dksL_law_46 11 rfl rfl)
theorem dL_law_1196 : decode cL_law 1196 = .ok (.ireturn, 1) := dk_172 (dk_at dksL_law_46 12 rfl rfl)
theorem dL_law_1197 : decode cL_law 1197 = .ok (.iload 6, 2) := dk_21 6 (dk_at dksL_law_46 13 rfl rfl)
theorem dL_law_1199 : decode cL_law 1199 = .ok (.ifCond .ne 15, 3) := dk_154 0 15 (dk_at dksL_law_46 15 rfl rfl)
theorem dL_law_1202 : decode cL_law 1202 = .ok (.aload_n 3, 1) := dk_45 (dk_at dksL_law_46 18 rfl rfl)
theorem dL_law_1203 : decode cL_law 1203 = .ok (.iconst 0, 1) := dk_3 (dk_at dksL_law_46 19 rfl rfl)
theorem dL_law_1204 : decode cL_law 1204 = .ok (.laload, 1) := dk_47 (dk_at dksL_law_46 20 rfl rfl)
theorem dL_law_1205 : decode cL_law 1205 = .ok (.iload 7, 2) := dk_21 7 (dk_at dksL_law_46 21 rfl rfl)
theorem dL_law_1207 : decode cL_law 1207 = .ok (.i2l, 1) := dk_133 (dk_at dksL_law_46 23 rfl rfl)
theorem dL_law_1208 : decode cL_law 1208 = .ok (.lcmp, 1) := dk_148 (dk_at dksL_law_47 0 rfl rfl)
theorem dL_law_1209 : decode cL_law 1209 = .ok (.ifCond .eq 5, 3) := dk_153 0 5 (dk_at dksL_law_47 1 rfl rfl)
theorem dL_law_1212 : decode cL_law 1212 = .ok (.iconst 0, 1) := dk_3 (dk_at dksL_law_47 4 rfl rfl)
theorem dL_law_1213 : decode cL_law 1213 = .ok (.ireturn, 1) := dk_172 (dk_at dksL_law_47 5 rfl rfl)
theorem dL_law_1214 : decode cL_law 1214 = .ok (.goto 702, 3) := dk_167 2 190 (dk_at dksL_law_47 6 rfl rfl)
theorem dL_law_1217 : decode cL_law 1217 = .ok (.aload_n 1, 1) := dk_43 (dk_at dksL_law_47 9 rfl rfl)
theorem dL_law_1218 : decode cL_law 1218 = .ok (.aload_n 0, 1) := dk_42 (dk_at dksL_law_47 10 rfl rfl)
theorem dL_law_1219 : decode cL_law 1219 = .ok (.iload 5, 2) := dk_21 5 (dk_at dksL_law_47 11 rfl rfl)
theorem dL_law_1221 : decode cL_law 1221 = .ok (.iconst 1, 1) := dk_4 (dk_at dksL_law_47 13 rfl rfl)
theorem dL_law_1222 : decode cL_law 1222 = .ok (.iadd, 1) := dk_96 (dk_at dksL_law_47 14 rfl rfl)
theorem dL_law_1223 : decode cL_law 1223 = .ok (.iaload, 1) := dk_46 (dk_at dksL_law_47 15 rfl rfl)
theorem dL_law_1224 : decode cL_law 1224 = .ok (.aload_n 0, 1) := dk_42 (dk_at dksL_law_47 16 rfl rfl)
theorem dL_law_1225 : decode cL_law 1225 = .ok (.iload 5, 2) := dk_21 5 (dk_at dksL_law_47 17 rfl rfl)
theorem dL_law_1227 : decode cL_law 1227 = .ok (.iconst 2, 1) := dk_5 (dk_at dksL_law_47 19 rfl rfl)
theorem dL_law_1228 : decode cL_law 1228 = .ok (.iadd, 1) := dk_96 (dk_at dksL_law_47 20 rfl rfl)
theorem dL_law_1229 : decode cL_law 1229 = .ok (.iaload, 1) := dk_46 (dk_at dksL_law_47 21 rfl rfl)
theorem dL_law_1230 : decode cL_law 1230 = .ok (.aload_n 3, 1) := dk_45 (dk_at dksL_law_47 22 rfl rfl)
theorem dL_law_1231 : decode cL_law 1231 = .ok (.invokestatic 177, 3) := dk_184 0 177 (dk_at dksL_law_48 0 rfl rfl)
theorem dL_law_1234 : decode cL_law 1234 = .ok (.istore 6, 2) := dk_54 6 (dk_at dksL_law_48 3 rfl rfl)
theorem dL_law_1236 : decode cL_law 1236 = .ok (.aload_n 2, 1) := dk_44 (dk_at dksL_law_48 5 rfl rfl)
theorem dL_law_1237 : decode cL_law 1237 = .ok (.aload_n 0, 1) := dk_42 (dk_at dksL_law_48 6 rfl rfl)
theorem dL_law_1238 : decode cL_law 1238 = .ok (.iload 5, 2) := dk_21 5 (dk_at dksL_law_48 7 rfl rfl)
theorem dL_law_1240 : decode cL_law 1240 = .ok (.iconst 1, 1) := dk_4 (dk_at dksL_law_48 9 rfl rfl)
theorem dL_law_1241 : decode cL_law 1241 = .ok (.iadd, 1) := dk_96 (dk_at dksL_law_48 10 rfl rfl)
theorem dL_law_1242 : decode cL_law 1242 = .ok (.iaload, 1) := dk_46 (dk_at dksL_law_48 11 rfl rfl)
theorem dL_law_1243 : decode cL_law 1243 = .ok (.aload_n 0, 1) := dk_42 (dk_at dksL_law_48 12 rfl rfl)
theorem dL_law_1244 : decode cL_law 1244 = .ok (.iload 5, 2) := dk_21 5 (dk_at dksL_law_48 13 rfl rfl)
theorem dL_law_1246 : decode cL_law 1246 = .ok (.iconst 2, 1) := dk_5 (dk_at dksL_law_48 15 rfl rfl)
theorem dL_law_1247 : decode cL_law 1247 = .ok (.iadd, 1) := dk_96 (dk_at dksL_law_48 16 rfl rfl)
theorem dL_law_1248 : decode cL_law 1248 = .ok (.iaload, 1) := dk_46 (dk_at dksL_law_48 17 rfl rfl)
theorem dL_law_1249 : decode cL_law 1249 = .ok (.invokevirtual 179, 3) := dk_182 0 179 (dk_at dksL_law_48 18 rfl rfl)
theorem dL_law_1252 : decode cL_law 1252 = .ok (.istore 7, 2) := dk_54 7 (dk_at dksL_law_48 21 rfl rfl)
theorem dL_law_1254 : decode cL_law 1254 = .ok (.aload_n 2, 1) := dk_44 (dk_at dksL_law_48 23 rfl rfl)
theorem dL_law_1255 : decode cL_law 1255 = .ok (.invokevirtual 121, 3) := dk_182 0 121 (dk_at dksL_law_49 0 rfl rfl)
theorem dL_law_1258 : decode cL_law 1258 = .ok (.iload 6, 2) := dk_21 6 (dk_at dksL_law_49 3 rfl rfl)
theorem dL_law_1260 : decode cL_law 1260 = .ok (.if_icmp .eq 5, 3) := dk_159 0 5 (dk_at dksL_law_49 5 rfl rfl)
theorem dL_law_1263 : decode cL_law 1263 = .ok (.iconst 0, 1) := dk_3 (dk_at dksL_law_49 8 rfl rfl)
theorem dL_law_1264 : decode cL_law 1264 = .ok (.ireturn, 1) := dk_172 (dk_at dksL_law_49 9 rfl rfl)
theorem dL_law_1265 : decode cL_law 1265 = .ok (.iload 6, 2) := dk_21 6 (dk_at dksL_law_49 10 rfl rfl)
theorem dL_law_1267 : decode cL_law 1267 = .ok (.ifCond .ne 15, 3) := dk_154 0 15 (dk_at dksL_law_49 12 rfl rfl)
theorem dL_law_1270 : decode cL_law 1270 = .ok (.aload_n 3, 1) := dk_45 (dk_at dksL_law_49 15 rfl rfl)
theorem dL_law_1271 : decode cL_law 1271 = .ok (.iconst 0, 1) := dk_3 (dk_at dksL_law_49 16 rfl rfl)
theorem dL_law_1272 : decode cL_law 1272 = .ok (.laload, 1) := dk_47 (dk_at dksL_law_49 17 rfl rfl)
theorem dL_law_1273 : decode cL_law 1273 = .ok (.iload 7, 2) := dk_21 7 (dk_at dksL_law_49 18 rfl rfl)
theorem dL_law_1275 : decode cL_law 1275 = .ok (.i2l, 1) := dk_133 (dk_at dksL_law_49 20 rfl rfl)
theorem dL_law_1276 : decode cL_law 1276 = .ok (.lcmp, 1) := dk_148 (dk_at dksL_law_49 21 rfl rfl)
theorem dL_law_1277 : decode cL_law 1277 = .ok (.ifCond .eq 5, 3) := dk_153 0 5 (dk_at dksL_law_50 0 rfl rfl)
theorem dL_law_1280 : decode cL_law 1280 = .ok (.iconst 0, 1) := dk_3 (dk_at dksL_law_50 3 rfl rfl)
theorem dL_law_1281 : decode cL_law 1281 = .ok (.ireturn, 1) := dk_172 (dk_at dksL_law_50 4 rfl rfl)
theorem dL_law_1282 : decode cL_law 1282 = .ok (.goto 634, 3) := dk_167 2 122 (dk_at dksL_law_50 5 rfl rfl)
theorem dL_law_1285 : decode cL_law 1285 = .ok (.aload_n 1, 1) := dk_43 (dk_at dksL_law_50 8 rfl rfl)
theorem dL_law_1286 : decode cL_law 1286 = .ok (.aload_n 0, 1) := dk_42 (dk_at dksL_law_50 9 rfl rfl)
theorem dL_law_1287 : decode cL_law 1287 = .ok (.iload 5, 2) := dk_21 5 (dk_at dksL_law_50 10 rfl rfl)
theorem dL_law_1289 : decode cL_law 1289 = .ok (.iconst 1, 1) := dk_4 (dk_at dksL_law_50 12 rfl rfl)
theorem dL_law_1290 : decode cL_law 1290 = .ok (.iadd, 1) := dk_96 (dk_at dksL_law_50 13 rfl rfl)
theorem dL_law_1291 : decode cL_law 1291 = .ok (.iaload, 1) := dk_46 (dk_at dksL_law_50 14 rfl rfl)
theorem dL_law_1292 : decode cL_law 1292 = .ok (.aload_n 0, 1) := dk_42 (dk_at dksL_law_50 15 rfl rfl)
theorem dL_law_1293 : decode cL_law 1293 = .ok (.iload 5, 2) := dk_21 5 (dk_at dksL_law_50 16 rfl rfl)
theorem dL_law_1295 : decode cL_law 1295 = .ok (.iconst 2, 1) := dk_5 (dk_at dksL_law_50 18 rfl rfl)
theorem dL_law_1296 : decode cL_law 1296 = .ok (.iadd, 1) := dk_96 (dk_at dksL_law_50 19 rfl rfl)
theorem dL_law_1297 : decode cL_law 1297 = .ok (.iaload, 1) := dk_46 (dk_at dksL_law_50 20 rfl rfl)
theorem dL_law_1298 : decode cL_law 1298 = .ok (.aload_n 0, 1) := dk_42 (dk_at dksL_law_50 21 rfl rfl)
theorem dL_law_1299 : decode cL_law 1299 = .ok (.iload 5, 2) := dk_21 5 (dk_at dksL_law_50 22 rfl rfl)
theorem dL_law_1301 : decode cL_law 1301 = .ok (.iconst 3, 1) := dk_6 (dk_at dksL_law_51 0 rfl rfl)
theorem dL_law_1302 : decode cL_law 1302 = .ok (.iadd, 1) := dk_96 (dk_at dksL_law_51 1 rfl rfl)
theorem dL_law_1303 : decode cL_law 1303 = .ok (.iaload, 1) := dk_46 (dk_at dksL_law_51 2 rfl rfl)
theorem dL_law_1304 : decode cL_law 1304 = .ok (.aload_n 3, 1) := dk_45 (dk_at dksL_law_51 3 rfl rfl)
theorem dL_law_1305 : decode cL_law 1305 = .ok (.invokestatic 180, 3) := dk_184 0 180 (dk_at dksL_law_51 4 rfl rfl)
theorem dL_law_1308 : decode cL_law 1308 = .ok (.istore 6, 2) := dk_54 6 (dk_at dksL_law_51 7 rfl rfl)
theorem dL_law_1310 : decode cL_law 1310 = .ok (.aload_n 2, 1) := dk_44 (dk_at dksL_law_51 9 rfl rfl)
theorem dL_law_1311 : decode cL_law 1311 = .ok (.aload_n 0, 1) := dk_42 (dk_at dksL_law_51 10 rfl rfl)
theorem dL_law_1312 : decode cL_law 1312 = .ok (.iload 5, 2) := dk_21 5 (dk_at dksL_law_51 11 rfl rfl)
theorem dL_law_1314 : decode cL_law 1314 = .ok (.iconst 1, 1) := dk_4 (dk_at dksL_law_51 13 rfl rfl)
theorem dL_law_1315 : decode cL_law 1315 = .ok (.iadd, 1) := dk_96 (dk_at dksL_law_51 14 rfl rfl)
theorem dL_law_1316 : decode cL_law 1316 = .ok (.iaload, 1) := dk_46 (dk_at dksL_law_51 15 rfl rfl)
theorem dL_law_1317 : decode cL_law 1317 = .ok (.aload_n 0, 1) := dk_42 (dk_at dksL_law_51 16 rfl rfl)
theorem dL_law_1318 : decode cL_law 1318 = .ok (.iload 5, 2) := dk_21 5 (dk_at dksL_law_51 17 rfl rfl)
theorem dL_law_1320 : decode cL_law 1320 = .ok (.iconst 2, 1) := dk_5 (dk_at dksL_law_51 19 rfl rfl)
theorem dL_law_1321 : decode cL_law 1321 = .ok (.iadd, 1) := dk_96 (dk_at dksL_law_51 20 rfl rfl)
theorem dL_law_1322 : decode cL_law 1322 = .ok (.iaload, 1) := dk_46 (dk_at dksL_law_51 21 rfl rfl)
theorem dL_law_1323 : decode cL_law 1323 = .ok (.aload_n 0, 1) := dk_42 (dk_at dksL_law_51 22 rfl rfl)
theorem dL_law_1324 : decode cL_law 1324 = .ok (.iload 5, 2) := dk_21 5 (dk_at dksL_law_52 0 rfl rfl)
theorem dL_law_1326 : decode cL_law 1326 = .ok (.iconst 3, 1) := dk_6 (dk_at dksL_law_52 2 rfl rfl)
theorem dL_law_1327 : decode cL_law 1327 = .ok (.iadd, 1) := dk_96 (dk_at dksL_law_52 3 rfl rfl)
theorem dL_law_1328 : decode cL_law 1328 = .ok (.iaload, 1) := dk_46 (dk_at dksL_law_52 4 rfl rfl)
theorem dL_law_1329 : decode cL_law 1329 = .ok (.invokevirtual 182, 3) := dk_182 0 182 (dk_at dksL_law_52 5 rfl rfl)
theorem dL_law_1332 : decode cL_law 1332 = .ok (.istore 7, 2) := dk_54 7 (dk_at dksL_law_52 8 rfl rfl)
theorem dL_law_1334 : decode cL_law 1334 = .ok (.aload_n 2, 1) := dk_44 (dk_at dksL_law_52 10 rfl rfl)
theorem dL_law_1335 : decode cL_law 1335 = .ok (.invokevirtual 121, 3) := dk_182 0 121 (dk_at dksL_law_52 11 rfl rfl)
theorem dL_law_1338 : decode cL_law 1338 = .ok (.iload 6, 2) := dk_21 6 (dk_at dksL_law_52 14 rfl rfl)
theorem dL_law_1340 : decode cL_law 1340 = .ok (.if_icmp .eq 5, 3) := dk_159 0 5 (dk_at dksL_law_52 16 rfl rfl)
theorem dL_law_1343 : decode cL_law 1343 = .ok (.iconst 0, 1) := dk_3 (dk_at dksL_law_52 19 rfl rfl)
theorem dL_law_1344 : decode cL_law 1344 = .ok (.ireturn, 1) := dk_172 (dk_at dksL_law_52 20 rfl rfl)
theorem dL_law_1345 : decode cL_law 1345 = .ok (.iload 6, 2) := dk_21 6 (dk_at dksL_law_52 21 rfl rfl)
theorem dL_law_1347 : decode cL_law 1347 = .ok (.ifCond .ne 15, 3) := dk_154 0 15 (dk_at dksL_law_53 0 rfl rfl)
theorem dL_law_1350 : decode cL_law 1350 = .ok (.aload_n 3, 1) := dk_45 (dk_at dksL_law_53 3 rfl rfl)
theorem dL_law_1351 : decode cL_law 1351 = .ok (.iconst 0, 1) := dk_3 (dk_at dksL_law_53 4 rfl rfl)
theorem dL_law_1352 : decode cL_law 1352 = .ok (.laload, 1) := dk_47 (dk_at dksL_law_53 5 rfl rfl)
theorem dL_law_1353 : decode cL_law 1353 = .ok (.iload 7, 2) := dk_21 7 (dk_at dksL_law_53 6 rfl rfl)
theorem dL_law_1355 : decode cL_law 1355 = .ok (.i2l, 1) := dk_133 (dk_at dksL_law_53 8 rfl rfl)
theorem dL_law_1356 : decode cL_law 1356 = .ok (.lcmp, 1) := dk_148 (dk_at dksL_law_53 9 rfl rfl)
theorem dL_law_1357 : decode cL_law 1357 = .ok (.ifCond .eq 5, 3) := dk_153 0 5 (dk_at dksL_law_53 10 rfl rfl)
theorem dL_law_1360 : decode cL_law 1360 = .ok (.iconst 0, 1) := dk_3 (dk_at dksL_law_53 13 rfl rfl)
theorem dL_law_1361 : decode cL_law 1361 = .ok (.ireturn, 1) := dk_172 (dk_at dksL_law_53 14 rfl rfl)
theorem dL_law_1362 : decode cL_law 1362 = .ok (.goto 554, 3) := dk_167 2 42 (dk_at dksL_law_53 15 rfl rfl)
theorem dL_law_1365 : decode cL_law 1365 = .ok (.aload_n 1, 1) := dk_43 (dk_at dksL_law_53 18 rfl rfl)
theorem dL_law_1366 : decode cL_law 1366 = .ok (.aload_n 0, 1) := dk_42 (dk_at dksL_law_53 19 rfl rfl)
theorem dL_law_1367 : decode cL_law 1367 = .ok (.iload 5, 2) := dk_21 5 (dk_at dksL_law_53 20 rfl rfl)
theorem dL_law_1369 : decode cL_law 1369 = .ok (.iconst 1, 1) := dk_4 (dk_at dksL_law_53 22 rfl rfl)
theorem dL_law_1370 : decode cL_law 1370 = .ok (.iadd, 1) := dk_96 (dk_at dksL_law_53 23 rfl rfl)
theorem dL_law_1371 : decode cL_law 1371 = .ok (.iaload, 1) := dk_46 (dk_at dksL_law_54 0 rfl rfl)
theorem dL_law_1372 : decode cL_law 1372 = .ok (.aload_n 0, 1) := dk_42 (dk_at dksL_law_54 1 rfl rfl)
theorem dL_law_1373 : decode cL_law 1373 = .ok (.iload 5, 2) := dk_21 5 (dk_at dksL_law_54 2 rfl rfl)
theorem dL_law_1375 : decode cL_law 1375 = .ok (.iconst 2, 1) := dk_5 (dk_at dksL_law_54 4 rfl rfl)
theorem dL_law_1376 : decode cL_law 1376 = .ok (.iadd, 1) := dk_96 (dk_at dksL_law_54 5 rfl rfl)
theorem dL_law_1377 : decode cL_law 1377 = .ok (.iaload, 1) := dk_46 (dk_at dksL_law_54 6 rfl rfl)
theorem dL_law_1378 : decode cL_law 1378 = .ok (.aload_n 3, 1) := dk_45 (dk_at dksL_law_54 7 rfl rfl)
theorem dL_law_1379 : decode cL_law 1379 = .ok (.invokestatic 183, 3) := dk_184 0 183 (dk_at dksL_law_54 8 rfl rfl)
theorem dL_law_1382 : decode cL_law 1382 = .ok (.istore 6, 2) := dk_54 6 (dk_at dksL_law_54 11 rfl rfl)
theorem dL_law_1384 : decode cL_law 1384 = .ok (.aload_n 2, 1) := dk_44 (dk_at dksL_law_54 13 rfl rfl)
theorem dL_law_1385 : decode cL_law 1385 = .ok (.aload_n 0, 1) := dk_42 (dk_at dksL_law_54 14 rfl rfl)
theorem dL_law_1386 : decode cL_law 1386 = .ok (.iload 5, 2) := dk_21 5 (dk_at dksL_law_54 15 rfl rfl)
theorem dL_law_1388 : decode cL_law 1388 = .ok (.iconst 1, 1) := dk_4 (dk_at dksL_law_54 17 rfl rfl)
theorem dL_law_1389 : decode cL_law 1389 = .ok (.iadd, 1) := dk_96 (dk_at dksL_law_54 18 rfl rfl)
theorem dL_law_1390 : decode cL_law 1390 = .ok (.iaload, 1) := dk_46 (dk_at dksL_law_54 19 rfl rfl)
theorem dL_law_1391 : decode cL_law 1391 = .ok (.aload_n 0, 1) := dk_42 (dk_at dksL_law_54 20 rfl rfl)
theorem dL_law_1392 : decode cL_law 1392 = .ok (.iload 5, 2) := dk_21 5 (dk_at dksL_law_54 21 rfl rfl)
theorem dL_law_1394 : decode cL_law 1394 = .ok (.iconst 2, 1) := dk_5 (dk_at dksL_law_54 23 rfl rfl)
theorem dL_law_1395 : decode cL_law 1395 = .ok (.iadd, 1) := dk_96 (dk_at dksL_law_55 0 rfl rfl)
theorem dL_law_1396 : decode cL_law 1396 = .ok (.iaload, 1) := dk_46 (dk_at dksL_law_55 1 rfl rfl)
theorem dL_law_1397 : decode cL_law 1397 = .ok (.invokevirtual 185, 3) := dk_182 0 185 (dk_at dksL_law_55 2 rfl rfl)
theorem dL_law_1400 : decode cL_law 1400 = .ok (.istore 7, 2) := dk_54 7 (dk_at dksL_law_55 5 rfl rfl)
theorem dL_law_1402 : decode cL_law 1402 = .ok (.aload_n 2, 1) := dk_44 (dk_at dksL_law_55 7 rfl rfl)
theorem dL_law_1403 : decode cL_law 1403 = .ok (.invokevirtual 121, 3) := dk_182 0 121 (dk_at dksL_law_55 8 rfl rfl)
theorem dL_law_1406 : decode cL_law 1406 = .ok (.iload 6, 2) := dk_21 6 (dk_at dksL_law_55 11 rfl rfl)
theorem dL_law_1408 : decode cL_law 1408 = .ok (.if_icmp .eq 5, 3) := dk_159 0 5 (dk_at dksL_law_55 13 rfl rfl)
theorem dL_law_1411 : decode cL_law 1411 = .ok (.iconst 0, 1) := dk_3 (dk_at dksL_law_55 16 rfl rfl)
theorem dL_law_1412 : decode cL_law 1412 = .ok (.ireturn, 1) := dk_172 (dk_at dksL_law_55 17 rfl rfl)
theorem dL_law_1413 : decode cL_law 1413 = .ok (.iload 6, 2) := dk_21 6 (dk_at dksL_law_55 18 rfl rfl)
theorem dL_law_1415 : decode cL_law 1415 = .ok (.ifCond .ne 15, 3) := dk_154 0 15 (dk_at dksL_law_55 20 rfl rfl)
theorem dL_law_1418 : decode cL_law 1418 = .ok (.aload_n 3, 1) := dk_45 (dk_at dksL_law_55 23 rfl rfl)
theorem dL_law_1419 : decode cL_law 1419 = .ok (.iconst 0, 1) := dk_3 (dk_at dksL_law_56 0 rfl rfl)
theorem dL_law_1420 : decode cL_law 1420 = .ok (.laload, 1) := dk_47 (dk_at dksL_law_56 1 rfl rfl)
theorem dL_law_1421 : decode cL_law 1421 = .ok (.iload 7, 2) := dk_21 7 (dk_at dksL_law_56 2 rfl rfl)
theorem dL_law_1423 : decode cL_law 1423 = .ok (.i2l, 1) := dk_133 (dk_at dksL_law_56 4 rfl rfl)
theorem dL_law_1424 : decode cL_law 1424 = .ok (.lcmp, 1) := dk_148 (dk_at dksL_law_56 5 rfl rfl)
theorem dL_law_1425 : decode cL_law 1425 = .ok (.ifCond .eq 5, 3) := dk_153 0 5 (dk_at dksL_law_56 6 rfl rfl)
theorem dL_law_1428 : decode cL_law 1428 = .ok (.iconst 0, 1) := dk_3 (dk_at dksL_law_56 9 rfl rfl)
theorem dL_law_1429 : decode cL_law 1429 = .ok (.ireturn, 1) := dk_172 (dk_at dksL_law_56 10 rfl rfl)
theorem dL_law_1430 : decode cL_law 1430 = .ok (.goto 486, 3) := dk_167 1 230 (dk_at dksL_law_56 11 rfl rfl)
theorem dL_law_1433 : decode cL_law 1433 = .ok (.aload_n 1, 1) := dk_43 (dk_at dksL_law_56 14 rfl rfl)
theorem dL_law_1434 : decode cL_law 1434 = .ok (.aload_n 0, 1) := dk_42 (dk_at dksL_law_56 15 rfl rfl)
theorem dL_law_1435 : decode cL_law 1435 = .ok (.iload 5, 2) := dk_21 5 (dk_at dksL_law_56 16 rfl rfl)
theorem dL_law_1437 : decode cL_law 1437 = .ok (.iconst 1, 1) := dk_4 (dk_at dksL_law_56 18 rfl rfl)
theorem dL_law_1438 : decode cL_law 1438 = .ok (.iadd, 1) := dk_96 (dk_at dksL_law_56 19 rfl rfl)
theorem dL_law_1439 : decode cL_law 1439 = .ok (.iaload, 1) := dk_46 (dk_at dksL_law_56 20 rfl rfl)
theorem dL_law_1440 : decode cL_law 1440 = .ok (.aload_n 3, 1) := dk_45 (dk_at dksL_law_56 21 rfl rfl)
theorem dL_law_1441 : decode cL_law 1441 = .ok (.invokestatic 186, 3) := dk_184 0 186 (dk_at dksL_law_57 0 rfl rfl)
theorem dL_law_1444 : decode cL_law 1444 = .ok (.istore 6, 2) := dk_54 6 (dk_at dksL_law_57 3 rfl rfl)
theorem dL_law_1446 : decode cL_law 1446 = .ok (.aload_n 2, 1) := dk_44 (dk_at dksL_law_57 5 rfl rfl)
theorem dL_law_1447 : decode cL_law 1447 = .ok (.aload_n 0, 1) := dk_42 (dk_at dksL_law_57 6 rfl rfl)
theorem dL_law_1448 : decode cL_law 1448 = .ok (.iload 5, 2) := dk_21 5 (dk_at dksL_law_57 7 rfl rfl)
theorem dL_law_1450 : decode cL_law 1450 = .ok (.iconst 1, 1) := dk_4 (dk_at dksL_law_57 9 rfl rfl)
theorem dL_law_1451 : decode cL_law 1451 = .ok (.iadd, 1) := dk_96 (dk_at dksL_law_57 10 rfl rfl)
theorem dL_law_1452 : decode cL_law 1452 = .ok (.iaload, 1) := dk_46 (dk_at dksL_law_57 11 rfl rfl)
theorem dL_law_1453 : decode cL_law 1453 = .ok (.invokevirtual 188, 3) := dk_182 0 188 (dk_at dksL_law_57 12 rfl rfl)
theorem dL_law_1456 : decode cL_law 1456 = .ok (.istore 7, 2) := dk_54 7 (dk_at dksL_law_57 15 rfl rfl)
theorem dL_law_1458 : decode cL_law 1458 = .ok (.aload_n 2, 1) := dk_44 (dk_at dksL_law_57 17 rfl rfl)
theorem dL_law_1459 : decode cL_law 1459 = .ok (.invokevirtual 121, 3) := dk_182 0 121 (dk_at dksL_law_57 18 rfl rfl)
theorem dL_law_1462 : decode cL_law 1462 = .ok (.iload 6, 2) := dk_21 6 (dk_at dksL_law_57 21 rfl rfl)
theorem dL_law_1464 : decode cL_law 1464 = .ok (.if_icmp .eq 5, 3) := dk_159 0 5 (dk_at dksL_law_58 0 rfl rfl)
theorem dL_law_1467 : decode cL_law 1467 = .ok (.iconst 0, 1) := dk_3 (dk_at dksL_law_58 3 rfl rfl)
theorem dL_law_1468 : decode cL_law 1468 = .ok (.ireturn, 1) := dk_172 (dk_at dksL_law_58 4 rfl rfl)
theorem dL_law_1469 : decode cL_law 1469 = .ok (.iload 6, 2) := dk_21 6 (dk_at dksL_law_58 5 rfl rfl)
theorem dL_law_1471 : decode cL_law 1471 = .ok (.ifCond .ne 15, 3) := dk_154 0 15 (dk_at dksL_law_58 7 rfl rfl)
theorem dL_law_1474 : decode cL_law 1474 = .ok (.aload_n 3, 1) := dk_45 (dk_at dksL_law_58 10 rfl rfl)
theorem dL_law_1475 : decode cL_law 1475 = .ok (.iconst 0, 1) := dk_3 (dk_at dksL_law_58 11 rfl rfl)
theorem dL_law_1476 : decode cL_law 1476 = .ok (.laload, 1) := dk_47 (dk_at dksL_law_58 12 rfl rfl)
theorem dL_law_1477 : decode cL_law 1477 = .ok (.iload 7, 2) := dk_21 7 (dk_at dksL_law_58 13 rfl rfl)
theorem dL_law_1479 : decode cL_law 1479 = .ok (.i2l, 1) := dk_133 (dk_at dksL_law_58 15 rfl rfl)
theorem dL_law_1480 : decode cL_law 1480 = .ok (.lcmp, 1) := dk_148 (dk_at dksL_law_58 16 rfl rfl)
theorem dL_law_1481 : decode cL_law 1481 = .ok (.ifCond .eq 5, 3) := dk_153 0 5 (dk_at dksL_law_58 17 rfl rfl)
theorem dL_law_1484 : decode cL_law 1484 = .ok (.iconst 0, 1) := dk_3 (dk_at dksL_law_58 20 rfl rfl)
theorem dL_law_1485 : decode cL_law 1485 = .ok (.ireturn, 1) := dk_172 (dk_at dksL_law_58 21 rfl rfl)
theorem dL_law_1486 : decode cL_law 1486 = .ok (.goto 430, 3) := dk_167 1 174 (dk_at dksL_law_59 0 rfl rfl)
theorem dL_law_1489 : decode cL_law 1489 = .ok (.aload_n 1, 1) := dk_43 (dk_at dksL_law_59 3 rfl rfl)
theorem dL_law_1490 : decode cL_law 1490 = .ok (.aload 4, 2) := dk_25 4 (dk_at dksL_law_59 4 rfl rfl)
theorem dL_law_1492 : decode cL_law 1492 = .ok (.invokestatic 189, 3) := dk_184 0 189 (dk_at dksL_law_59 6 rfl rfl)
theorem dL_law_1495 : decode cL_law 1495 = .ok (.istore 6, 2) := dk_54 6 (dk_at dksL_law_59 9 rfl rfl)
theorem dL_law_1497 : decode cL_law 1497 = .ok (.aload_n 2, 1) := dk_44 (dk_at dksL_law_59 11 rfl rfl)
theorem dL_law_1498 : decode cL_law 1498 = .ok (.invokevirtual 192, 3) := dk_182 0 192 (dk_at dksL_law_59 12 rfl rfl)
theorem dL_law_1501 : decode cL_law 1501 = .ok (.dstore 7, 2) := dk_57 7 (dk_at dksL_law_59 15 rfl rfl)
theorem dL_law_1503 : decode cL_law 1503 = .ok (.aload_n 2, 1) := dk_44 (dk_at dksL_law_59 17 rfl rfl)
theorem dL_law_1504 : decode cL_law 1504 = .ok (.invokevirtual 121, 3) := dk_182 0 121 (dk_at dksL_law_59 18 rfl rfl)
theorem dL_law_1507 : decode cL_law 1507 = .ok (.iload 6, 2) := dk_21 6 (dk_at dksL_law_59 21 rfl rfl)
theorem dL_law_1509 : decode cL_law 1509 = .ok (.if_icmp .eq 5, 3) := dk_159 0 5 (dk_at dksL_law_60 0 rfl rfl)
theorem dL_law_1512 : decode cL_law 1512 = .ok (.iconst 0, 1) := dk_3 (dk_at dksL_law_60 3 rfl rfl)
theorem dL_law_1513 : decode cL_law 1513 = .ok (.ireturn, 1) := dk_172 (dk_at dksL_law_60 4 rfl rfl)
theorem dL_law_1514 : decode cL_law 1514 = .ok (.iload 6, 2) := dk_21 6 (dk_at dksL_law_60 5 rfl rfl)
theorem dL_law_1516 : decode cL_law 1516 = .ok (.ifCond .ne 35, 3) := dk_154 0 35 (dk_at dksL_law_60 7 rfl rfl)
theorem dL_law_1519 : decode cL_law 1519 = .ok (.aload 4, 2) := dk_25 4 (dk_at dksL_law_60 10 rfl rfl)
theorem dL_law_1521 : decode cL_law 1521 = .ok (.iconst 0, 1) := dk_3 (dk_at dksL_law_60 12 rfl rfl)
theorem dL_law_1522 : decode cL_law 1522 = .ok (.daload, 1) := dk_49 (dk_at dksL_law_60 13 rfl rfl)
theorem dL_law_1523 : decode cL_law 1523 = .ok (.dload 7, 2) := dk_24 7 (dk_at dksL_law_60 14 rfl rfl)
theorem dL_law_1525 : decode cL_law 1525 = .ok (.dcmp .l, 1) := dk_151 (dk_at dksL_law_60 16 rfl rfl)
theorem dL_law_1526 : decode cL_law 1526 = .ok (.ifCond .eq 25, 3) := dk_153 0 25 (dk_at dksL_law_60 17 rfl rfl)
theorem dL_law_1529 : decode cL_law 1529 = .ok (.aload 4, 2) := dk_25 4 (dk_at dksL_law_60 20 rfl rfl)
theorem dL_law_1531 : decode cL_law 1531 = .ok (.iconst 0, 1) := dk_3 (dk_at dksL_law_60 22 rfl rfl)
theorem dL_law_1532 : decode cL_law 1532 = .ok (.daload, 1) := dk_49 (dk_at dksL_law_60 23 rfl rfl)
theorem dL_law_1533 : decode cL_law 1533 = .ok (.aload 4, 2) := dk_25 4 (dk_at dksL_law_61 0 rfl rfl)
theorem dL_law_1535 : decode cL_law 1535 = .ok (.iconst 0, 1) := dk_3 (dk_at dksL_law_61 2 rfl rfl)
theorem dL_law_1536 : decode cL_law 1536 = .ok (.daload, 1) := dk_49 (dk_at dksL_law_61 3 rfl rfl)
theorem dL_law_1537 : decode cL_law 1537 = .ok (.dcmp .l, 1) := dk_151 (dk_at dksL_law_61 4 rfl rfl)
theorem dL_law_1538 : decode cL_law 1538 = .ok (.ifCond .eq 11, 3) := dk_153 0 11 (dk_at dksL_law_61 5 rfl rfl)
theorem dL_law_1541 : decode cL_law 1541 = .ok (.dload 7, 2) := dk_24 7 (dk_at dksL_law_61 8 rfl rfl)
theorem dL_law_1543 : decode cL_law 1543 = .ok (.dload 7, 2) := dk_24 7 (dk_at dksL_law_61 10 rfl rfl)
theorem dL_law_1545 : decode cL_law 1545 = .ok (.dcmp .l, 1) := dk_151 (dk_at dksL_law_61 12 rfl rfl)
theorem dL_law_1546 : decode cL_law 1546 = .ok (.ifCond .ne 5, 3) := dk_154 0 5 (dk_at dksL_law_61 13 rfl rfl)
theorem dL_law_1549 : decode cL_law 1549 = .ok (.iconst 0, 1) := dk_3 (dk_at dksL_law_61 16 rfl rfl)
theorem dL_law_1550 : decode cL_law 1550 = .ok (.ireturn, 1) := dk_172 (dk_at dksL_law_61 17 rfl rfl)
theorem dL_law_1551 : decode cL_law 1551 = .ok (.goto 365, 3) := dk_167 1 109 (dk_at dksL_law_61 18 rfl rfl)
theorem dL_law_1554 : decode cL_law 1554 = .ok (.aload_n 1, 1) := dk_43 (dk_at dksL_law_61 21 rfl rfl)
theorem dL_law_1555 : decode cL_law 1555 = .ok (.invokevirtual 193, 3) := dk_182 0 193 (dk_at dksL_law_62 0 rfl rfl)
theorem dL_law_1558 : decode cL_law 1558 = .ok (.f2d, 1) := dk_141 (dk_at dksL_law_62 3 rfl rfl)
theorem dL_law_1559 : decode cL_law 1559 = .ok (.dstore 6, 2) := dk_57 6 (dk_at dksL_law_62 4 rfl rfl)
theorem dL_law_1561 : decode cL_law 1561 = .ok (.aload_n 2, 1) := dk_44 (dk_at dksL_law_62 6 rfl rfl)
theorem dL_law_1562 : decode cL_law 1562 = .ok (.invokevirtual 197, 3) := dk_182 0 197 (dk_at dksL_law_62 7 rfl rfl)
theorem dL_law_1565 : decode cL_law 1565 = .ok (.f2d, 1) := dk_141 (dk_at dksL_law_62 10 rfl rfl)
theorem dL_law_1566 : decode cL_law 1566 = .ok (.dstore 8, 2) := dk_57 8 (dk_at dksL_law_62 11 rfl rfl)
theorem dL_law_1568 : decode cL_law 1568 = .ok (.dload 6, 2) := dk_24 6 (dk_at dksL_law_62 13 rfl rfl)
theorem dL_law_1570 : decode cL_law 1570 = .ok (.dload 8, 2) := dk_24 8 (dk_at dksL_law_62 15 rfl rfl)
theorem dL_law_1572 : decode cL_law 1572 = .ok (.dcmp .l, 1) := dk_151 (dk_at dksL_law_62 17 rfl rfl)
theorem dL_law_1573 : decode cL_law 1573 = .ok (.ifCond .eq 21, 3) := dk_153 0 21 (dk_at dksL_law_62 18 rfl rfl)
theorem dL_law_1576 : decode cL_law 1576 = .ok (.dload 6, 2) := dk_24 6 (dk_at dksL_law_62 21 rfl rfl)
theorem dL_law_1578 : decode cL_law 1578 = .ok (.dload 6, 2) := dk_24 6 (dk_at dksL_law_63 0 rfl rfl)
theorem dL_law_1580 : decode cL_law 1580 = .ok (.dcmp .l, 1) := dk_151 (dk_at dksL_law_63 2 rfl rfl)
theorem dL_law_1581 : decode cL_law 1581 = .ok (.ifCond .eq 11, 3) := dk_153 0 11 (dk_at dksL_law_63 3 rfl rfl)
theorem dL_law_1584 : decode cL_law 1584 = .ok (.dload 8, 2) := dk_24 8 (dk_at dksL_law_63 6 rfl rfl)
theorem dL_law_1586 : decode cL_law 1586 = .ok (.dload 8, 2) := dk_24 8 (dk_at dksL_law_63 8 rfl rfl)
theorem dL_law_1588 : decode cL_law 1588 = .ok (.dcmp .l, 1) := dk_151 (dk_at dksL_law_63 10 rfl rfl)
theorem dL_law_1589 : decode cL_law 1589 = .ok (.ifCond .ne 5, 3) := dk_154 0 5 (dk_at dksL_law_63 11 rfl rfl)
theorem dL_law_1592 : decode cL_law 1592 = .ok (.iconst 0, 1) := dk_3 (dk_at dksL_law_63 14 rfl rfl)
theorem dL_law_1593 : decode cL_law 1593 = .ok (.ireturn, 1) := dk_172 (dk_at dksL_law_63 15 rfl rfl)
theorem dL_law_1594 : decode cL_law 1594 = .ok (.goto 322, 3) := dk_167 1 66 (dk_at dksL_law_63 16 rfl rfl)
theorem dL_law_1597 : decode cL_law 1597 = .ok (.aload_n 1, 1) := dk_43 (dk_at dksL_law_63 19 rfl rfl)
theorem dL_law_1598 : decode cL_law 1598 = .ok (.aload_n 0, 1) := dk_42 (dk_at dksL_law_63 20 rfl rfl)
theorem dL_law_1599 : decode cL_law 1599 = .ok (.iload 5, 2) := dk_21 5 (dk_at dksL_law_63 21 rfl rfl)
theorem dL_law_1601 : decode cL_law 1601 = .ok (.iconst 1, 1) := dk_4 (dk_at dksL_law_63 23 rfl rfl)
theorem dL_law_1602 : decode cL_law 1602 = .ok (.iadd, 1) := dk_96 (dk_at dksL_law_64 0 rfl rfl)
theorem dL_law_1603 : decode cL_law 1603 = .ok (.iaload, 1) := dk_46 (dk_at dksL_law_64 1 rfl rfl)
theorem dL_law_1604 : decode cL_law 1604 = .ok (.i2c, 1) := dk_146 (dk_at dksL_law_64 2 rfl rfl)
theorem dL_law_1605 : decode cL_law 1605 = .ok (.aload_n 3, 1) := dk_45 (dk_at dksL_law_64 3 rfl rfl)
theorem dL_law_1606 : decode cL_law 1606 = .ok (.invokestatic 198, 3) := dk_184 0 198 (dk_at dksL_law_64 4 rfl rfl)
theorem dL_law_1609 : decode cL_law 1609 = .ok (.istore 6, 2) := dk_54 6 (dk_at dksL_law_64 7 rfl rfl)
theorem dL_law_1611 : decode cL_law 1611 = .ok (.aload_n 2, 1) := dk_44 (dk_at dksL_law_64 9 rfl rfl)
theorem dL_law_1612 : decode cL_law 1612 = .ok (.aload_n 0, 1) := dk_42 (dk_at dksL_law_64 10 rfl rfl)
theorem dL_law_1613 : decode cL_law 1613 = .ok (.iload 5, 2) := dk_21 5 (dk_at dksL_law_64 11 rfl rfl)
theorem dL_law_1615 : decode cL_law 1615 = .ok (.iconst 1, 1) := dk_4 (dk_at dksL_law_64 13 rfl rfl)
theorem dL_law_1616 : decode cL_law 1616 = .ok (.iadd, 1) := dk_96 (dk_at dksL_law_64 14 rfl rfl)
theorem dL_law_1617 : decode cL_law 1617 = .ok (.iaload, 1) := dk_46 (dk_at dksL_law_64 15 rfl rfl)
theorem dL_law_1618 : decode cL_law 1618 = .ok (.i2c, 1) := dk_146 (dk_at dksL_law_64 16 rfl rfl)
theorem dL_law_1619 : decode cL_law 1619 = .ok (.invokevirtual 201, 3) := dk_182 0 201 (dk_at dksL_law_64 17 rfl rfl)
theorem dL_law_1622 : decode cL_law 1622 = .ok (.istore 7, 2) := dk_54 7 (dk_at dksL_law_64 20 rfl rfl)
theorem dL_law_1624 : decode cL_law 1624 = .ok (.aload_n 2, 1) := dk_44 (dk_at dksL_law_64 22 rfl rfl)
theorem dL_law_1625 : decode cL_law 1625 = .ok (.invokevirtual 121, 3) := dk_182 0 121 (dk_at dksL_law_65 0 rfl rfl)
theorem dL_law_1628 : decode cL_law 1628 = .ok (.iload 6, 2) := dk_21 6 (dk_at dksL_law_65 3 rfl rfl)
theorem dL_law_1630 : decode cL_law 1630 = .ok (.if_icmp .eq 5, 3) := dk_159 0 5 (dk_at dksL_law_65 5 rfl rfl)
theorem dL_law_1633 : decode cL_law 1633 = .ok (.iconst 0, 1) := dk_3 (dk_at dksL_law_65 8 rfl rfl)
theorem dL_law_1634 : decode cL_law 1634 = .ok (.ireturn, 1) := dk_172 (dk_at dksL_law_65 9 rfl rfl)
theorem dL_law_1635 : decode cL_law 1635 = .ok (.iload 6, 2) := dk_21 6 (dk_at dksL_law_65 10 rfl rfl)
theorem dL_law_1637 : decode cL_law 1637 = .ok (.ifCond .ne 15, 3) := dk_154 0 15 (dk_at dksL_law_65 12 rfl rfl)
theorem dL_law_1640 : decode cL_law 1640 = .ok (.aload_n 3, 1) := dk_45 (dk_at dksL_law_65 15 rfl rfl)
theorem dL_law_1641 : decode cL_law 1641 = .ok (.iconst 0, 1) := dk_3 (dk_at dksL_law_65 16 rfl rfl)
theorem dL_law_1642 : decode cL_law 1642 = .ok (.laload, 1) := dk_47 (dk_at dksL_law_65 17 rfl rfl)
theorem dL_law_1643 : decode cL_law 1643 = .ok (.iload 7, 2) := dk_21 7 (dk_at dksL_law_65 18 rfl rfl)
theorem dL_law_1645 : decode cL_law 1645 = .ok (.i2l, 1) := dk_133 (dk_at dksL_law_65 20 rfl rfl)
theorem dL_law_1646 : decode cL_law 1646 = .ok (.lcmp, 1) := dk_148 (dk_at dksL_law_65 21 rfl rfl)
theorem dL_law_1647 : decode cL_law 1647 = .ok (.ifCond .eq 5, 3) := dk_153 0 5 (dk_at dksL_law_66 0 rfl rfl)
theorem dL_law_1650 : decode cL_law 1650 = .ok (.iconst 0, 1) := dk_3 (dk_at dksL_law_66 3 rfl rfl)
theorem dL_law_1651 : decode cL_law 1651 = .ok (.ireturn, 1) := dk_172 (dk_at dksL_law_66 4 rfl rfl)
theorem dL_law_1652 : decode cL_law 1652 = .ok (.goto 264, 3) := dk_167 1 8 (dk_at dksL_law_66 5 rfl rfl)
theorem dL_law_1655 : decode cL_law 1655 = .ok (.aload_n 1, 1) := dk_43 (dk_at dksL_law_66 8 rfl rfl)
theorem dL_law_1656 : decode cL_law 1656 = .ok (.aload_n 3, 1) := dk_45 (dk_at dksL_law_66 9 rfl rfl)
theorem dL_law_1657 : decode cL_law 1657 = .ok (.invokestatic 202, 3) := dk_184 0 202 (dk_at dksL_law_66 10 rfl rfl)
theorem dL_law_1660 : decode cL_law 1660 = .ok (.istore 6, 2) := dk_54 6 (dk_at dksL_law_66 13 rfl rfl)
theorem dL_law_1662 : decode cL_law 1662 = .ok (.aload_n 2, 1) := dk_44 (dk_at dksL_law_66 15 rfl rfl)
theorem dL_law_1663 : decode cL_law 1663 = .ok (.invokevirtual 205, 3) := dk_182 0 205 (dk_at dksL_law_66 16 rfl rfl)
theorem dL_law_1666 : decode cL_law 1666 = .ok (.istore 7, 2) := dk_54 7 (dk_at dksL_law_66 19 rfl rfl)
theorem dL_law_1668 : decode cL_law 1668 = .ok (.aload_n 2, 1) := dk_44 (dk_at dksL_law_66 21 rfl rfl)
theorem dL_law_1669 : decode cL_law 1669 = .ok (.invokevirtual 121, 3) := dk_182 0 121 (dk_at dksL_law_67 0 rfl rfl)
theorem dL_law_1672 : decode cL_law 1672 = .ok (.iload 6, 2) := dk_21 6 (dk_at dksL_law_67 3 rfl rfl)
theorem dL_law_1674 : decode cL_law 1674 = .ok (.if_icmp .eq 5, 3) := dk_159 0 5 (dk_at dksL_law_67 5 rfl rfl)
theorem dL_law_1677 : decode cL_law 1677 = .ok (.iconst 0, 1) := dk_3 (dk_at dksL_law_67 8 rfl rfl)
theorem dL_law_1678 : decode cL_law 1678 = .ok (.ireturn, 1) := dk_172 (dk_at dksL_law_67 9 rfl rfl)
theorem dL_law_1679 : decode cL_law 1679 = .ok (.iload 6, 2) := dk_21 6 (dk_at dksL_law_67 10 rfl rfl)
theorem dL_law_1681 : decode cL_law 1681 = .ok (.ifCond .ne 15, 3) := dk_154 0 15 (dk_at dksL_law_67 12 rfl rfl)
theorem dL_law_1684 : decode cL_law 1684 = .ok (.aload_n 3, 1) := dk_45 (dk_at dksL_law_67 15 rfl rfl)
theorem dL_law_1685 : decode cL_law 1685 = .ok (.iconst 0, 1) := dk_3 (dk_at dksL_law_67 16 rfl rfl)
theorem dL_law_1686 : decode cL_law 1686 = .ok (.laload, 1) := dk_47 (dk_at dksL_law_67 17 rfl rfl)
theorem dL_law_1687 : decode cL_law 1687 = .ok (.iload 7, 2) := dk_21 7 (dk_at dksL_law_67 18 rfl rfl)
theorem dL_law_1689 : decode cL_law 1689 = .ok (.i2l, 1) := dk_133 (dk_at dksL_law_67 20 rfl rfl)
theorem dL_law_1690 : decode cL_law 1690 = .ok (.lcmp, 1) := dk_148 (dk_at dksL_law_67 21 rfl rfl)
theorem dL_law_1691 : decode cL_law 1691 = .ok (.ifCond .eq 5, 3) := dk_153 0 5 (dk_at dksL_law_68 0 rfl rfl)
theorem dL_law_1694 : decode cL_law 1694 = .ok (.iconst 0, 1) := dk_3 (dk_at dksL_law_68 3 rfl rfl)
theorem dL_law_1695 : decode cL_law 1695 = .ok (.ireturn, 1) := dk_172 (dk_at dksL_law_68 4 rfl rfl)
theorem dL_law_1696 : decode cL_law 1696 = .ok (.goto 220, 3) := dk_167 0 220 (dk_at dksL_law_68 5 rfl rfl)
theorem dL_law_1699 : decode cL_law 1699 = .ok (.aload_n 1, 1) := dk_43 (dk_at dksL_law_68 8 rfl rfl)
theorem dL_law_1700 : decode cL_law 1700 = .ok (.aload_n 3, 1) := dk_45 (dk_at dksL_law_68 9 rfl rfl)
theorem dL_law_1701 : decode cL_law 1701 = .ok (.invokestatic 206, 3) := dk_184 0 206 (dk_at dksL_law_68 10 rfl rfl)
theorem dL_law_1704 : decode cL_law 1704 = .ok (.istore 6, 2) := dk_54 6 (dk_at dksL_law_68 13 rfl rfl)
theorem dL_law_1706 : decode cL_law 1706 = .ok (.aload_n 2, 1) := dk_44 (dk_at dksL_law_68 15 rfl rfl)
theorem dL_law_1707 : decode cL_law 1707 = .ok (.invokevirtual 208, 3) := dk_182 0 208 (dk_at dksL_law_68 16 rfl rfl)
theorem dL_law_1710 : decode cL_law 1710 = .ok (.istore 7, 2) := dk_54 7 (dk_at dksL_law_68 19 rfl rfl)
theorem dL_law_1712 : decode cL_law 1712 = .ok (.aload_n 2, 1) := dk_44 (dk_at dksL_law_68 21 rfl rfl)
theorem dL_law_1713 : decode cL_law 1713 = .ok (.invokevirtual 121, 3) := dk_182 0 121 (dk_at dksL_law_69 0 rfl rfl)
theorem dL_law_1716 : decode cL_law 1716 = .ok (.iload 6, 2) := dk_21 6 (dk_at dksL_law_69 3 rfl rfl)
theorem dL_law_1718 : decode cL_law 1718 = .ok (.if_icmp .eq 5, 3) := dk_159 0 5 (dk_at dksL_law_69 5 rfl rfl)
theorem dL_law_1721 : decode cL_law 1721 = .ok (.iconst 0, 1) := dk_3 (dk_at dksL_law_69 8 rfl rfl)
theorem dL_law_1722 : decode cL_law 1722 = .ok (.ireturn, 1) := dk_172 (dk_at dksL_law_69 9 rfl rfl)
theorem dL_law_1723 : decode cL_law 1723 = .ok (.iload 6, 2) := dk_21 6 (dk_at dksL_law_69 10 rfl rfl)
theorem dL_law_1725 : decode cL_law 1725 = .ok (.ifCond .ne 15, 3) := dk_154 0 15 (dk_at dksL_law_69 12 rfl rfl)
theorem dL_law_1728 : decode cL_law 1728 = .ok (.aload_n 3, 1) := dk_45 (dk_at dksL_law_69 15 rfl rfl)
theorem dL_law_1729 : decode cL_law 1729 = .ok (.iconst 0, 1) := dk_3 (dk_at dksL_law_69 16 rfl rfl)
theorem dL_law_1730 : decode cL_law 1730 = .ok (.laload, 1) := dk_47 (dk_at dksL_law_69 17 rfl rfl)
theorem dL_law_1731 : decode cL_law 1731 = .ok (.iload 7, 2) := dk_21 7 (dk_at dksL_law_69 18 rfl rfl)
theorem dL_law_1733 : decode cL_law 1733 = .ok (.i2l, 1) := dk_133 (dk_at dksL_law_69 20 rfl rfl)
theorem dL_law_1734 : decode cL_law 1734 = .ok (.lcmp, 1) := dk_148 (dk_at dksL_law_69 21 rfl rfl)
theorem dL_law_1735 : decode cL_law 1735 = .ok (.ifCond .eq 5, 3) := dk_153 0 5 (dk_at dksL_law_70 0 rfl rfl)
theorem dL_law_1738 : decode cL_law 1738 = .ok (.iconst 0, 1) := dk_3 (dk_at dksL_law_70 3 rfl rfl)
theorem dL_law_1739 : decode cL_law 1739 = .ok (.ireturn, 1) := dk_172 (dk_at dksL_law_70 4 rfl rfl)
theorem dL_law_1740 : decode cL_law 1740 = .ok (.goto 176, 3) := dk_167 0 176 (dk_at dksL_law_70 5 rfl rfl)
theorem dL_law_1743 : decode cL_law 1743 = .ok (.aload_n 1, 1) := dk_43 (dk_at dksL_law_70 8 rfl rfl)
theorem dL_law_1744 : decode cL_law 1744 = .ok (.aload_n 0, 1) := dk_42 (dk_at dksL_law_70 9 rfl rfl)
theorem dL_law_1745 : decode cL_law 1745 = .ok (.iload 5, 2) := dk_21 5 (dk_at dksL_law_70 10 rfl rfl)
theorem dL_law_1747 : decode cL_law 1747 = .ok (.iconst 1, 1) := dk_4 (dk_at dksL_law_70 12 rfl rfl)
theorem dL_law_1748 : decode cL_law 1748 = .ok (.iadd, 1) := dk_96 (dk_at dksL_law_70 13 rfl rfl)
theorem dL_law_1749 : decode cL_law 1749 = .ok (.iaload, 1) := dk_46 (dk_at dksL_law_70 14 rfl rfl)
theorem dL_law_1750 : decode cL_law 1750 = .ok (.ifCond .eq 7, 3) := dk_153 0 7 (dk_at dksL_law_70 15 rfl rfl)
theorem dL_law_1753 : decode cL_law 1753 = .ok (.iconst 1, 1) := dk_4 (dk_at dksL_law_70 18 rfl rfl)
theorem dL_law_1754 : decode cL_law 1754 = .ok (.goto 4, 3) := dk_167 0 4 (dk_at dksL_law_70 19 rfl rfl)
theorem dL_law_1757 : decode cL_law 1757 = .ok (.iconst 0, 1) := dk_3 (dk_at dksL_law_70 22 rfl rfl)
theorem dL_law_1758 : decode cL_law 1758 = .ok (.aload_n 3, 1) := dk_45 (dk_at dksL_law_70 23 rfl rfl)
theorem dL_law_1759 : decode cL_law 1759 = .ok (.invokestatic 209, 3) := dk_184 0 209 (dk_at dksL_law_71 0 rfl rfl)
theorem dL_law_1762 : decode cL_law 1762 = .ok (.istore 6, 2) := dk_54 6 (dk_at dksL_law_71 3 rfl rfl)
theorem dL_law_1764 : decode cL_law 1764 = .ok (.aload_n 2, 1) := dk_44 (dk_at dksL_law_71 5 rfl rfl)
theorem dL_law_1765 : decode cL_law 1765 = .ok (.aload_n 0, 1) := dk_42 (dk_at dksL_law_71 6 rfl rfl)
theorem dL_law_1766 : decode cL_law 1766 = .ok (.iload 5, 2) := dk_21 5 (dk_at dksL_law_71 7 rfl rfl)
theorem dL_law_1768 : decode cL_law 1768 = .ok (.iconst 1, 1) := dk_4 (dk_at dksL_law_71 9 rfl rfl)
theorem dL_law_1769 : decode cL_law 1769 = .ok (.iadd, 1) := dk_96 (dk_at dksL_law_71 10 rfl rfl)
theorem dL_law_1770 : decode cL_law 1770 = .ok (.iaload, 1) := dk_46 (dk_at dksL_law_71 11 rfl rfl)
theorem dL_law_1771 : decode cL_law 1771 = .ok (.ifCond .eq 7, 3) := dk_153 0 7 (dk_at dksL_law_71 12 rfl rfl)
theorem dL_law_1774 : decode cL_law 1774 = .ok (.iconst 1, 1) := dk_4 (dk_at dksL_law_71 15 rfl rfl)
theorem dL_law_1775 : decode cL_law 1775 = .ok (.goto 4, 3) := dk_167 0 4 (dk_at dksL_law_71 16 rfl rfl)
theorem dL_law_1778 : decode cL_law 1778 = .ok (.iconst 0, 1) := dk_3 (dk_at dksL_law_71 19 rfl rfl)
theorem dL_law_1779 : decode cL_law 1779 = .ok (.invokevirtual 212, 3) := dk_182 0 212 (dk_at dksL_law_71 20 rfl rfl)
theorem dL_law_1782 : decode cL_law 1782 = .ok (.istore 7, 2) := dk_54 7 (dk_at dksL_law_72 0 rfl rfl)
theorem dL_law_1784 : decode cL_law 1784 = .ok (.aload_n 2, 1) := dk_44 (dk_at dksL_law_72 2 rfl rfl)
theorem dL_law_1785 : decode cL_law 1785 = .ok (.invokevirtual 121, 3) := dk_182 0 121 (dk_at dksL_law_72 3 rfl rfl)
theorem dL_law_1788 : decode cL_law 1788 = .ok (.iload 6, 2) := dk_21 6 (dk_at dksL_law_72 6 rfl rfl)
theorem dL_law_1790 : decode cL_law 1790 = .ok (.if_icmp .eq 5, 3) := dk_159 0 5 (dk_at dksL_law_72 8 rfl rfl)
theorem dL_law_1793 : decode cL_law 1793 = .ok (.iconst 0, 1) := dk_3 (dk_at dksL_law_72 11 rfl rfl)
theorem dL_law_1794 : decode cL_law 1794 = .ok (.ireturn, 1) := dk_172 (dk_at dksL_law_72 12 rfl rfl)
theorem dL_law_1795 : decode cL_law 1795 = .ok (.iload 6, 2) := dk_21 6 (dk_at dksL_law_72 13 rfl rfl)
theorem dL_law_1797 : decode cL_law 1797 = .ok (.ifCond .ne 15, 3) := dk_154 0 15 (dk_at dksL_law_72 15 rfl rfl)
theorem dL_law_1800 : decode cL_law 1800 = .ok (.aload_n 3, 1) := dk_45 (dk_at dksL_law_72 18 rfl rfl)
theorem dL_law_1801 : decode cL_law 1801 = .ok (.iconst 0, 1) := dk_3 (dk_at dksL_law_72 19 rfl rfl)
theorem dL_law_1802 : decode cL_law 1802 = .ok (.laload, 1) := dk_47 (dk_at dksL_law_72 20 rfl rfl)
theorem dL_law_1803 : decode cL_law 1803 = .ok (.iload 7, 2) := dk_21 7 (dk_at dksL_law_72 21 rfl rfl)
theorem dL_law_1805 : decode cL_law 1805 = .ok (.i2l, 1) := dk_133 (dk_at dksL_law_72 23 rfl rfl)
theorem dL_law_1806 : decode cL_law 1806 = .ok (.lcmp, 1) := dk_148 (dk_at dksL_law_73 0 rfl rfl)
theorem dL_law_1807 : decode cL_law 1807 = .ok (.ifCond .eq 5, 3) := dk_153 0 5 (dk_at dksL_law_73 1 rfl rfl)
theorem dL_law_1810 : decode cL_law 1810 = .ok (.iconst 0, 1) := dk_3 (dk_at dksL_law_73 4 rfl rfl)
theorem dL_law_1811 : decode cL_law 1811 = .ok (.ireturn, 1) := dk_172 (dk_at dksL_law_73 5 rfl rfl)
theorem dL_law_1812 : decode cL_law 1812 = .ok (.goto 104, 3) := dk_167 0 104 (dk_at dksL_law_73 6 rfl rfl)
theorem dL_law_1815 : decode cL_law 1815 = .ok (.aload_n 1, 1) := dk_43 (dk_at dksL_law_73 9 rfl rfl)
theorem dL_law_1816 : decode cL_law 1816 = .ok (.aload_n 3, 1) := dk_45 (dk_at dksL_law_73 10 rfl rfl)
theorem dL_law_1817 : decode cL_law 1817 = .ok (.invokestatic 213, 3) := dk_184 0 213 (dk_at dksL_law_73 11 rfl rfl)
theorem dL_law_1820 : decode cL_law 1820 = .ok (.istore 6, 2) := dk_54 6 (dk_at dksL_law_73 14 rfl rfl)
theorem dL_law_1822 : decode cL_law 1822 = .ok (.aload_n 2, 1) := dk_44 (dk_at dksL_law_73 16 rfl rfl)
theorem dL_law_1823 : decode cL_law 1823 = .ok (.invokevirtual 215, 3) := dk_182 0 215 (dk_at dksL_law_73 17 rfl rfl)
theorem dL_law_1826 : decode cL_law 1826 = .ok (.istore 7, 2) := dk_54 7 (dk_at dksL_law_73 20 rfl rfl)
theorem dL_law_1828 : decode cL_law 1828 = .ok (.aload_n 2, 1) := dk_44 (dk_at dksL_law_73 22 rfl rfl)
theorem dL_law_1829 : decode cL_law 1829 = .ok (.invokevirtual 121, 3) := dk_182 0 121 (dk_at dksL_law_74 0 rfl rfl)
theorem dL_law_1832 : decode cL_law 1832 = .ok (.iload 6, 2) := dk_21 6 (dk_at dksL_law_74 3 rfl rfl)
theorem dL_law_1834 : decode cL_law 1834 = .ok (.if_icmp .eq 5, 3) := dk_159 0 5 (dk_at dksL_law_74 5 rfl rfl)
theorem dL_law_1837 : decode cL_law 1837 = .ok (.iconst 0, 1) := dk_3 (dk_at dksL_law_74 8 rfl rfl)
theorem dL_law_1838 : decode cL_law 1838 = .ok (.ireturn, 1) := dk_172 (dk_at dksL_law_74 9 rfl rfl)
theorem dL_law_1839 : decode cL_law 1839 = .ok (.iload 6, 2) := dk_21 6 (dk_at dksL_law_74 10 rfl rfl)
theorem dL_law_1841 : decode cL_law 1841 = .ok (.ifCond .ne 15, 3) := dk_154 0 15 (dk_at dksL_law_74 12 rfl rfl)
theorem dL_law_1844 : decode cL_law 1844 = .ok (.aload_n 3, 1) := dk_45 (dk_at dksL_law_74 15 rfl rfl)
theorem dL_law_1845 : decode cL_law 1845 = .ok (.iconst 0, 1) := dk_3 (dk_at dksL_law_74 16 rfl rfl)
theorem dL_law_1846 : decode cL_law 1846 = .ok (.laload, 1) := dk_47 (dk_at dksL_law_74 17 rfl rfl)
theorem dL_law_1847 : decode cL_law 1847 = .ok (.iload 7, 2) := dk_21 7 (dk_at dksL_law_74 18 rfl rfl)
theorem dL_law_1849 : decode cL_law 1849 = .ok (.i2l, 1) := dk_133 (dk_at dksL_law_74 20 rfl rfl)
theorem dL_law_1850 : decode cL_law 1850 = .ok (.lcmp, 1) := dk_148 (dk_at dksL_law_74 21 rfl rfl)
theorem dL_law_1851 : decode cL_law 1851 = .ok (.ifCond .eq 5, 3) := dk_153 0 5 (dk_at dksL_law_75 0 rfl rfl)
theorem dL_law_1854 : decode cL_law 1854 = .ok (.iconst 0, 1) := dk_3 (dk_at dksL_law_75 3 rfl rfl)
theorem dL_law_1855 : decode cL_law 1855 = .ok (.ireturn, 1) := dk_172 (dk_at dksL_law_75 4 rfl rfl)
theorem dL_law_1856 : decode cL_law 1856 = .ok (.goto 60, 3) := dk_167 0 60 (dk_at dksL_law_75 5 rfl rfl)
theorem dL_law_1859 : decode cL_law 1859 = .ok (.aload_n 1, 1) := dk_43 (dk_at dksL_law_75 8 rfl rfl)
theorem dL_law_1860 : decode cL_law 1860 = .ok (.invokevirtual 216, 3) := dk_182 0 216 (dk_at dksL_law_75 9 rfl rfl)
theorem dL_law_1863 : decode cL_law 1863 = .ok (.aload_n 2, 1) := dk_44 (dk_at dksL_law_75 12 rfl rfl)
theorem dL_law_1864 : decode cL_law 1864 = .ok (.invokevirtual 219, 3) := dk_182 0 219 (dk_at dksL_law_75 13 rfl rfl)
theorem dL_law_1867 : decode cL_law 1867 = .ok (.if_icmp .eq 49, 3) := dk_159 0 49 (dk_at dksL_law_75 16 rfl rfl)
theorem dL_law_1870 : decode cL_law 1870 = .ok (.iconst 0, 1) := dk_3 (dk_at dksL_law_75 19 rfl rfl)
theorem dL_law_1871 : decode cL_law 1871 = .ok (.ireturn, 1) := dk_172 (dk_at dksL_law_75 20 rfl rfl)
theorem dL_law_1872 : decode cL_law 1872 = .ok (.aload_n 1, 1) := dk_43 (dk_at dksL_law_75 21 rfl rfl)
theorem dL_law_1873 : decode cL_law 1873 = .ok (.aload_n 3, 1) := dk_45 (dk_at dksL_law_75 22 rfl rfl)
theorem dL_law_1874 : decode cL_law 1874 = .ok (.invokestatic 220, 3) := dk_184 0 220 (dk_at dksL_law_76 0 rfl rfl)
theorem dL_law_1877 : decode cL_law 1877 = .ok (.istore 6, 2) := dk_54 6 (dk_at dksL_law_76 3 rfl rfl)
theorem dL_law_1879 : decode cL_law 1879 = .ok (.aload_n 2, 1) := dk_44 (dk_at dksL_law_76 5 rfl rfl)
theorem dL_law_1880 : decode cL_law 1880 = .ok (.invokevirtual 222, 3) := dk_182 0 222 (dk_at dksL_law_76 6 rfl rfl)
theorem dL_law_1883 : decode cL_law 1883 = .ok (.istore 7, 2) := dk_54 7 (dk_at dksL_law_76 9 rfl rfl)
theorem dL_law_1885 : decode cL_law 1885 = .ok (.aload_n 2, 1) := dk_44 (dk_at dksL_law_76 11 rfl rfl)
theorem dL_law_1886 : decode cL_law 1886 = .ok (.invokevirtual 121, 3) := dk_182 0 121 (dk_at dksL_law_76 12 rfl rfl)
theorem dL_law_1889 : decode cL_law 1889 = .ok (.iload 6, 2) := dk_21 6 (dk_at dksL_law_76 15 rfl rfl)
theorem dL_law_1891 : decode cL_law 1891 = .ok (.if_icmp .eq 5, 3) := dk_159 0 5 (dk_at dksL_law_76 17 rfl rfl)
theorem dL_law_1894 : decode cL_law 1894 = .ok (.iconst 0, 1) := dk_3 (dk_at dksL_law_76 20 rfl rfl)
theorem dL_law_1895 : decode cL_law 1895 = .ok (.ireturn, 1) := dk_172 (dk_at dksL_law_76 21 rfl rfl)
theorem dL_law_1896 : decode cL_law 1896 = .ok (.iload 6, 2) := dk_21 6 (dk_at dksL_law_76 22 rfl rfl)
theorem dL_law_1898 : decode cL_law 1898 = .ok (.ifCond .ne 15, 3) := dk_154 0 15 (dk_at dksL_law_77 0 rfl rfl)
theorem dL_law_1901 : decode cL_law 1901 = .ok (.aload_n 3, 1) := dk_45 (dk_at dksL_law_77 3 rfl rfl)
theorem dL_law_1902 : decode cL_law 1902 = .ok (.iconst 0, 1) := dk_3 (dk_at dksL_law_77 4 rfl rfl)
theorem dL_law_1903 : decode cL_law 1903 = .ok (.laload, 1) := dk_47 (dk_at dksL_law_77 5 rfl rfl)
theorem dL_law_1904 : decode cL_law 1904 = .ok (.iload 7, 2) := dk_21 7 (dk_at dksL_law_77 6 rfl rfl)
theorem dL_law_1906 : decode cL_law 1906 = .ok (.i2l, 1) := dk_133 (dk_at dksL_law_77 8 rfl rfl)
theorem dL_law_1907 : decode cL_law 1907 = .ok (.lcmp, 1) := dk_148 (dk_at dksL_law_77 9 rfl rfl)
theorem dL_law_1908 : decode cL_law 1908 = .ok (.ifCond .eq 5, 3) := dk_153 0 5 (dk_at dksL_law_77 10 rfl rfl)
theorem dL_law_1911 : decode cL_law 1911 = .ok (.iconst 0, 1) := dk_3 (dk_at dksL_law_77 13 rfl rfl)
theorem dL_law_1912 : decode cL_law 1912 = .ok (.ireturn, 1) := dk_172 (dk_at dksL_law_77 14 rfl rfl)
theorem dL_law_1913 : decode cL_law 1913 = .ok (.goto 3, 3) := dk_167 0 3 (dk_at dksL_law_77 15 rfl rfl)
theorem dL_law_1916 : decode cL_law 1916 = .ok (.iinc 5 4, 3) := dk_132 5 4 (dk_at dksL_law_77 18 rfl rfl)
theorem dL_law_1919 : decode cL_law 1919 = .ok (.goto (-1891), 3) := dk_167 248 157 (dk_at dksL_law_77 21 rfl rfl)
theorem dL_law_1922 : decode cL_law 1922 = .ok (.iconst 1, 1) := dk_4 (dk_at dksL_law_78 0 rfl rfl)
theorem dL_law_1923 : decode cL_law 1923 = .ok (.ireturn, 1) := dk_172 (dk_at dksL_law_78 1 rfl rfl)

theorem mX0_rock : fmMH yX0_rock cX0_rock 6 (some .int) 5 [(0, 12, 15, 13), (0, 12, 19, 15), (0, 12, 23, 17)] := ⟨q586, by decide +kernel, by decide +kernel⟩
theorem mX0_roof : fmMH yX0_roof cX0_roof 4 (some .int) 3 [(0, 9, 12, 15), (0, 9, 15, 17)] := ⟨q1059, by decide +kernel, by decide +kernel⟩
theorem mX0_props : fmMH yX0_props cX0_props 4 (some .int) 3 [(0, 9, 12, 15)] := ⟨q1068, by decide +kernel, by decide +kernel⟩
theorem mX0_pick : fmMH yX0_pick cX0_pick 4 (some .int) 3 [(0, 9, 12, 15), (0, 9, 15, 17)] := ⟨q1077, by decide +kernel, by decide +kernel⟩
theorem mX0_edge : fmMH yX0_edge cX0_edge 4 (some .int) 3 [(0, 9, 12, 13)] := ⟨q1086, by decide +kernel, by decide +kernel⟩
theorem mX0_cell : fmMH yX0_cell cX0_cell 5 (some .int) 4 [(0, 10, 13, 13), (0, 10, 17, 15)] := ⟨q1097, by decide +kernel, by decide +kernel⟩
theorem mX0_span : fmMH yX0_span cX0_span 5 (some .int) 4 [(0, 10, 13, 13)] := ⟨q1132, by decide +kernel, by decide +kernel⟩
theorem mX0_knock : fmMH yX0_knock cX0_knock 4 (some .int) 3 [(0, 9, 12, 13), (0, 9, 15, 43)] := ⟨q1140, by decide +kernel, by decide +kernel⟩
theorem mX0_sink : fmMH yX0_sink cX0_sink 4 (some .int) 3 [(0, 9, 12, 13), (0, 9, 15, 17)] := ⟨q1158, by decide +kernel, by decide +kernel⟩
theorem mX0_dig : fmMH yX0_dig cX0_dig 6 (some .int) 5 [(0, 12, 15, 13), (0, 12, 19, 17)] := ⟨q1167, by decide +kernel, by decide +kernel⟩
theorem mX0_prop : fmMH yX0_prop cX0_prop 4 (some .int) 3 [(0, 9, 12, 13), (0, 9, 15, 17)] := ⟨q1176, by decide +kernel, by decide +kernel⟩
theorem mX0_unprop : fmMH yX0_unprop cX0_unprop 4 (some .int) 3 [(0, 9, 12, 13), (0, 9, 15, 17)] := ⟨q1185, by decide +kernel, by decide +kernel⟩
theorem mX0_close : fmMH yX0_close cX0_close 4 (some .int) 3 [(0, 9, 12, 13), (0, 9, 15, 17)] := ⟨q1194, by decide +kernel, by decide +kernel⟩
theorem mX0_shaft : fmMH yX0_shaft cX0_shaft 5 (some .int) 4 [(0, 10, 13, 13), (0, 10, 17, 15)] := ⟨q1203, by decide +kernel, by decide +kernel⟩
theorem mX0_best : fmMH yX0_best cX0_best 4 (some .int) 3 [(0, 9, 12, 13), (0, 9, 15, 67)] := ⟨q1258, by decide +kernel, by decide +kernel⟩
theorem mX0_way : fmMH yX0_way cX0_way 5 (some .int) 4 [(0, 10, 13, 13), (0, 10, 17, 67)] := ⟨q1280, by decide +kernel, by decide +kernel⟩
theorem mX0_wayAgain : fmMH yX0_wayAgain cX0_wayAgain 5 (some .int) 4 [(0, 10, 13, 13), (0, 10, 17, 67)] := ⟨q1291, by decide +kernel, by decide +kernel⟩
theorem mX0_step : fmMH yX0_step cX0_step 6 (some .int) 5 [(0, 12, 15, 13), (0, 12, 19, 67)] := ⟨q1302, by decide +kernel, by decide +kernel⟩
theorem mX0_strokes : fmMH yX0_strokes cX0_strokes 5 (some .int) 4 [(0, 10, 13, 13), (0, 10, 17, 67)] := ⟨q1314, by decide +kernel, by decide +kernel⟩
theorem mX0_number : fmMH yX0_number cX0_number 4 (some .int) 3 [(0, 9, 12, 15)] := ⟨q1327, by decide +kernel, by decide +kernel⟩
theorem mX0_perStroke : fmMH yX0_perStroke cX0_perStroke 3 (some .int) 2 [(0, 7, 10, 88)] := ⟨q1361, by decide +kernel, by decide +kernel⟩
theorem mX0_feed : fmMH yX0_feed cX0_feed 4 (some .int) 3 [(0, 9, 12, 43)] := ⟨q1387, by decide +kernel, by decide +kernel⟩
theorem mX0_read : fmMH yX0_read cX0_read 3 (some .int) 2 [(0, 8, 11, 15), (0, 8, 14, 17)] := ⟨q1472, by decide +kernel, by decide +kernel⟩
theorem mX0_faultPosition : fmMH yX0_faultPosition cX0_faultPosition 3 (some .int) 2 [(0, 8, 11, 67)] := ⟨q1826, by decide +kernel, by decide +kernel⟩
theorem mX0_refusal : fmMH yX0_refusal cX0_refusal 4 (some .int) 3 [(0, 9, 12, 67)] := ⟨q1833, by decide +kernel, by decide +kernel⟩
theorem mX0_undo : fmMH yX0_undo cX0_undo 3 (some .int) 2 [(0, 8, 11, 43)] := ⟨q1840, by decide +kernel, by decide +kernel⟩
theorem mX0_restoreSnapshot : fmMH yX0_restoreSnapshot cX0_restoreSnapshot 3 (some .int) 2 [(0, 8, 11, 43)] := ⟨q1866, by decide +kernel, by decide +kernel⟩
