/-! ShapelayerLaw -/
set_option maxRecDepth 100000
def RX0 : String := "ShapelayerLaw"
abbrev cX0_addComposition : ByteArray := method_3_code
def yX0_addComposition : MethodName := ⟨RX0, "addComposition", "(LShapelayer;[J)I"⟩
def dkwX0_addComposition_0 : List UInt8 := [43, 3, 42, 182, 0, 7, 133, 80, 167, 0, 6, 77, 4, 172, 3, 172]
abbrev dktX0_addComposition_0 : List UInt8 := dkwX0_addComposition_0 ++ []
theorem dksX0_addComposition_0 : cX0_addComposition.data.toList.drop 0 = dktX0_addComposition_0 := by decide +kernel
theorem dX0_addComposition_0 : decode cX0_addComposition 0 = .ok (.aload_n 1, 1) := dk_43 (dk_at dksX0_addComposition_0 0 rfl rfl)
theorem dX0_addComposition_1 : decode cX0_addComposition 1 = .ok (.iconst 0, 1) := dk_3 (dk_at dksX0_addComposition_0 1 rfl rfl)
theorem dX0_addComposition_2 : decode cX0_addComposition 2 = .ok (.aload_n 0, 1) := dk_42 (dk_at dksX0_addComposition_0 2 rfl rfl)
theorem dX0_addComposition_3 : decode cX0_addComposition 3 = .ok (.invokevirtual 7, 3) := dk_182 0 7 (dk_at dksX0_addComposition_0 3 rfl rfl)
theorem dX0_addComposition_6 : decode cX0_addComposition 6 = .ok (.i2l, 1) := dk_133 (dk_at dksX0_addComposition_0 6 rfl rfl)
theorem dX0_addComposition_7 : decode cX0_addComposition 7 = .ok (.lastore, 1) := dk_80 (dk_at dksX0_addComposition_0 7 rfl rfl)
theorem dX0_addComposition_8 : decode cX0_addComposition 8 = .ok (.goto 6, 3) := dk_167 0 6 (dk_at dksX0_addComposition_0 8 rfl rfl)
theorem dX0_addComposition_11 : decode cX0_addComposition 11 = .ok (.astore_n 2, 1) := dk_77 (dk_at dksX0_addComposition_0 11 rfl rfl)
theorem dX0_addComposition_12 : decode cX0_addComposition 12 = .ok (.iconst 1, 1) := dk_4 (dk_at dksX0_addComposition_0 12 rfl rfl)
theorem dX0_addComposition_13 : decode cX0_addComposition 13 = .ok (.ireturn, 1) := dk_172 (dk_at dksX0_addComposition_0 13 rfl rfl)
theorem dX0_addComposition_14 : decode cX0_addComposition 14 = .ok (.iconst 0, 1) := dk_3 (dk_at dksX0_addComposition_0 14 rfl rfl)
theorem dX0_addComposition_15 : decode cX0_addComposition 15 = .ok (.ireturn, 1) := dk_172 (dk_at dksX0_addComposition_0 15 rfl rfl)
abbrev cX0_addRect : ByteArray := method_4_code
def yX0_addRect : MethodName := ⟨RX0, "addRect", "(LShapelayer;IIII[J)I"⟩
def dkwX0_addRect_1 : List UInt8 := [172, 58, 6, 6, 172, 3, 172]
abbrev dktX0_addRect_1 : List UInt8 := dkwX0_addRect_1 ++ []
def dkwX0_addRect_0 : List UInt8 := [25, 5, 3, 42, 27, 28, 29, 21, 4, 182, 0, 15, 133, 80, 167, 0, 15, 58, 6, 4, 172, 58, 6, 5]
abbrev dktX0_addRect_0 : List UInt8 := dkwX0_addRect_0 ++ dktX0_addRect_1
theorem dksX0_addRect_0 : cX0_addRect.data.toList.drop 0 = dktX0_addRect_0 := by decide +kernel
theorem dksX0_addRect_1 : cX0_addRect.data.toList.drop 24 = dktX0_addRect_1 := dk_seg dksX0_addRect_0 24 rfl rfl
theorem dX0_addRect_0 : decode cX0_addRect 0 = .ok (.aload 5, 2) := dk_25 5 (dk_at dksX0_addRect_0 0 rfl rfl)
theorem dX0_addRect_2 : decode cX0_addRect 2 = .ok (.iconst 0, 1) := dk_3 (dk_at dksX0_addRect_0 2 rfl rfl)
theorem dX0_addRect_3 : decode cX0_addRect 3 = .ok (.aload_n 0, 1) := dk_42 (dk_at dksX0_addRect_0 3 rfl rfl)
theorem dX0_addRect_4 : decode cX0_addRect 4 = .ok (.iload_n 1, 1) := dk_27 (dk_at dksX0_addRect_0 4 rfl rfl)
theorem dX0_addRect_5 : decode cX0_addRect 5 = .ok (.iload_n 2, 1) := dk_28 (dk_at dksX0_addRect_0 5 rfl rfl)
theorem dX0_addRect_6 : decode cX0_addRect 6 = .ok (.iload_n 3, 1) := dk_29 (dk_at dksX0_addRect_0 6 rfl rfl)
theorem dX0_addRect_7 : decode cX0_addRect 7 = .ok (.iload 4, 2) := dk_21 4 (dk_at dksX0_addRect_0 7 rfl rfl)
theorem dX0_addRect_9 : decode cX0_addRect 9 = .ok (.invokevirtual 15, 3) := dk_182 0 15 (dk_at dksX0_addRect_0 9 rfl rfl)
theorem dX0_addRect_12 : decode cX0_addRect 12 = .ok (.i2l, 1) := dk_133 (dk_at dksX0_addRect_0 12 rfl rfl)
theorem dX0_addRect_13 : decode cX0_addRect 13 = .ok (.lastore, 1) := dk_80 (dk_at dksX0_addRect_0 13 rfl rfl)
theorem dX0_addRect_14 : decode cX0_addRect 14 = .ok (.goto 15, 3) := dk_167 0 15 (dk_at dksX0_addRect_0 14 rfl rfl)
theorem dX0_addRect_17 : decode cX0_addRect 17 = .ok (.astore 6, 2) := dk_58 6 (dk_at dksX0_addRect_0 17 rfl rfl)
theorem dX0_addRect_19 : decode cX0_addRect 19 = .ok (.iconst 1, 1) := dk_4 (dk_at dksX0_addRect_0 19 rfl rfl)
theorem dX0_addRect_20 : decode cX0_addRect 20 = .ok (.ireturn, 1) := dk_172 (dk_at dksX0_addRect_0 20 rfl rfl)
theorem dX0_addRect_21 : decode cX0_addRect 21 = .ok (.astore 6, 2) := dk_58 6 (dk_at dksX0_addRect_0 21 rfl rfl)
theorem dX0_addRect_23 : decode cX0_addRect 23 = .ok (.iconst 2, 1) := dk_5 (dk_at dksX0_addRect_0 23 rfl rfl)
theorem dX0_addRect_24 : decode cX0_addRect 24 = .ok (.ireturn, 1) := dk_172 (dk_at dksX0_addRect_1 0 rfl rfl)
theorem dX0_addRect_25 : decode cX0_addRect 25 = .ok (.astore 6, 2) := dk_58 6 (dk_at dksX0_addRect_1 1 rfl rfl)
theorem dX0_addRect_27 : decode cX0_addRect 27 = .ok (.iconst 3, 1) := dk_6 (dk_at dksX0_addRect_1 3 rfl rfl)
theorem dX0_addRect_28 : decode cX0_addRect 28 = .ok (.ireturn, 1) := dk_172 (dk_at dksX0_addRect_1 4 rfl rfl)
theorem dX0_addRect_29 : decode cX0_addRect 29 = .ok (.iconst 0, 1) := dk_3 (dk_at dksX0_addRect_1 5 rfl rfl)
theorem dX0_addRect_30 : decode cX0_addRect 30 = .ok (.ireturn, 1) := dk_172 (dk_at dksX0_addRect_1 6 rfl rfl)
abbrev cX0_addStroke : ByteArray := method_5_code
def yX0_addStroke : MethodName := ⟨RX0, "addStroke", "(LShapelayer;II[J)I"⟩
def dkwX0_addStroke_1 : List UInt8 := [172, 3, 172]
abbrev dktX0_addStroke_1 : List UInt8 := dkwX0_addStroke_1 ++ []
def dkwX0_addStroke_0 : List UInt8 := [45, 3, 42, 27, 28, 182, 0, 23, 133, 80, 167, 0, 15, 58, 4, 4, 172, 58, 4, 5, 172, 58, 4, 6]
abbrev dktX0_addStroke_0 : List UInt8 := dkwX0_addStroke_0 ++ dktX0_addStroke_1
theorem dksX0_addStroke_0 : cX0_addStroke.data.toList.drop 0 = dktX0_addStroke_0 := by decide +kernel
theorem dksX0_addStroke_1 : cX0_addStroke.data.toList.drop 24 = dktX0_addStroke_1 := dk_seg dksX0_addStroke_0 24 rfl rfl
theorem dX0_addStroke_0 : decode cX0_addStroke 0 = .ok (.aload_n 3, 1) := dk_45 (dk_at dksX0_addStroke_0 0 rfl rfl)
theorem dX0_addStroke_1 : decode cX0_addStroke 1 = .ok (.iconst 0, 1) := dk_3 (dk_at dksX0_addStroke_0 1 rfl rfl)
theorem dX0_addStroke_2 : decode cX0_addStroke 2 = .ok (.aload_n 0, 1) := dk_42 (dk_at dksX0_addStroke_0 2 rfl rfl)
theorem dX0_addStroke_3 : decode cX0_addStroke 3 = .ok (.iload_n 1, 1) := dk_27 (dk_at dksX0_addStroke_0 3 rfl rfl)
theorem dX0_addStroke_4 : decode cX0_addStroke 4 = .ok (.iload_n 2, 1) := dk_28 (dk_at dksX0_addStroke_0 4 rfl rfl)
theorem dX0_addStroke_5 : decode cX0_addStroke 5 = .ok (.invokevirtual 23, 3) := dk_182 0 23 (dk_at dksX0_addStroke_0 5 rfl rfl)
theorem dX0_addStroke_8 : decode cX0_addStroke 8 = .ok (.i2l, 1) := dk_133 (dk_at dksX0_addStroke_0 8 rfl rfl)
theorem dX0_addStroke_9 : decode cX0_addStroke 9 = .ok (.lastore, 1) := dk_80 (dk_at dksX0_addStroke_0 9 rfl rfl)
theorem dX0_addStroke_10 : decode cX0_addStroke 10 = .ok (.goto 15, 3) := dk_167 0 15 (dk_at dksX0_addStroke_0 10 rfl rfl)
theorem dX0_addStroke_13 : decode cX0_addStroke 13 = .ok (.astore 4, 2) := dk_58 4 (dk_at dksX0_addStroke_0 13 rfl rfl)
theorem dX0_addStroke_15 : decode cX0_addStroke 15 = .ok (.iconst 1, 1) := dk_4 (dk_at dksX0_addStroke_0 15 rfl rfl)
theorem dX0_addStroke_16 : decode cX0_addStroke 16 = .ok (.ireturn, 1) := dk_172 (dk_at dksX0_addStroke_0 16 rfl rfl)
theorem dX0_addStroke_17 : decode cX0_addStroke 17 = .ok (.astore 4, 2) := dk_58 4 (dk_at dksX0_addStroke_0 17 rfl rfl)
theorem dX0_addStroke_19 : decode cX0_addStroke 19 = .ok (.iconst 2, 1) := dk_5 (dk_at dksX0_addStroke_0 19 rfl rfl)
theorem dX0_addStroke_20 : decode cX0_addStroke 20 = .ok (.ireturn, 1) := dk_172 (dk_at dksX0_addStroke_0 20 rfl rfl)
theorem dX0_addStroke_21 : decode cX0_addStroke 21 = .ok (.astore 4, 2) := dk_58 4 (dk_at dksX0_addStroke_0 21 rfl rfl)
theorem dX0_addStroke_23 : decode cX0_addStroke 23 = .ok (.iconst 3, 1) := dk_6 (dk_at dksX0_addStroke_0 23 rfl rfl)
theorem dX0_addStroke_24 : decode cX0_addStroke 24 = .ok (.ireturn, 1) := dk_172 (dk_at dksX0_addStroke_1 0 rfl rfl)
theorem dX0_addStroke_25 : decode cX0_addStroke 25 = .ok (.iconst 0, 1) := dk_3 (dk_at dksX0_addStroke_1 1 rfl rfl)
theorem dX0_addStroke_26 : decode cX0_addStroke 26 = .ok (.ireturn, 1) := dk_172 (dk_at dksX0_addStroke_1 2 rfl rfl)
abbrev cX0_addPoint : ByteArray := method_6_code
def yX0_addPoint : MethodName := ⟨RX0, "addPoint", "(LShapelayer;III[J)I"⟩
def dkwX0_addPoint_1 : List UInt8 := [58, 5, 6, 172, 3, 172]
abbrev dktX0_addPoint_1 : List UInt8 := dkwX0_addPoint_1 ++ []
def dkwX0_addPoint_0 : List UInt8 := [25, 4, 3, 42, 27, 28, 29, 182, 0, 27, 133, 80, 167, 0, 15, 58, 5, 4, 172, 58, 5, 5, 172]
abbrev dktX0_addPoint_0 : List UInt8 := dkwX0_addPoint_0 ++ dktX0_addPoint_1
theorem dksX0_addPoint_0 : cX0_addPoint.data.toList.drop 0 = dktX0_addPoint_0 := by decide +kernel
theorem dksX0_addPoint_1 : cX0_addPoint.data.toList.drop 23 = dktX0_addPoint_1 := dk_seg dksX0_addPoint_0 23 rfl rfl
theorem dX0_addPoint_0 : decode cX0_addPoint 0 = .ok (.aload 4, 2) := dk_25 4 (dk_at dksX0_addPoint_0 0 rfl rfl)
theorem dX0_addPoint_2 : decode cX0_addPoint 2 = .ok (.iconst 0, 1) := dk_3 (dk_at dksX0_addPoint_0 2 rfl rfl)
theorem dX0_addPoint_3 : decode cX0_addPoint 3 = .ok (.aload_n 0, 1) := dk_42 (dk_at dksX0_addPoint_0 3 rfl rfl)
theorem dX0_addPoint_4 : decode cX0_addPoint 4 = .ok (.iload_n 1, 1) := dk_27 (dk_at dksX0_addPoint_0 4 rfl rfl)
theorem dX0_addPoint_5 : decode cX0_addPoint 5 = .ok (.iload_n 2, 1) := dk_28 (dk_at dksX0_addPoint_0 5 rfl rfl)
theorem dX0_addPoint_6 : decode cX0_addPoint 6 = .ok (.iload_n 3, 1) := dk_29 (dk_at dksX0_addPoint_0 6 rfl rfl)
theorem dX0_addPoint_7 : decode cX0_addPoint 7 = .ok (.invokevirtual 27, 3) := dk_182 0 27 (dk_at dksX0_addPoint_0 7 rfl rfl)
theorem dX0_addPoint_10 : decode cX0_addPoint 10 = .ok (.i2l, 1) := dk_133 (dk_at dksX0_addPoint_0 10 rfl rfl)
theorem dX0_addPoint_11 : decode cX0_addPoint 11 = .ok (.lastore, 1) := dk_80 (dk_at dksX0_addPoint_0 11 rfl rfl)
theorem dX0_addPoint_12 : decode cX0_addPoint 12 = .ok (.goto 15, 3) := dk_167 0 15 (dk_at dksX0_addPoint_0 12 rfl rfl)
theorem dX0_addPoint_15 : decode cX0_addPoint 15 = .ok (.astore 5, 2) := dk_58 5 (dk_at dksX0_addPoint_0 15 rfl rfl)
theorem dX0_addPoint_17 : decode cX0_addPoint 17 = .ok (.iconst 1, 1) := dk_4 (dk_at dksX0_addPoint_0 17 rfl rfl)
theorem dX0_addPoint_18 : decode cX0_addPoint 18 = .ok (.ireturn, 1) := dk_172 (dk_at dksX0_addPoint_0 18 rfl rfl)
theorem dX0_addPoint_19 : decode cX0_addPoint 19 = .ok (.astore 5, 2) := dk_58 5 (dk_at dksX0_addPoint_0 19 rfl rfl)
theorem dX0_addPoint_21 : decode cX0_addPoint 21 = .ok (.iconst 2, 1) := dk_5 (dk_at dksX0_addPoint_0 21 rfl rfl)
theorem dX0_addPoint_22 : decode cX0_addPoint 22 = .ok (.ireturn, 1) := dk_172 (dk_at dksX0_addPoint_0 22 rfl rfl)
theorem dX0_addPoint_23 : decode cX0_addPoint 23 = .ok (.astore 5, 2) := dk_58 5 (dk_at dksX0_addPoint_1 0 rfl rfl)
theorem dX0_addPoint_25 : decode cX0_addPoint 25 = .ok (.iconst 3, 1) := dk_6 (dk_at dksX0_addPoint_1 2 rfl rfl)
theorem dX0_addPoint_26 : decode cX0_addPoint 26 = .ok (.ireturn, 1) := dk_172 (dk_at dksX0_addPoint_1 3 rfl rfl)
theorem dX0_addPoint_27 : decode cX0_addPoint 27 = .ok (.iconst 0, 1) := dk_3 (dk_at dksX0_addPoint_1 4 rfl rfl)
theorem dX0_addPoint_28 : decode cX0_addPoint 28 = .ok (.ireturn, 1) := dk_172 (dk_at dksX0_addPoint_1 5 rfl rfl)
abbrev cX0_addNested : ByteArray := method_7_code
def yX0_addNested : MethodName := ⟨RX0, "addNested", "(LShapelayer;II[J)I"⟩
def dkwX0_addNested_0 : List UInt8 := [45, 3, 42, 27, 28, 182, 0, 31, 133, 80, 167, 0, 11, 58, 4, 4, 172, 58, 4, 5, 172, 3, 172]
abbrev dktX0_addNested_0 : List UInt8 := dkwX0_addNested_0 ++ []
theorem dksX0_addNested_0 : cX0_addNested.data.toList.drop 0 = dktX0_addNested_0 := by decide +kernel
theorem dX0_addNested_0 : decode cX0_addNested 0 = .ok (.aload_n 3, 1) := dk_45 (dk_at dksX0_addNested_0 0 rfl rfl)
theorem dX0_addNested_1 : decode cX0_addNested 1 = .ok (.iconst 0, 1) := dk_3 (dk_at dksX0_addNested_0 1 rfl rfl)
theorem dX0_addNested_2 : decode cX0_addNested 2 = .ok (.aload_n 0, 1) := dk_42 (dk_at dksX0_addNested_0 2 rfl rfl)
theorem dX0_addNested_3 : decode cX0_addNested 3 = .ok (.iload_n 1, 1) := dk_27 (dk_at dksX0_addNested_0 3 rfl rfl)
theorem dX0_addNested_4 : decode cX0_addNested 4 = .ok (.iload_n 2, 1) := dk_28 (dk_at dksX0_addNested_0 4 rfl rfl)
theorem dX0_addNested_5 : decode cX0_addNested 5 = .ok (.invokevirtual 31, 3) := dk_182 0 31 (dk_at dksX0_addNested_0 5 rfl rfl)
theorem dX0_addNested_8 : decode cX0_addNested 8 = .ok (.i2l, 1) := dk_133 (dk_at dksX0_addNested_0 8 rfl rfl)
theorem dX0_addNested_9 : decode cX0_addNested 9 = .ok (.lastore, 1) := dk_80 (dk_at dksX0_addNested_0 9 rfl rfl)
theorem dX0_addNested_10 : decode cX0_addNested 10 = .ok (.goto 11, 3) := dk_167 0 11 (dk_at dksX0_addNested_0 10 rfl rfl)
theorem dX0_addNested_13 : decode cX0_addNested 13 = .ok (.astore 4, 2) := dk_58 4 (dk_at dksX0_addNested_0 13 rfl rfl)
theorem dX0_addNested_15 : decode cX0_addNested 15 = .ok (.iconst 1, 1) := dk_4 (dk_at dksX0_addNested_0 15 rfl rfl)
theorem dX0_addNested_16 : decode cX0_addNested 16 = .ok (.ireturn, 1) := dk_172 (dk_at dksX0_addNested_0 16 rfl rfl)
theorem dX0_addNested_17 : decode cX0_addNested 17 = .ok (.astore 4, 2) := dk_58 4 (dk_at dksX0_addNested_0 17 rfl rfl)
theorem dX0_addNested_19 : decode cX0_addNested 19 = .ok (.iconst 2, 1) := dk_5 (dk_at dksX0_addNested_0 19 rfl rfl)
theorem dX0_addNested_20 : decode cX0_addNested 20 = .ok (.ireturn, 1) := dk_172 (dk_at dksX0_addNested_0 20 rfl rfl)
theorem dX0_addNested_21 : decode cX0_addNested 21 = .ok (.iconst 0, 1) := dk_3 (dk_at dksX0_addNested_0 21 rfl rfl)
theorem dX0_addNested_22 : decode cX0_addNested 22 = .ok (.ireturn, 1) := dk_172 (dk_at dksX0_addNested_0 22 rfl rfl)
abbrev cX0_addNull : ByteArray := method_8_code
def yX0_addNull : MethodName := ⟨RX0, "addNull", "(LShapelayer;I[J)I"⟩
def dkwX0_addNull_0 : List UInt8 := [44, 3, 42, 27, 182, 0, 34, 133, 80, 167, 0, 9, 78, 4, 172, 78, 5, 172, 3, 172]
abbrev dktX0_addNull_0 : List UInt8 := dkwX0_addNull_0 ++ []
theorem dksX0_addNull_0 : cX0_addNull.data.toList.drop 0 = dktX0_addNull_0 := by decide +kernel
theorem dX0_addNull_0 : decode cX0_addNull 0 = .ok (.aload_n 2, 1) := dk_44 (dk_at dksX0_addNull_0 0 rfl rfl)
theorem dX0_addNull_1 : decode cX0_addNull 1 = .ok (.iconst 0, 1) := dk_3 (dk_at dksX0_addNull_0 1 rfl rfl)
theorem dX0_addNull_2 : decode cX0_addNull 2 = .ok (.aload_n 0, 1) := dk_42 (dk_at dksX0_addNull_0 2 rfl rfl)
theorem dX0_addNull_3 : decode cX0_addNull 3 = .ok (.iload_n 1, 1) := dk_27 (dk_at dksX0_addNull_0 3 rfl rfl)
theorem dX0_addNull_4 : decode cX0_addNull 4 = .ok (.invokevirtual 34, 3) := dk_182 0 34 (dk_at dksX0_addNull_0 4 rfl rfl)
theorem dX0_addNull_7 : decode cX0_addNull 7 = .ok (.i2l, 1) := dk_133 (dk_at dksX0_addNull_0 7 rfl rfl)
theorem dX0_addNull_8 : decode cX0_addNull 8 = .ok (.lastore, 1) := dk_80 (dk_at dksX0_addNull_0 8 rfl rfl)
theorem dX0_addNull_9 : decode cX0_addNull 9 = .ok (.goto 9, 3) := dk_167 0 9 (dk_at dksX0_addNull_0 9 rfl rfl)
theorem dX0_addNull_12 : decode cX0_addNull 12 = .ok (.astore_n 3, 1) := dk_78 (dk_at dksX0_addNull_0 12 rfl rfl)
theorem dX0_addNull_13 : decode cX0_addNull 13 = .ok (.iconst 1, 1) := dk_4 (dk_at dksX0_addNull_0 13 rfl rfl)
theorem dX0_addNull_14 : decode cX0_addNull 14 = .ok (.ireturn, 1) := dk_172 (dk_at dksX0_addNull_0 14 rfl rfl)
theorem dX0_addNull_15 : decode cX0_addNull 15 = .ok (.astore_n 3, 1) := dk_78 (dk_at dksX0_addNull_0 15 rfl rfl)
theorem dX0_addNull_16 : decode cX0_addNull 16 = .ok (.iconst 2, 1) := dk_5 (dk_at dksX0_addNull_0 16 rfl rfl)
theorem dX0_addNull_17 : decode cX0_addNull 17 = .ok (.ireturn, 1) := dk_172 (dk_at dksX0_addNull_0 17 rfl rfl)
theorem dX0_addNull_18 : decode cX0_addNull 18 = .ok (.iconst 0, 1) := dk_3 (dk_at dksX0_addNull_0 18 rfl rfl)
theorem dX0_addNull_19 : decode cX0_addNull 19 = .ok (.ireturn, 1) := dk_172 (dk_at dksX0_addNull_0 19 rfl rfl)
abbrev cX0_remove : ByteArray := method_9_code
def yX0_remove : MethodName := ⟨RX0, "remove", "(LShapelayer;I[J)I"⟩
def dkwX0_remove_0 : List UInt8 := [44, 3, 42, 27, 182, 0, 38, 133, 80, 167, 0, 6, 78, 4, 172, 3, 172]
abbrev dktX0_remove_0 : List UInt8 := dkwX0_remove_0 ++ []
theorem dksX0_remove_0 : cX0_remove.data.toList.drop 0 = dktX0_remove_0 := by decide +kernel
theorem dX0_remove_0 : decode cX0_remove 0 = .ok (.aload_n 2, 1) := dk_44 (dk_at dksX0_remove_0 0 rfl rfl)
theorem dX0_remove_1 : decode cX0_remove 1 = .ok (.iconst 0, 1) := dk_3 (dk_at dksX0_remove_0 1 rfl rfl)
theorem dX0_remove_2 : decode cX0_remove 2 = .ok (.aload_n 0, 1) := dk_42 (dk_at dksX0_remove_0 2 rfl rfl)
theorem dX0_remove_3 : decode cX0_remove 3 = .ok (.iload_n 1, 1) := dk_27 (dk_at dksX0_remove_0 3 rfl rfl)
theorem dX0_remove_4 : decode cX0_remove 4 = .ok (.invokevirtual 38, 3) := dk_182 0 38 (dk_at dksX0_remove_0 4 rfl rfl)
theorem dX0_remove_7 : decode cX0_remove 7 = .ok (.i2l, 1) := dk_133 (dk_at dksX0_remove_0 7 rfl rfl)
theorem dX0_remove_8 : decode cX0_remove 8 = .ok (.lastore, 1) := dk_80 (dk_at dksX0_remove_0 8 rfl rfl)
theorem dX0_remove_9 : decode cX0_remove 9 = .ok (.goto 6, 3) := dk_167 0 6 (dk_at dksX0_remove_0 9 rfl rfl)
theorem dX0_remove_12 : decode cX0_remove 12 = .ok (.astore_n 3, 1) := dk_78 (dk_at dksX0_remove_0 12 rfl rfl)
theorem dX0_remove_13 : decode cX0_remove 13 = .ok (.iconst 1, 1) := dk_4 (dk_at dksX0_remove_0 13 rfl rfl)
theorem dX0_remove_14 : decode cX0_remove 14 = .ok (.ireturn, 1) := dk_172 (dk_at dksX0_remove_0 14 rfl rfl)
theorem dX0_remove_15 : decode cX0_remove 15 = .ok (.iconst 0, 1) := dk_3 (dk_at dksX0_remove_0 15 rfl rfl)
theorem dX0_remove_16 : decode cX0_remove 16 = .ok (.ireturn, 1) := dk_172 (dk_at dksX0_remove_0 16 rfl rfl)
abbrev cX0_order : ByteArray := method_10_code
def yX0_order : MethodName := ⟨RX0, "order", "(LShapelayer;II[J)I"⟩
def dkwX0_order_0 : List UInt8 := [45, 3, 42, 27, 28, 182, 0, 41, 133, 80, 167, 0, 11, 58, 4, 4, 172, 58, 4, 5, 172, 3, 172]
abbrev dktX0_order_0 : List UInt8 := dkwX0_order_0 ++ []
theorem dksX0_order_0 : cX0_order.data.toList.drop 0 = dktX0_order_0 := by decide +kernel
theorem dX0_order_0 : decode cX0_order 0 = .ok (.aload_n 3, 1) := dk_45 (dk_at dksX0_order_0 0 rfl rfl)
theorem dX0_order_1 : decode cX0_order 1 = .ok (.iconst 0, 1) := dk_3 (dk_at dksX0_order_0 1 rfl rfl)
theorem dX0_order_2 : decode cX0_order 2 = .ok (.aload_n 0, 1) := dk_42 (dk_at dksX0_order_0 2 rfl rfl)
theorem dX0_order_3 : decode cX0_order 3 = .ok (.iload_n 1, 1) := dk_27 (dk_at dksX0_order_0 3 rfl rfl)
theorem dX0_order_4 : decode cX0_order 4 = .ok (.iload_n 2, 1) := dk_28 (dk_at dksX0_order_0 4 rfl rfl)
theorem dX0_order_5 : decode cX0_order 5 = .ok (.invokevirtual 41, 3) := dk_182 0 41 (dk_at dksX0_order_0 5 rfl rfl)
theorem dX0_order_8 : decode cX0_order 8 = .ok (.i2l, 1) := dk_133 (dk_at dksX0_order_0 8 rfl rfl)
theorem dX0_order_9 : decode cX0_order 9 = .ok (.lastore, 1) := dk_80 (dk_at dksX0_order_0 9 rfl rfl)
theorem dX0_order_10 : decode cX0_order 10 = .ok (.goto 11, 3) := dk_167 0 11 (dk_at dksX0_order_0 10 rfl rfl)
theorem dX0_order_13 : decode cX0_order 13 = .ok (.astore 4, 2) := dk_58 4 (dk_at dksX0_order_0 13 rfl rfl)
theorem dX0_order_15 : decode cX0_order 15 = .ok (.iconst 1, 1) := dk_4 (dk_at dksX0_order_0 15 rfl rfl)
theorem dX0_order_16 : decode cX0_order 16 = .ok (.ireturn, 1) := dk_172 (dk_at dksX0_order_0 16 rfl rfl)
theorem dX0_order_17 : decode cX0_order 17 = .ok (.astore 4, 2) := dk_58 4 (dk_at dksX0_order_0 17 rfl rfl)
theorem dX0_order_19 : decode cX0_order 19 = .ok (.iconst 2, 1) := dk_5 (dk_at dksX0_order_0 19 rfl rfl)
theorem dX0_order_20 : decode cX0_order 20 = .ok (.ireturn, 1) := dk_172 (dk_at dksX0_order_0 20 rfl rfl)
theorem dX0_order_21 : decode cX0_order 21 = .ok (.iconst 0, 1) := dk_3 (dk_at dksX0_order_0 21 rfl rfl)
theorem dX0_order_22 : decode cX0_order 22 = .ok (.ireturn, 1) := dk_172 (dk_at dksX0_order_0 22 rfl rfl)
abbrev cX0_setParent : ByteArray := method_11_code
def yX0_setParent : MethodName := ⟨RX0, "setParent", "(LShapelayer;II[J)I"⟩
def dkwX0_setParent_0 : List UInt8 := [45, 3, 42, 27, 28, 182, 0, 44, 133, 80, 167, 0, 11, 58, 4, 4, 172, 58, 4, 5, 172, 3, 172]
abbrev dktX0_setParent_0 : List UInt8 := dkwX0_setParent_0 ++ []
theorem dksX0_setParent_0 : cX0_setParent.data.toList.drop 0 = dktX0_setParent_0 := by decide +kernel
theorem dX0_setParent_0 : decode cX0_setParent 0 = .ok (.aload_n 3, 1) := dk_45 (dk_at dksX0_setParent_0 0 rfl rfl)
theorem dX0_setParent_1 : decode cX0_setParent 1 = .ok (.iconst 0, 1) := dk_3 (dk_at dksX0_setParent_0 1 rfl rfl)
theorem dX0_setParent_2 : decode cX0_setParent 2 = .ok (.aload_n 0, 1) := dk_42 (dk_at dksX0_setParent_0 2 rfl rfl)
theorem dX0_setParent_3 : decode cX0_setParent 3 = .ok (.iload_n 1, 1) := dk_27 (dk_at dksX0_setParent_0 3 rfl rfl)
theorem dX0_setParent_4 : decode cX0_setParent 4 = .ok (.iload_n 2, 1) := dk_28 (dk_at dksX0_setParent_0 4 rfl rfl)
theorem dX0_setParent_5 : decode cX0_setParent 5 = .ok (.invokevirtual 44, 3) := dk_182 0 44 (dk_at dksX0_setParent_0 5 rfl rfl)
theorem dX0_setParent_8 : decode cX0_setParent 8 = .ok (.i2l, 1) := dk_133 (dk_at dksX0_setParent_0 8 rfl rfl)
theorem dX0_setParent_9 : decode cX0_setParent 9 = .ok (.lastore, 1) := dk_80 (dk_at dksX0_setParent_0 9 rfl rfl)
theorem dX0_setParent_10 : decode cX0_setParent 10 = .ok (.goto 11, 3) := dk_167 0 11 (dk_at dksX0_setParent_0 10 rfl rfl)
theorem dX0_setParent_13 : decode cX0_setParent 13 = .ok (.astore 4, 2) := dk_58 4 (dk_at dksX0_setParent_0 13 rfl rfl)
theorem dX0_setParent_15 : decode cX0_setParent 15 = .ok (.iconst 1, 1) := dk_4 (dk_at dksX0_setParent_0 15 rfl rfl)
theorem dX0_setParent_16 : decode cX0_setParent 16 = .ok (.ireturn, 1) := dk_172 (dk_at dksX0_setParent_0 16 rfl rfl)
theorem dX0_setParent_17 : decode cX0_setParent 17 = .ok (.astore 4, 2) := dk_58 4 (dk_at dksX0_setParent_0 17 rfl rfl)
theorem dX0_setParent_19 : decode cX0_setParent 19 = .ok (.iconst 2, 1) := dk_5 (dk_at dksX0_setParent_0 19 rfl rfl)
theorem dX0_setParent_20 : decode cX0_setParent 20 = .ok (.ireturn, 1) := dk_172 (dk_at dksX0_setParent_0 20 rfl rfl)
theorem dX0_setParent_21 : decode cX0_setParent 21 = .ok (.iconst 0, 1) := dk_3 (dk_at dksX0_setParent_0 21 rfl rfl)
theorem dX0_setParent_22 : decode cX0_setParent 22 = .ok (.ireturn, 1) := dk_172 (dk_at dksX0_setParent_0 22 rfl rfl)
abbrev cX0_setMatte : ByteArray := method_12_code
def yX0_setMatte : MethodName := ⟨RX0, "setMatte", "(LShapelayer;IIZ[J)I"⟩
def dkwX0_setMatte_1 : List UInt8 := [172]
abbrev dktX0_setMatte_1 : List UInt8 := dkwX0_setMatte_1 ++ []
def dkwX0_setMatte_0 : List UInt8 := [25, 4, 3, 42, 27, 28, 29, 182, 0, 47, 133, 80, 167, 0, 11, 58, 5, 4, 172, 58, 5, 5, 172, 3]
abbrev dktX0_setMatte_0 : List UInt8 := dkwX0_setMatte_0 ++ dktX0_setMatte_1
theorem dksX0_setMatte_0 : cX0_setMatte.data.toList.drop 0 = dktX0_setMatte_0 := by decide +kernel
theorem dksX0_setMatte_1 : cX0_setMatte.data.toList.drop 24 = dktX0_setMatte_1 := dk_seg dksX0_setMatte_0 24 rfl rfl
theorem dX0_setMatte_0 : decode cX0_setMatte 0 = .ok (.aload 4, 2) := dk_25 4 (dk_at dksX0_setMatte_0 0 rfl rfl)
theorem dX0_setMatte_2 : decode cX0_setMatte 2 = .ok (.iconst 0, 1) := dk_3 (dk_at dksX0_setMatte_0 2 rfl rfl)
theorem dX0_setMatte_3 : decode cX0_setMatte 3 = .ok (.aload_n 0, 1) := dk_42 (dk_at dksX0_setMatte_0 3 rfl rfl)
theorem dX0_setMatte_4 : decode cX0_setMatte 4 = .ok (.iload_n 1, 1) := dk_27 (dk_at dksX0_setMatte_0 4 rfl rfl)
theorem dX0_setMatte_5 : decode cX0_setMatte 5 = .ok (.iload_n 2, 1) := dk_28 (dk_at dksX0_setMatte_0 5 rfl rfl)
theorem dX0_setMatte_6 : decode cX0_setMatte 6 = .ok (.iload_n 3, 1) := dk_29 (dk_at dksX0_setMatte_0 6 rfl rfl)
theorem dX0_setMatte_7 : decode cX0_setMatte 7 = .ok (.invokevirtual 47, 3) := dk_182 0 47 (dk_at dksX0_setMatte_0 7 rfl rfl)
theorem dX0_setMatte_10 : decode cX0_setMatte 10 = .ok (.i2l, 1) := dk_133 (dk_at dksX0_setMatte_0 10 rfl rfl)
theorem dX0_setMatte_11 : decode cX0_setMatte 11 = .ok (.lastore, 1) := dk_80 (dk_at dksX0_setMatte_0 11 rfl rfl)
theorem dX0_setMatte_12 : decode cX0_setMatte 12 = .ok (.goto 11, 3) := dk_167 0 11 (dk_at dksX0_setMatte_0 12 rfl rfl)
theorem dX0_setMatte_15 : decode cX0_setMatte 15 = .ok (.astore 5, 2) := dk_58 5 (dk_at dksX0_setMatte_0 15 rfl rfl)
theorem dX0_setMatte_17 : decode cX0_setMatte 17 = .ok (.iconst 1, 1) := dk_4 (dk_at dksX0_setMatte_0 17 rfl rfl)
theorem dX0_setMatte_18 : decode cX0_setMatte 18 = .ok (.ireturn, 1) := dk_172 (dk_at dksX0_setMatte_0 18 rfl rfl)
theorem dX0_setMatte_19 : decode cX0_setMatte 19 = .ok (.astore 5, 2) := dk_58 5 (dk_at dksX0_setMatte_0 19 rfl rfl)
theorem dX0_setMatte_21 : decode cX0_setMatte 21 = .ok (.iconst 2, 1) := dk_5 (dk_at dksX0_setMatte_0 21 rfl rfl)
theorem dX0_setMatte_22 : decode cX0_setMatte 22 = .ok (.ireturn, 1) := dk_172 (dk_at dksX0_setMatte_0 22 rfl rfl)
theorem dX0_setMatte_23 : decode cX0_setMatte 23 = .ok (.iconst 0, 1) := dk_3 (dk_at dksX0_setMatte_0 23 rfl rfl)
theorem dX0_setMatte_24 : decode cX0_setMatte 24 = .ok (.ireturn, 1) := dk_172 (dk_at dksX0_setMatte_1 0 rfl rfl)
abbrev cX0_setSpan : ByteArray := method_13_code
def yX0_setSpan : MethodName := ⟨RX0, "setSpan", "(LShapelayer;III[J)I"⟩
def dkwX0_setSpan_1 : List UInt8 := [172]
abbrev dktX0_setSpan_1 : List UInt8 := dkwX0_setSpan_1 ++ []
def dkwX0_setSpan_0 : List UInt8 := [25, 4, 3, 42, 27, 28, 29, 182, 0, 51, 133, 80, 167, 0, 11, 58, 5, 4, 172, 58, 5, 5, 172, 3]
abbrev dktX0_setSpan_0 : List UInt8 := dkwX0_setSpan_0 ++ dktX0_setSpan_1
theorem dksX0_setSpan_0 : cX0_setSpan.data.toList.drop 0 = dktX0_setSpan_0 := by decide +kernel
theorem dksX0_setSpan_1 : cX0_setSpan.data.toList.drop 24 = dktX0_setSpan_1 := dk_seg dksX0_setSpan_0 24 rfl rfl
theorem dX0_setSpan_0 : decode cX0_setSpan 0 = .ok (.aload 4, 2) := dk_25 4 (dk_at dksX0_setSpan_0 0 rfl rfl)
theorem dX0_setSpan_2 : decode cX0_setSpan 2 = .ok (.iconst 0, 1) := dk_3 (dk_at dksX0_setSpan_0 2 rfl rfl)
theorem dX0_setSpan_3 : decode cX0_setSpan 3 = .ok (.aload_n 0, 1) := dk_42 (dk_at dksX0_setSpan_0 3 rfl rfl)
theorem dX0_setSpan_4 : decode cX0_setSpan 4 = .ok (.iload_n 1, 1) := dk_27 (dk_at dksX0_setSpan_0 4 rfl rfl)
theorem dX0_setSpan_5 : decode cX0_setSpan 5 = .ok (.iload_n 2, 1) := dk_28 (dk_at dksX0_setSpan_0 5 rfl rfl)
theorem dX0_setSpan_6 : decode cX0_setSpan 6 = .ok (.iload_n 3, 1) := dk_29 (dk_at dksX0_setSpan_0 6 rfl rfl)
theorem dX0_setSpan_7 : decode cX0_setSpan 7 = .ok (.invokevirtual 51, 3) := dk_182 0 51 (dk_at dksX0_setSpan_0 7 rfl rfl)
theorem dX0_setSpan_10 : decode cX0_setSpan 10 = .ok (.i2l, 1) := dk_133 (dk_at dksX0_setSpan_0 10 rfl rfl)
theorem dX0_setSpan_11 : decode cX0_setSpan 11 = .ok (.lastore, 1) := dk_80 (dk_at dksX0_setSpan_0 11 rfl rfl)
theorem dX0_setSpan_12 : decode cX0_setSpan 12 = .ok (.goto 11, 3) := dk_167 0 11 (dk_at dksX0_setSpan_0 12 rfl rfl)
theorem dX0_setSpan_15 : decode cX0_setSpan 15 = .ok (.astore 5, 2) := dk_58 5 (dk_at dksX0_setSpan_0 15 rfl rfl)
theorem dX0_setSpan_17 : decode cX0_setSpan 17 = .ok (.iconst 1, 1) := dk_4 (dk_at dksX0_setSpan_0 17 rfl rfl)
theorem dX0_setSpan_18 : decode cX0_setSpan 18 = .ok (.ireturn, 1) := dk_172 (dk_at dksX0_setSpan_0 18 rfl rfl)
theorem dX0_setSpan_19 : decode cX0_setSpan 19 = .ok (.astore 5, 2) := dk_58 5 (dk_at dksX0_setSpan_0 19 rfl rfl)
theorem dX0_setSpan_21 : decode cX0_setSpan 21 = .ok (.iconst 2, 1) := dk_5 (dk_at dksX0_setSpan_0 21 rfl rfl)
theorem dX0_setSpan_22 : decode cX0_setSpan 22 = .ok (.ireturn, 1) := dk_172 (dk_at dksX0_setSpan_0 22 rfl rfl)
theorem dX0_setSpan_23 : decode cX0_setSpan 23 = .ok (.iconst 0, 1) := dk_3 (dk_at dksX0_setSpan_0 23 rfl rfl)
theorem dX0_setSpan_24 : decode cX0_setSpan 24 = .ok (.ireturn, 1) := dk_172 (dk_at dksX0_setSpan_1 0 rfl rfl)
abbrev cX0_key : ByteArray := method_14_code
def yX0_key : MethodName := ⟨RX0, "key", "(LShapelayer;IIIII[J)I"⟩
def dkwX0_key_1 : List UInt8 := [58, 7, 5, 172, 58, 7, 6, 172, 3, 172]
abbrev dktX0_key_1 : List UInt8 := dkwX0_key_1 ++ []
def dkwX0_key_0 : List UInt8 := [25, 6, 3, 42, 27, 28, 29, 21, 4, 21, 5, 182, 0, 54, 133, 80, 167, 0, 15, 58, 7, 4, 172]
abbrev dktX0_key_0 : List UInt8 := dkwX0_key_0 ++ dktX0_key_1
theorem dksX0_key_0 : cX0_key.data.toList.drop 0 = dktX0_key_0 := by decide +kernel
theorem dksX0_key_1 : cX0_key.data.toList.drop 23 = dktX0_key_1 := dk_seg dksX0_key_0 23 rfl rfl
theorem dX0_key_0 : decode cX0_key 0 = .ok (.aload 6, 2) := dk_25 6 (dk_at dksX0_key_0 0 rfl rfl)
theorem dX0_key_2 : decode cX0_key 2 = .ok (.iconst 0, 1) := dk_3 (dk_at dksX0_key_0 2 rfl rfl)
theorem dX0_key_3 : decode cX0_key 3 = .ok (.aload_n 0, 1) := dk_42 (dk_at dksX0_key_0 3 rfl rfl)
theorem dX0_key_4 : decode cX0_key 4 = .ok (.iload_n 1, 1) := dk_27 (dk_at dksX0_key_0 4 rfl rfl)
theorem dX0_key_5 : decode cX0_key 5 = .ok (.iload_n 2, 1) := dk_28 (dk_at dksX0_key_0 5 rfl rfl)
theorem dX0_key_6 : decode cX0_key 6 = .ok (.iload_n 3, 1) := dk_29 (dk_at dksX0_key_0 6 rfl rfl)
theorem dX0_key_7 : decode cX0_key 7 = .ok (.iload 4, 2) := dk_21 4 (dk_at dksX0_key_0 7 rfl rfl)
theorem dX0_key_9 : decode cX0_key 9 = .ok (.iload 5, 2) := dk_21 5 (dk_at dksX0_key_0 9 rfl rfl)
theorem dX0_key_11 : decode cX0_key 11 = .ok (.invokevirtual 54, 3) := dk_182 0 54 (dk_at dksX0_key_0 11 rfl rfl)
theorem dX0_key_14 : decode cX0_key 14 = .ok (.i2l, 1) := dk_133 (dk_at dksX0_key_0 14 rfl rfl)
theorem dX0_key_15 : decode cX0_key 15 = .ok (.lastore, 1) := dk_80 (dk_at dksX0_key_0 15 rfl rfl)
theorem dX0_key_16 : decode cX0_key 16 = .ok (.goto 15, 3) := dk_167 0 15 (dk_at dksX0_key_0 16 rfl rfl)
theorem dX0_key_19 : decode cX0_key 19 = .ok (.astore 7, 2) := dk_58 7 (dk_at dksX0_key_0 19 rfl rfl)
theorem dX0_key_21 : decode cX0_key 21 = .ok (.iconst 1, 1) := dk_4 (dk_at dksX0_key_0 21 rfl rfl)
theorem dX0_key_22 : decode cX0_key 22 = .ok (.ireturn, 1) := dk_172 (dk_at dksX0_key_0 22 rfl rfl)
theorem dX0_key_23 : decode cX0_key 23 = .ok (.astore 7, 2) := dk_58 7 (dk_at dksX0_key_1 0 rfl rfl)
theorem dX0_key_25 : decode cX0_key 25 = .ok (.iconst 2, 1) := dk_5 (dk_at dksX0_key_1 2 rfl rfl)
theorem dX0_key_26 : decode cX0_key 26 = .ok (.ireturn, 1) := dk_172 (dk_at dksX0_key_1 3 rfl rfl)
theorem dX0_key_27 : decode cX0_key 27 = .ok (.astore 7, 2) := dk_58 7 (dk_at dksX0_key_1 4 rfl rfl)
theorem dX0_key_29 : decode cX0_key 29 = .ok (.iconst 3, 1) := dk_6 (dk_at dksX0_key_1 6 rfl rfl)
theorem dX0_key_30 : decode cX0_key 30 = .ok (.ireturn, 1) := dk_172 (dk_at dksX0_key_1 7 rfl rfl)
theorem dX0_key_31 : decode cX0_key 31 = .ok (.iconst 0, 1) := dk_3 (dk_at dksX0_key_1 8 rfl rfl)
theorem dX0_key_32 : decode cX0_key 32 = .ok (.ireturn, 1) := dk_172 (dk_at dksX0_key_1 9 rfl rfl)
abbrev cX0_unkey : ByteArray := method_15_code
def yX0_unkey : MethodName := ⟨RX0, "unkey", "(LShapelayer;III[J)I"⟩
def dkwX0_unkey_1 : List UInt8 := [172]
abbrev dktX0_unkey_1 : List UInt8 := dkwX0_unkey_1 ++ []
def dkwX0_unkey_0 : List UInt8 := [25, 4, 3, 42, 27, 28, 29, 182, 0, 58, 133, 80, 167, 0, 11, 58, 5, 4, 172, 58, 5, 5, 172, 3]
abbrev dktX0_unkey_0 : List UInt8 := dkwX0_unkey_0 ++ dktX0_unkey_1
theorem dksX0_unkey_0 : cX0_unkey.data.toList.drop 0 = dktX0_unkey_0 := by decide +kernel
theorem dksX0_unkey_1 : cX0_unkey.data.toList.drop 24 = dktX0_unkey_1 := dk_seg dksX0_unkey_0 24 rfl rfl
theorem dX0_unkey_0 : decode cX0_unkey 0 = .ok (.aload 4, 2) := dk_25 4 (dk_at dksX0_unkey_0 0 rfl rfl)
theorem dX0_unkey_2 : decode cX0_unkey 2 = .ok (.iconst 0, 1) := dk_3 (dk_at dksX0_unkey_0 2 rfl rfl)
theorem dX0_unkey_3 : decode cX0_unkey 3 = .ok (.aload_n 0, 1) := dk_42 (dk_at dksX0_unkey_0 3 rfl rfl)
theorem dX0_unkey_4 : decode cX0_unkey 4 = .ok (.iload_n 1, 1) := dk_27 (dk_at dksX0_unkey_0 4 rfl rfl)
theorem dX0_unkey_5 : decode cX0_unkey 5 = .ok (.iload_n 2, 1) := dk_28 (dk_at dksX0_unkey_0 5 rfl rfl)
theorem dX0_unkey_6 : decode cX0_unkey 6 = .ok (.iload_n 3, 1) := dk_29 (dk_at dksX0_unkey_0 6 rfl rfl)
theorem dX0_unkey_7 : decode cX0_unkey 7 = .ok (.invokevirtual 58, 3) := dk_182 0 58 (dk_at dksX0_unkey_0 7 rfl rfl)
theorem dX0_unkey_10 : decode cX0_unkey 10 = .ok (.i2l, 1) := dk_133 (dk_at dksX0_unkey_0 10 rfl rfl)
theorem dX0_unkey_11 : decode cX0_unkey 11 = .ok (.lastore, 1) := dk_80 (dk_at dksX0_unkey_0 11 rfl rfl)
theorem dX0_unkey_12 : decode cX0_unkey 12 = .ok (.goto 11, 3) := dk_167 0 11 (dk_at dksX0_unkey_0 12 rfl rfl)
theorem dX0_unkey_15 : decode cX0_unkey 15 = .ok (.astore 5, 2) := dk_58 5 (dk_at dksX0_unkey_0 15 rfl rfl)
theorem dX0_unkey_17 : decode cX0_unkey 17 = .ok (.iconst 1, 1) := dk_4 (dk_at dksX0_unkey_0 17 rfl rfl)
theorem dX0_unkey_18 : decode cX0_unkey 18 = .ok (.ireturn, 1) := dk_172 (dk_at dksX0_unkey_0 18 rfl rfl)
theorem dX0_unkey_19 : decode cX0_unkey 19 = .ok (.astore 5, 2) := dk_58 5 (dk_at dksX0_unkey_0 19 rfl rfl)
theorem dX0_unkey_21 : decode cX0_unkey 21 = .ok (.iconst 2, 1) := dk_5 (dk_at dksX0_unkey_0 21 rfl rfl)
theorem dX0_unkey_22 : decode cX0_unkey 22 = .ok (.ireturn, 1) := dk_172 (dk_at dksX0_unkey_0 22 rfl rfl)
theorem dX0_unkey_23 : decode cX0_unkey 23 = .ok (.iconst 0, 1) := dk_3 (dk_at dksX0_unkey_0 23 rfl rfl)
theorem dX0_unkey_24 : decode cX0_unkey 24 = .ok (.ireturn, 1) := dk_172 (dk_at dksX0_unkey_1 0 rfl rfl)
abbrev cX0_value : ByteArray := method_16_code
def yX0_value : MethodName := ⟨RX0, "value", "(LShapelayer;III[J)I"⟩
def dkwX0_value_1 : List UInt8 := [172]
abbrev dktX0_value_1 : List UInt8 := dkwX0_value_1 ++ []
def dkwX0_value_0 : List UInt8 := [25, 4, 3, 42, 27, 28, 29, 182, 0, 63, 133, 80, 167, 0, 11, 58, 5, 4, 172, 58, 5, 5, 172, 3]
abbrev dktX0_value_0 : List UInt8 := dkwX0_value_0 ++ dktX0_value_1
theorem dksX0_value_0 : cX0_value.data.toList.drop 0 = dktX0_value_0 := by decide +kernel
theorem dksX0_value_1 : cX0_value.data.toList.drop 24 = dktX0_value_1 := dk_seg dksX0_value_0 24 rfl rfl
theorem dX0_value_0 : decode cX0_value 0 = .ok (.aload 4, 2) := dk_25 4 (dk_at dksX0_value_0 0 rfl rfl)
theorem dX0_value_2 : decode cX0_value 2 = .ok (.iconst 0, 1) := dk_3 (dk_at dksX0_value_0 2 rfl rfl)
theorem dX0_value_3 : decode cX0_value 3 = .ok (.aload_n 0, 1) := dk_42 (dk_at dksX0_value_0 3 rfl rfl)
theorem dX0_value_4 : decode cX0_value 4 = .ok (.iload_n 1, 1) := dk_27 (dk_at dksX0_value_0 4 rfl rfl)
theorem dX0_value_5 : decode cX0_value 5 = .ok (.iload_n 2, 1) := dk_28 (dk_at dksX0_value_0 5 rfl rfl)
theorem dX0_value_6 : decode cX0_value 6 = .ok (.iload_n 3, 1) := dk_29 (dk_at dksX0_value_0 6 rfl rfl)
theorem dX0_value_7 : decode cX0_value 7 = .ok (.invokevirtual 63, 3) := dk_182 0 63 (dk_at dksX0_value_0 7 rfl rfl)
theorem dX0_value_10 : decode cX0_value 10 = .ok (.i2l, 1) := dk_133 (dk_at dksX0_value_0 10 rfl rfl)
theorem dX0_value_11 : decode cX0_value 11 = .ok (.lastore, 1) := dk_80 (dk_at dksX0_value_0 11 rfl rfl)
theorem dX0_value_12 : decode cX0_value 12 = .ok (.goto 11, 3) := dk_167 0 11 (dk_at dksX0_value_0 12 rfl rfl)
theorem dX0_value_15 : decode cX0_value 15 = .ok (.astore 5, 2) := dk_58 5 (dk_at dksX0_value_0 15 rfl rfl)
theorem dX0_value_17 : decode cX0_value 17 = .ok (.iconst 1, 1) := dk_4 (dk_at dksX0_value_0 17 rfl rfl)
theorem dX0_value_18 : decode cX0_value 18 = .ok (.ireturn, 1) := dk_172 (dk_at dksX0_value_0 18 rfl rfl)
theorem dX0_value_19 : decode cX0_value 19 = .ok (.astore 5, 2) := dk_58 5 (dk_at dksX0_value_0 19 rfl rfl)
theorem dX0_value_21 : decode cX0_value 21 = .ok (.iconst 2, 1) := dk_5 (dk_at dksX0_value_0 21 rfl rfl)
theorem dX0_value_22 : decode cX0_value 22 = .ok (.ireturn, 1) := dk_172 (dk_at dksX0_value_0 22 rfl rfl)
theorem dX0_value_23 : decode cX0_value 23 = .ok (.iconst 0, 1) := dk_3 (dk_at dksX0_value_0 23 rfl rfl)
theorem dX0_value_24 : decode cX0_value 24 = .ok (.ireturn, 1) := dk_172 (dk_at dksX0_value_1 0 rfl rfl)
abbrev cX0_map : ByteArray := method_17_code
def yX0_map : MethodName := ⟨RX0, "map", "(LShapelayer;IIIIZ[J)I"⟩
def dkwX0_map_1 : List UInt8 := [5, 172, 3, 172]
abbrev dktX0_map_1 : List UInt8 := dkwX0_map_1 ++ []
def dkwX0_map_0 : List UInt8 := [25, 6, 3, 42, 27, 28, 29, 21, 4, 21, 5, 182, 0, 66, 80, 167, 0, 11, 58, 7, 4, 172, 58, 7]
abbrev dktX0_map_0 : List UInt8 := dkwX0_map_0 ++ dktX0_map_1
theorem dksX0_map_0 : cX0_map.data.toList.drop 0 = dktX0_map_0 := by decide +kernel
theorem dksX0_map_1 : cX0_map.data.toList.drop 24 = dktX0_map_1 := dk_seg dksX0_map_0 24 rfl rfl
theorem dX0_map_0 : decode cX0_map 0 = .ok (.aload 6, 2) := dk_25 6 (dk_at dksX0_map_0 0 rfl rfl)
theorem dX0_map_2 : decode cX0_map 2 = .ok (.iconst 0, 1) := dk_3 (dk_at dksX0_map_0 2 rfl rfl)
theorem dX0_map_3 : decode cX0_map 3 = .ok (.aload_n 0, 1) := dk_42 (dk_at dksX0_map_0 3 rfl rfl)
theorem dX0_map_4 : decode cX0_map 4 = .ok (.iload_n 1, 1) := dk_27 (dk_at dksX0_map_0 4 rfl rfl)
theorem dX0_map_5 : decode cX0_map 5 = .ok (.iload_n 2, 1) := dk_28 (dk_at dksX0_map_0 5 rfl rfl)
theorem dX0_map_6 : decode cX0_map 6 = .ok (.iload_n 3, 1) := dk_29 (dk_at dksX0_map_0 6 rfl rfl)
theorem dX0_map_7 : decode cX0_map 7 = .ok (.iload 4, 2) := dk_21 4 (dk_at dksX0_map_0 7 rfl rfl)
theorem dX0_map_9 : decode cX0_map 9 = .ok (.iload 5, 2) := dk_21 5 (dk_at dksX0_map_0 9 rfl rfl)
theorem dX0_map_11 : decode cX0_map 11 = .ok (.invokevirtual 66, 3) := dk_182 0 66 (dk_at dksX0_map_0 11 rfl rfl)
theorem dX0_map_14 : decode cX0_map 14 = .ok (.lastore, 1) := dk_80 (dk_at dksX0_map_0 14 rfl rfl)
theorem dX0_map_15 : decode cX0_map 15 = .ok (.goto 11, 3) := dk_167 0 11 (dk_at dksX0_map_0 15 rfl rfl)
theorem dX0_map_18 : decode cX0_map 18 = .ok (.astore 7, 2) := dk_58 7 (dk_at dksX0_map_0 18 rfl rfl)
theorem dX0_map_20 : decode cX0_map 20 = .ok (.iconst 1, 1) := dk_4 (dk_at dksX0_map_0 20 rfl rfl)
theorem dX0_map_21 : decode cX0_map 21 = .ok (.ireturn, 1) := dk_172 (dk_at dksX0_map_0 21 rfl rfl)
theorem dX0_map_22 : decode cX0_map 22 = .ok (.astore 7, 2) := dk_58 7 (dk_at dksX0_map_0 22 rfl rfl)
theorem dX0_map_24 : decode cX0_map 24 = .ok (.iconst 2, 1) := dk_5 (dk_at dksX0_map_1 0 rfl rfl)
theorem dX0_map_25 : decode cX0_map 25 = .ok (.ireturn, 1) := dk_172 (dk_at dksX0_map_1 1 rfl rfl)
theorem dX0_map_26 : decode cX0_map 26 = .ok (.iconst 0, 1) := dk_3 (dk_at dksX0_map_1 2 rfl rfl)
theorem dX0_map_27 : decode cX0_map 27 = .ok (.ireturn, 1) := dk_172 (dk_at dksX0_map_1 3 rfl rfl)
abbrev cX0_left : ByteArray := method_18_code
def yX0_left : MethodName := ⟨RX0, "left", "(LShapelayer;II[J)I"⟩
def dkwX0_left_0 : List UInt8 := [45, 3, 42, 27, 28, 182, 0, 70, 133, 80, 167, 0, 11, 58, 4, 4, 172, 58, 4, 5, 172, 3, 172]
abbrev dktX0_left_0 : List UInt8 := dkwX0_left_0 ++ []
theorem dksX0_left_0 : cX0_left.data.toList.drop 0 = dktX0_left_0 := by decide +kernel
theorem dX0_left_0 : decode cX0_left 0 = .ok (.aload_n 3, 1) := dk_45 (dk_at dksX0_left_0 0 rfl rfl)
theorem dX0_left_1 : decode cX0_left 1 = .ok (.iconst 0, 1) := dk_3 (dk_at dksX0_left_0 1 rfl rfl)
theorem dX0_left_2 : decode cX0_left 2 = .ok (.aload_n 0, 1) := dk_42 (dk_at dksX0_left_0 2 rfl rfl)
theorem dX0_left_3 : decode cX0_left 3 = .ok (.iload_n 1, 1) := dk_27 (dk_at dksX0_left_0 3 rfl rfl)
theorem dX0_left_4 : decode cX0_left 4 = .ok (.iload_n 2, 1) := dk_28 (dk_at dksX0_left_0 4 rfl rfl)
theorem dX0_left_5 : decode cX0_left 5 = .ok (.invokevirtual 70, 3) := dk_182 0 70 (dk_at dksX0_left_0 5 rfl rfl)
theorem dX0_left_8 : decode cX0_left 8 = .ok (.i2l, 1) := dk_133 (dk_at dksX0_left_0 8 rfl rfl)
theorem dX0_left_9 : decode cX0_left 9 = .ok (.lastore, 1) := dk_80 (dk_at dksX0_left_0 9 rfl rfl)
theorem dX0_left_10 : decode cX0_left 10 = .ok (.goto 11, 3) := dk_167 0 11 (dk_at dksX0_left_0 10 rfl rfl)
theorem dX0_left_13 : decode cX0_left 13 = .ok (.astore 4, 2) := dk_58 4 (dk_at dksX0_left_0 13 rfl rfl)
theorem dX0_left_15 : decode cX0_left 15 = .ok (.iconst 1, 1) := dk_4 (dk_at dksX0_left_0 15 rfl rfl)
theorem dX0_left_16 : decode cX0_left 16 = .ok (.ireturn, 1) := dk_172 (dk_at dksX0_left_0 16 rfl rfl)
theorem dX0_left_17 : decode cX0_left 17 = .ok (.astore 4, 2) := dk_58 4 (dk_at dksX0_left_0 17 rfl rfl)
theorem dX0_left_19 : decode cX0_left 19 = .ok (.iconst 2, 1) := dk_5 (dk_at dksX0_left_0 19 rfl rfl)
theorem dX0_left_20 : decode cX0_left 20 = .ok (.ireturn, 1) := dk_172 (dk_at dksX0_left_0 20 rfl rfl)
theorem dX0_left_21 : decode cX0_left 21 = .ok (.iconst 0, 1) := dk_3 (dk_at dksX0_left_0 21 rfl rfl)
theorem dX0_left_22 : decode cX0_left 22 = .ok (.ireturn, 1) := dk_172 (dk_at dksX0_left_0 22 rfl rfl)
abbrev cX0_cell : ByteArray := method_19_code
def yX0_cell : MethodName := ⟨RX0, "cell", "(LShapelayer;IIII[J)I"⟩
def dkwX0_cell_1 : List UInt8 := [172, 3, 172]
abbrev dktX0_cell_1 : List UInt8 := dkwX0_cell_1 ++ []
def dkwX0_cell_0 : List UInt8 := [25, 5, 3, 42, 27, 28, 29, 21, 4, 182, 0, 73, 133, 80, 167, 0, 11, 58, 6, 4, 172, 58, 6, 5]
abbrev dktX0_cell_0 : List UInt8 := dkwX0_cell_0 ++ dktX0_cell_1
theorem dksX0_cell_0 : cX0_cell.data.toList.drop 0 = dktX0_cell_0 := by decide +kernel
theorem dksX0_cell_1 : cX0_cell.data.toList.drop 24 = dktX0_cell_1 := dk_seg dksX0_cell_0 24 rfl rfl
theorem dX0_cell_0 : decode cX0_cell 0 = .ok (.aload 5, 2) := dk_25 5 (dk_at dksX0_cell_0 0 rfl rfl)
theorem dX0_cell_2 : decode cX0_cell 2 = .ok (.iconst 0, 1) := dk_3 (dk_at dksX0_cell_0 2 rfl rfl)
theorem dX0_cell_3 : decode cX0_cell 3 = .ok (.aload_n 0, 1) := dk_42 (dk_at dksX0_cell_0 3 rfl rfl)
theorem dX0_cell_4 : decode cX0_cell 4 = .ok (.iload_n 1, 1) := dk_27 (dk_at dksX0_cell_0 4 rfl rfl)
theorem dX0_cell_5 : decode cX0_cell 5 = .ok (.iload_n 2, 1) := dk_28 (dk_at dksX0_cell_0 5 rfl rfl)
theorem dX0_cell_6 : decode cX0_cell 6 = .ok (.iload_n 3, 1) := dk_29 (dk_at dksX0_cell_0 6 rfl rfl)
theorem dX0_cell_7 : decode cX0_cell 7 = .ok (.iload 4, 2) := dk_21 4 (dk_at dksX0_cell_0 7 rfl rfl)
theorem dX0_cell_9 : decode cX0_cell 9 = .ok (.invokevirtual 73, 3) := dk_182 0 73 (dk_at dksX0_cell_0 9 rfl rfl)
theorem dX0_cell_12 : decode cX0_cell 12 = .ok (.i2l, 1) := dk_133 (dk_at dksX0_cell_0 12 rfl rfl)
theorem dX0_cell_13 : decode cX0_cell 13 = .ok (.lastore, 1) := dk_80 (dk_at dksX0_cell_0 13 rfl rfl)
theorem dX0_cell_14 : decode cX0_cell 14 = .ok (.goto 11, 3) := dk_167 0 11 (dk_at dksX0_cell_0 14 rfl rfl)
theorem dX0_cell_17 : decode cX0_cell 17 = .ok (.astore 6, 2) := dk_58 6 (dk_at dksX0_cell_0 17 rfl rfl)
theorem dX0_cell_19 : decode cX0_cell 19 = .ok (.iconst 1, 1) := dk_4 (dk_at dksX0_cell_0 19 rfl rfl)
theorem dX0_cell_20 : decode cX0_cell 20 = .ok (.ireturn, 1) := dk_172 (dk_at dksX0_cell_0 20 rfl rfl)
theorem dX0_cell_21 : decode cX0_cell 21 = .ok (.astore 6, 2) := dk_58 6 (dk_at dksX0_cell_0 21 rfl rfl)
theorem dX0_cell_23 : decode cX0_cell 23 = .ok (.iconst 2, 1) := dk_5 (dk_at dksX0_cell_0 23 rfl rfl)
theorem dX0_cell_24 : decode cX0_cell 24 = .ok (.ireturn, 1) := dk_172 (dk_at dksX0_cell_1 0 rfl rfl)
theorem dX0_cell_25 : decode cX0_cell 25 = .ok (.iconst 0, 1) := dk_3 (dk_at dksX0_cell_1 1 rfl rfl)
theorem dX0_cell_26 : decode cX0_cell 26 = .ok (.ireturn, 1) := dk_172 (dk_at dksX0_cell_1 2 rfl rfl)
abbrev cX0_covered : ByteArray := method_20_code
def yX0_covered : MethodName := ⟨RX0, "covered", "(LShapelayer;II[J)I"⟩
def dkwX0_covered_0 : List UInt8 := [45, 3, 42, 27, 28, 182, 0, 76, 133, 80, 167, 0, 11, 58, 4, 4, 172, 58, 4, 5, 172, 3, 172]
abbrev dktX0_covered_0 : List UInt8 := dkwX0_covered_0 ++ []
theorem dksX0_covered_0 : cX0_covered.data.toList.drop 0 = dktX0_covered_0 := by decide +kernel
theorem dX0_covered_0 : decode cX0_covered 0 = .ok (.aload_n 3, 1) := dk_45 (dk_at dksX0_covered_0 0 rfl rfl)
theorem dX0_covered_1 : decode cX0_covered 1 = .ok (.iconst 0, 1) := dk_3 (dk_at dksX0_covered_0 1 rfl rfl)
theorem dX0_covered_2 : decode cX0_covered 2 = .ok (.aload_n 0, 1) := dk_42 (dk_at dksX0_covered_0 2 rfl rfl)
theorem dX0_covered_3 : decode cX0_covered 3 = .ok (.iload_n 1, 1) := dk_27 (dk_at dksX0_covered_0 3 rfl rfl)
theorem dX0_covered_4 : decode cX0_covered 4 = .ok (.iload_n 2, 1) := dk_28 (dk_at dksX0_covered_0 4 rfl rfl)
theorem dX0_covered_5 : decode cX0_covered 5 = .ok (.invokevirtual 76, 3) := dk_182 0 76 (dk_at dksX0_covered_0 5 rfl rfl)
theorem dX0_covered_8 : decode cX0_covered 8 = .ok (.i2l, 1) := dk_133 (dk_at dksX0_covered_0 8 rfl rfl)
theorem dX0_covered_9 : decode cX0_covered 9 = .ok (.lastore, 1) := dk_80 (dk_at dksX0_covered_0 9 rfl rfl)
theorem dX0_covered_10 : decode cX0_covered 10 = .ok (.goto 11, 3) := dk_167 0 11 (dk_at dksX0_covered_0 10 rfl rfl)
theorem dX0_covered_13 : decode cX0_covered 13 = .ok (.astore 4, 2) := dk_58 4 (dk_at dksX0_covered_0 13 rfl rfl)
theorem dX0_covered_15 : decode cX0_covered 15 = .ok (.iconst 1, 1) := dk_4 (dk_at dksX0_covered_0 15 rfl rfl)
theorem dX0_covered_16 : decode cX0_covered 16 = .ok (.ireturn, 1) := dk_172 (dk_at dksX0_covered_0 16 rfl rfl)
theorem dX0_covered_17 : decode cX0_covered 17 = .ok (.astore 4, 2) := dk_58 4 (dk_at dksX0_covered_0 17 rfl rfl)
theorem dX0_covered_19 : decode cX0_covered 19 = .ok (.iconst 2, 1) := dk_5 (dk_at dksX0_covered_0 19 rfl rfl)
theorem dX0_covered_20 : decode cX0_covered 20 = .ok (.ireturn, 1) := dk_172 (dk_at dksX0_covered_0 20 rfl rfl)
theorem dX0_covered_21 : decode cX0_covered 21 = .ok (.iconst 0, 1) := dk_3 (dk_at dksX0_covered_0 21 rfl rfl)
theorem dX0_covered_22 : decode cX0_covered 22 = .ok (.ireturn, 1) := dk_172 (dk_at dksX0_covered_0 22 rfl rfl)
abbrev cX0_checksum : ByteArray := method_21_code
def yX0_checksum : MethodName := ⟨RX0, "checksum", "(LShapelayer;II[J)I"⟩
def dkwX0_checksum_0 : List UInt8 := [45, 3, 42, 27, 28, 182, 0, 79, 133, 80, 167, 0, 11, 58, 4, 4, 172, 58, 4, 5, 172, 3, 172]
abbrev dktX0_checksum_0 : List UInt8 := dkwX0_checksum_0 ++ []
theorem dksX0_checksum_0 : cX0_checksum.data.toList.drop 0 = dktX0_checksum_0 := by decide +kernel
theorem dX0_checksum_0 : decode cX0_checksum 0 = .ok (.aload_n 3, 1) := dk_45 (dk_at dksX0_checksum_0 0 rfl rfl)
theorem dX0_checksum_1 : decode cX0_checksum 1 = .ok (.iconst 0, 1) := dk_3 (dk_at dksX0_checksum_0 1 rfl rfl)
theorem dX0_checksum_2 : decode cX0_checksum 2 = .ok (.aload_n 0, 1) := dk_42 (dk_at dksX0_checksum_0 2 rfl rfl)
theorem dX0_checksum_3 : decode cX0_checksum 3 = .ok (.iload_n 1, 1) := dk_27 (dk_at dksX0_checksum_0 3 rfl rfl)
theorem dX0_checksum_4 : decode cX0_checksum 4 = .ok (.iload_n 2, 1) := dk_28 (dk_at dksX0_checksum_0 4 rfl rfl)
theorem dX0_checksum_5 : decode cX0_checksum 5 = .ok (.invokevirtual 79, 3) := dk_182 0 79 (dk_at dksX0_checksum_0 5 rfl rfl)
theorem dX0_checksum_8 : decode cX0_checksum 8 = .ok (.i2l, 1) := dk_133 (dk_at dksX0_checksum_0 8 rfl rfl)
theorem dX0_checksum_9 : decode cX0_checksum 9 = .ok (.lastore, 1) := dk_80 (dk_at dksX0_checksum_0 9 rfl rfl)
theorem dX0_checksum_10 : decode cX0_checksum 10 = .ok (.goto 11, 3) := dk_167 0 11 (dk_at dksX0_checksum_0 10 rfl rfl)
theorem dX0_checksum_13 : decode cX0_checksum 13 = .ok (.astore 4, 2) := dk_58 4 (dk_at dksX0_checksum_0 13 rfl rfl)
theorem dX0_checksum_15 : decode cX0_checksum 15 = .ok (.iconst 1, 1) := dk_4 (dk_at dksX0_checksum_0 15 rfl rfl)
theorem dX0_checksum_16 : decode cX0_checksum 16 = .ok (.ireturn, 1) := dk_172 (dk_at dksX0_checksum_0 16 rfl rfl)
theorem dX0_checksum_17 : decode cX0_checksum 17 = .ok (.astore 4, 2) := dk_58 4 (dk_at dksX0_checksum_0 17 rfl rfl)
theorem dX0_checksum_19 : decode cX0_checksum 19 = .ok (.iconst 2, 1) := dk_5 (dk_at dksX0_checksum_0 19 rfl rfl)
theorem dX0_checksum_20 : decode cX0_checksum 20 = .ok (.ireturn, 1) := dk_172 (dk_at dksX0_checksum_0 20 rfl rfl)
theorem dX0_checksum_21 : decode cX0_checksum 21 = .ok (.iconst 0, 1) := dk_3 (dk_at dksX0_checksum_0 21 rfl rfl)
theorem dX0_checksum_22 : decode cX0_checksum 22 = .ok (.ireturn, 1) := dk_172 (dk_at dksX0_checksum_0 22 rfl rfl)
abbrev cX0_playErrors : ByteArray := method_22_code
def yX0_playErrors : MethodName := ⟨RX0, "playErrors", "(LShapelayer;III[J)I"⟩
def dkwX0_playErrors_1 : List UInt8 := [172]
abbrev dktX0_playErrors_1 : List UInt8 := dkwX0_playErrors_1 ++ []
def dkwX0_playErrors_0 : List UInt8 := [25, 4, 3, 42, 27, 28, 29, 182, 0, 82, 133, 80, 167, 0, 11, 58, 5, 4, 172, 58, 5, 5, 172, 3]
abbrev dktX0_playErrors_0 : List UInt8 := dkwX0_playErrors_0 ++ dktX0_playErrors_1
theorem dksX0_playErrors_0 : cX0_playErrors.data.toList.drop 0 = dktX0_playErrors_0 := by decide +kernel
theorem dksX0_playErrors_1 : cX0_playErrors.data.toList.drop 24 = dktX0_playErrors_1 := dk_seg dksX0_playErrors_0 24 rfl rfl
theorem dX0_playErrors_0 : decode cX0_playErrors 0 = .ok (.aload 4, 2) := dk_25 4 (dk_at dksX0_playErrors_0 0 rfl rfl)
theorem dX0_playErrors_2 : decode cX0_playErrors 2 = .ok (.iconst 0, 1) := dk_3 (dk_at dksX0_playErrors_0 2 rfl rfl)
theorem dX0_playErrors_3 : decode cX0_playErrors 3 = .ok (.aload_n 0, 1) := dk_42 (dk_at dksX0_playErrors_0 3 rfl rfl)
theorem dX0_playErrors_4 : decode cX0_playErrors 4 = .ok (.iload_n 1, 1) := dk_27 (dk_at dksX0_playErrors_0 4 rfl rfl)
theorem dX0_playErrors_5 : decode cX0_playErrors 5 = .ok (.iload_n 2, 1) := dk_28 (dk_at dksX0_playErrors_0 5 rfl rfl)
theorem dX0_playErrors_6 : decode cX0_playErrors 6 = .ok (.iload_n 3, 1) := dk_29 (dk_at dksX0_playErrors_0 6 rfl rfl)
theorem dX0_playErrors_7 : decode cX0_playErrors 7 = .ok (.invokevirtual 82, 3) := dk_182 0 82 (dk_at dksX0_playErrors_0 7 rfl rfl)
theorem dX0_playErrors_10 : decode cX0_playErrors 10 = .ok (.i2l, 1) := dk_133 (dk_at dksX0_playErrors_0 10 rfl rfl)
theorem dX0_playErrors_11 : decode cX0_playErrors 11 = .ok (.lastore, 1) := dk_80 (dk_at dksX0_playErrors_0 11 rfl rfl)
theorem dX0_playErrors_12 : decode cX0_playErrors 12 = .ok (.goto 11, 3) := dk_167 0 11 (dk_at dksX0_playErrors_0 12 rfl rfl)
theorem dX0_playErrors_15 : decode cX0_playErrors 15 = .ok (.astore 5, 2) := dk_58 5 (dk_at dksX0_playErrors_0 15 rfl rfl)
theorem dX0_playErrors_17 : decode cX0_playErrors 17 = .ok (.iconst 1, 1) := dk_4 (dk_at dksX0_playErrors_0 17 rfl rfl)
theorem dX0_playErrors_18 : decode cX0_playErrors 18 = .ok (.ireturn, 1) := dk_172 (dk_at dksX0_playErrors_0 18 rfl rfl)
theorem dX0_playErrors_19 : decode cX0_playErrors 19 = .ok (.astore 5, 2) := dk_58 5 (dk_at dksX0_playErrors_0 19 rfl rfl)
theorem dX0_playErrors_21 : decode cX0_playErrors 21 = .ok (.iconst 2, 1) := dk_5 (dk_at dksX0_playErrors_0 21 rfl rfl)
theorem dX0_playErrors_22 : decode cX0_playErrors 22 = .ok (.ireturn, 1) := dk_172 (dk_at dksX0_playErrors_0 22 rfl rfl)
theorem dX0_playErrors_23 : decode cX0_playErrors 23 = .ok (.iconst 0, 1) := dk_3 (dk_at dksX0_playErrors_0 23 rfl rfl)
theorem dX0_playErrors_24 : decode cX0_playErrors 24 = .ok (.ireturn, 1) := dk_172 (dk_at dksX0_playErrors_1 0 rfl rfl)
abbrev cX0_writeRow : ByteArray := method_23_code
def yX0_writeRow : MethodName := ⟨RX0, "writeRow", "(LShapelayer;III[J)I"⟩
def dkwX0_writeRow_1 : List UInt8 := [172]
abbrev dktX0_writeRow_1 : List UInt8 := dkwX0_writeRow_1 ++ []
def dkwX0_writeRow_0 : List UInt8 := [25, 4, 3, 42, 27, 28, 29, 182, 0, 85, 133, 80, 167, 0, 11, 58, 5, 4, 172, 58, 5, 5, 172, 3]
abbrev dktX0_writeRow_0 : List UInt8 := dkwX0_writeRow_0 ++ dktX0_writeRow_1
theorem dksX0_writeRow_0 : cX0_writeRow.data.toList.drop 0 = dktX0_writeRow_0 := by decide +kernel
theorem dksX0_writeRow_1 : cX0_writeRow.data.toList.drop 24 = dktX0_writeRow_1 := dk_seg dksX0_writeRow_0 24 rfl rfl
theorem dX0_writeRow_0 : decode cX0_writeRow 0 = .ok (.aload 4, 2) := dk_25 4 (dk_at dksX0_writeRow_0 0 rfl rfl)
theorem dX0_writeRow_2 : decode cX0_writeRow 2 = .ok (.iconst 0, 1) := dk_3 (dk_at dksX0_writeRow_0 2 rfl rfl)
theorem dX0_writeRow_3 : decode cX0_writeRow 3 = .ok (.aload_n 0, 1) := dk_42 (dk_at dksX0_writeRow_0 3 rfl rfl)
theorem dX0_writeRow_4 : decode cX0_writeRow 4 = .ok (.iload_n 1, 1) := dk_27 (dk_at dksX0_writeRow_0 4 rfl rfl)
theorem dX0_writeRow_5 : decode cX0_writeRow 5 = .ok (.iload_n 2, 1) := dk_28 (dk_at dksX0_writeRow_0 5 rfl rfl)
theorem dX0_writeRow_6 : decode cX0_writeRow 6 = .ok (.iload_n 3, 1) := dk_29 (dk_at dksX0_writeRow_0 6 rfl rfl)
theorem dX0_writeRow_7 : decode cX0_writeRow 7 = .ok (.invokevirtual 85, 3) := dk_182 0 85 (dk_at dksX0_writeRow_0 7 rfl rfl)
theorem dX0_writeRow_10 : decode cX0_writeRow 10 = .ok (.i2l, 1) := dk_133 (dk_at dksX0_writeRow_0 10 rfl rfl)
theorem dX0_writeRow_11 : decode cX0_writeRow 11 = .ok (.lastore, 1) := dk_80 (dk_at dksX0_writeRow_0 11 rfl rfl)
theorem dX0_writeRow_12 : decode cX0_writeRow 12 = .ok (.goto 11, 3) := dk_167 0 11 (dk_at dksX0_writeRow_0 12 rfl rfl)
theorem dX0_writeRow_15 : decode cX0_writeRow 15 = .ok (.astore 5, 2) := dk_58 5 (dk_at dksX0_writeRow_0 15 rfl rfl)
theorem dX0_writeRow_17 : decode cX0_writeRow 17 = .ok (.iconst 1, 1) := dk_4 (dk_at dksX0_writeRow_0 17 rfl rfl)
theorem dX0_writeRow_18 : decode cX0_writeRow 18 = .ok (.ireturn, 1) := dk_172 (dk_at dksX0_writeRow_0 18 rfl rfl)
theorem dX0_writeRow_19 : decode cX0_writeRow 19 = .ok (.astore 5, 2) := dk_58 5 (dk_at dksX0_writeRow_0 19 rfl rfl)
theorem dX0_writeRow_21 : decode cX0_writeRow 21 = .ok (.iconst 2, 1) := dk_5 (dk_at dksX0_writeRow_0 21 rfl rfl)
theorem dX0_writeRow_22 : decode cX0_writeRow 22 = .ok (.ireturn, 1) := dk_172 (dk_at dksX0_writeRow_0 22 rfl rfl)
theorem dX0_writeRow_23 : decode cX0_writeRow 23 = .ok (.iconst 0, 1) := dk_3 (dk_at dksX0_writeRow_0 23 rfl rfl)
theorem dX0_writeRow_24 : decode cX0_writeRow 24 = .ok (.ireturn, 1) := dk_172 (dk_at dksX0_writeRow_1 0 rfl rfl)
abbrev cX0_write : ByteArray := method_24_code
def yX0_write : MethodName := ⟨RX0, "write", "(LShapelayer;I[J)I"⟩
def dkwX0_write_0 : List UInt8 := [44, 3, 42, 27, 182, 0, 88, 133, 80, 167, 0, 6, 78, 4, 172, 3, 172]
abbrev dktX0_write_0 : List UInt8 := dkwX0_write_0 ++ []
theorem dksX0_write_0 : cX0_write.data.toList.drop 0 = dktX0_write_0 := by decide +kernel
theorem dX0_write_0 : decode cX0_write 0 = .ok (.aload_n 2, 1) := dk_44 (dk_at dksX0_write_0 0 rfl rfl)
theorem dX0_write_1 : decode cX0_write 1 = .ok (.iconst 0, 1) := dk_3 (dk_at dksX0_write_0 1 rfl rfl)
theorem dX0_write_2 : decode cX0_write 2 = .ok (.aload_n 0, 1) := dk_42 (dk_at dksX0_write_0 2 rfl rfl)
theorem dX0_write_3 : decode cX0_write 3 = .ok (.iload_n 1, 1) := dk_27 (dk_at dksX0_write_0 3 rfl rfl)
theorem dX0_write_4 : decode cX0_write 4 = .ok (.invokevirtual 88, 3) := dk_182 0 88 (dk_at dksX0_write_0 4 rfl rfl)
theorem dX0_write_7 : decode cX0_write 7 = .ok (.i2l, 1) := dk_133 (dk_at dksX0_write_0 7 rfl rfl)
theorem dX0_write_8 : decode cX0_write 8 = .ok (.lastore, 1) := dk_80 (dk_at dksX0_write_0 8 rfl rfl)
theorem dX0_write_9 : decode cX0_write 9 = .ok (.goto 6, 3) := dk_167 0 6 (dk_at dksX0_write_0 9 rfl rfl)
theorem dX0_write_12 : decode cX0_write 12 = .ok (.astore_n 3, 1) := dk_78 (dk_at dksX0_write_0 12 rfl rfl)
theorem dX0_write_13 : decode cX0_write 13 = .ok (.iconst 1, 1) := dk_4 (dk_at dksX0_write_0 13 rfl rfl)
theorem dX0_write_14 : decode cX0_write 14 = .ok (.ireturn, 1) := dk_172 (dk_at dksX0_write_0 14 rfl rfl)
theorem dX0_write_15 : decode cX0_write 15 = .ok (.iconst 0, 1) := dk_3 (dk_at dksX0_write_0 15 rfl rfl)
theorem dX0_write_16 : decode cX0_write 16 = .ok (.ireturn, 1) := dk_172 (dk_at dksX0_write_0 16 rfl rfl)
abbrev cX0_coveredPart : ByteArray := method_25_code
def yX0_coveredPart : MethodName := ⟨RX0, "coveredPart", "(LShapelayer;II[D)I"⟩
def dkwX0_coveredPart_0 : List UInt8 := [45, 3, 42, 27, 28, 182, 0, 91, 141, 82, 167, 0, 11, 58, 4, 4, 172, 58, 4, 5, 172, 3, 172]
abbrev dktX0_coveredPart_0 : List UInt8 := dkwX0_coveredPart_0 ++ []
theorem dksX0_coveredPart_0 : cX0_coveredPart.data.toList.drop 0 = dktX0_coveredPart_0 := by decide +kernel
theorem dX0_coveredPart_0 : decode cX0_coveredPart 0 = .ok (.aload_n 3, 1) := dk_45 (dk_at dksX0_coveredPart_0 0 rfl rfl)
theorem dX0_coveredPart_1 : decode cX0_coveredPart 1 = .ok (.iconst 0, 1) := dk_3 (dk_at dksX0_coveredPart_0 1 rfl rfl)
theorem dX0_coveredPart_2 : decode cX0_coveredPart 2 = .ok (.aload_n 0, 1) := dk_42 (dk_at dksX0_coveredPart_0 2 rfl rfl)
theorem dX0_coveredPart_3 : decode cX0_coveredPart 3 = .ok (.iload_n 1, 1) := dk_27 (dk_at dksX0_coveredPart_0 3 rfl rfl)
theorem dX0_coveredPart_4 : decode cX0_coveredPart 4 = .ok (.iload_n 2, 1) := dk_28 (dk_at dksX0_coveredPart_0 4 rfl rfl)
theorem dX0_coveredPart_5 : decode cX0_coveredPart 5 = .ok (.invokevirtual 91, 3) := dk_182 0 91 (dk_at dksX0_coveredPart_0 5 rfl rfl)
theorem dX0_coveredPart_8 : decode cX0_coveredPart 8 = .ok (.f2d, 1) := dk_141 (dk_at dksX0_coveredPart_0 8 rfl rfl)
theorem dX0_coveredPart_9 : decode cX0_coveredPart 9 = .ok (.dastore, 1) := dk_82 (dk_at dksX0_coveredPart_0 9 rfl rfl)
theorem dX0_coveredPart_10 : decode cX0_coveredPart 10 = .ok (.goto 11, 3) := dk_167 0 11 (dk_at dksX0_coveredPart_0 10 rfl rfl)
theorem dX0_coveredPart_13 : decode cX0_coveredPart 13 = .ok (.astore 4, 2) := dk_58 4 (dk_at dksX0_coveredPart_0 13 rfl rfl)
theorem dX0_coveredPart_15 : decode cX0_coveredPart 15 = .ok (.iconst 1, 1) := dk_4 (dk_at dksX0_coveredPart_0 15 rfl rfl)
theorem dX0_coveredPart_16 : decode cX0_coveredPart 16 = .ok (.ireturn, 1) := dk_172 (dk_at dksX0_coveredPart_0 16 rfl rfl)
theorem dX0_coveredPart_17 : decode cX0_coveredPart 17 = .ok (.astore 4, 2) := dk_58 4 (dk_at dksX0_coveredPart_0 17 rfl rfl)
theorem dX0_coveredPart_19 : decode cX0_coveredPart 19 = .ok (.iconst 2, 1) := dk_5 (dk_at dksX0_coveredPart_0 19 rfl rfl)
theorem dX0_coveredPart_20 : decode cX0_coveredPart 20 = .ok (.ireturn, 1) := dk_172 (dk_at dksX0_coveredPart_0 20 rfl rfl)
theorem dX0_coveredPart_21 : decode cX0_coveredPart 21 = .ok (.iconst 0, 1) := dk_3 (dk_at dksX0_coveredPart_0 21 rfl rfl)
theorem dX0_coveredPart_22 : decode cX0_coveredPart 22 = .ok (.ireturn, 1) := dk_172 (dk_at dksX0_coveredPart_0 22 rfl rfl)
theorem q58 : (Jvm.Cond.initialized "ShapelayerLaw") ∈ lw_all := lw_g (lw_at lw_m1 0 rfl) rfl
theorem q104 : (Jvm.Cond.classLink "ShapelayerLaw" (8 : Nat) "Shapelayer") ∈ lw_all := lw_g (lw_at lw_m1 46 rfl) rfl
theorem q106 : (Jvm.Cond.methodLink "ShapelayerLaw" (95 : Nat) ({ cls := "Shapelayer", name := "<init>", desc := "()V" } : Jvm.MethodName)) ∈ lw_all := lw_g (lw_at lw_m1 48 rfl) rfl
theorem q220 : (Jvm.Cond.methodLink "ShapelayerLaw" (99 : Nat) ({ cls := "Shapelayer", name := "clear", desc := "()I" } : Jvm.MethodName)) ∈ lw_all := lw_g (lw_at lw_m1 162 rfl) rfl
theorem q588 : (Jvm.Cond.methodLink "ShapelayerLaw" (182 : Nat) ({ cls := "Shapelayer", name := "outputByte", desc := "(I)I" } : Jvm.MethodName)) ∈ lw_all := lw_g (lw_at lw_m3 50 rfl) rfl
theorem q611 : (Jvm.Cond.methodLink "ShapelayerLaw" (186 : Nat) ({ cls := "Shapelayer", name := "meanKeys", desc := "()D" } : Jvm.MethodName)) ∈ lw_all := lw_g (lw_at lw_m3 73 rfl) rfl
theorem q625 : (Jvm.Cond.methodLink "ShapelayerLaw" (103 : Nat) ({ cls := "ShapelayerLaw", name := "addComposition", desc := "(LShapelayer;[J)I" } : Jvm.MethodName)) ∈ lw_all := lw_g (lw_at lw_m3 87 rfl) rfl
theorem q626 : (Jvm.Cond.static ({ cls := "ShapelayerLaw", name := "addComposition", desc := "(LShapelayer;[J)I" } : Jvm.MethodName)) ∈ lw_all := lw_g (lw_at lw_m3 88 rfl) rfl
theorem q627 : (Jvm.Cond.codeWith ({ cls := "ShapelayerLaw", name := "addComposition", desc := "(LShapelayer;[J)I" } : Jvm.MethodName) method_3_code (3 : Nat) (Option.some Jvm.ClassFile.FieldType.int) [((0 : Nat), (8 : Nat), (11 : Nat), (13 : Nat))]) ∈ lw_all := lw_g (lw_at lw_m3 89 rfl) rfl
theorem q628 : (Jvm.Cond.classLink "ShapelayerLaw" (13 : Nat) "java/lang/IllegalStateException") ∈ lw_all := lw_g (lw_at lw_m3 90 rfl) rfl
theorem q629 : (Jvm.Cond.methodLink "ShapelayerLaw" (7 : Nat) ({ cls := "Shapelayer", name := "addComposition", desc := "()I" } : Jvm.MethodName)) ∈ lw_all := lw_g (lw_at lw_m3 91 rfl) rfl
theorem q737 : (Jvm.Cond.methodLink "ShapelayerLaw" (112 : Nat) ({ cls := "ShapelayerLaw", name := "addRect", desc := "(LShapelayer;IIII[J)I" } : Jvm.MethodName)) ∈ lw_all := lw_g (lw_at lw_m3 199 rfl) rfl
theorem q738 : (Jvm.Cond.static ({ cls := "ShapelayerLaw", name := "addRect", desc := "(LShapelayer;IIII[J)I" } : Jvm.MethodName)) ∈ lw_all := lw_g (lw_at lw_m3 200 rfl) rfl
theorem q739 : (Jvm.Cond.codeWith ({ cls := "ShapelayerLaw", name := "addRect", desc := "(LShapelayer;IIII[J)I" } : Jvm.MethodName) method_4_code (7 : Nat) (Option.some Jvm.ClassFile.FieldType.int) [((0 : Nat), (14 : Nat), (17 : Nat), (19 : Nat)), ((0 : Nat), (14 : Nat), (21 : Nat), (21 : Nat)), ((0 : Nat), (14 : Nat), (25 : Nat), (13 : Nat))]) ∈ lw_all := lw_g (lw_at lw_m3 201 rfl) rfl
theorem q740 : (Jvm.Cond.classLink "ShapelayerLaw" (19 : Nat) "java/lang/IndexOutOfBoundsException") ∈ lw_all := lw_g (lw_at lw_m3 202 rfl) rfl
theorem q743 : (Jvm.Cond.classLink "ShapelayerLaw" (21 : Nat) "java/lang/IllegalArgumentException") ∈ lw_all := lw_g (lw_at lw_m3 205 rfl) rfl
theorem q744 : (Jvm.Cond.methodLink "ShapelayerLaw" (15 : Nat) ({ cls := "Shapelayer", name := "addRect", desc := "(IIII)I" } : Jvm.MethodName)) ∈ lw_all := lw_g (lw_at lw_m3 206 rfl) rfl
theorem q882 : (Jvm.Cond.methodLink "ShapelayerLaw" (116 : Nat) ({ cls := "ShapelayerLaw", name := "addStroke", desc := "(LShapelayer;II[J)I" } : Jvm.MethodName)) ∈ lw_all := lw_g (lw_at lw_m4 104 rfl) rfl
theorem q883 : (Jvm.Cond.static ({ cls := "ShapelayerLaw", name := "addStroke", desc := "(LShapelayer;II[J)I" } : Jvm.MethodName)) ∈ lw_all := lw_g (lw_at lw_m4 105 rfl) rfl
theorem q884 : (Jvm.Cond.codeWith ({ cls := "ShapelayerLaw", name := "addStroke", desc := "(LShapelayer;II[J)I" } : Jvm.MethodName) method_5_code (5 : Nat) (Option.some Jvm.ClassFile.FieldType.int) [((0 : Nat), (10 : Nat), (13 : Nat), (19 : Nat)), ((0 : Nat), (10 : Nat), (17 : Nat), (21 : Nat)), ((0 : Nat), (10 : Nat), (21 : Nat), (13 : Nat))]) ∈ lw_all := lw_g (lw_at lw_m4 106 rfl) rfl
theorem q885 : (Jvm.Cond.methodLink "ShapelayerLaw" (23 : Nat) ({ cls := "Shapelayer", name := "addStroke", desc := "(II)I" } : Jvm.MethodName)) ∈ lw_all := lw_g (lw_at lw_m4 107 rfl) rfl
theorem q914 : (Jvm.Cond.methodLink "ShapelayerLaw" (120 : Nat) ({ cls := "ShapelayerLaw", name := "addPoint", desc := "(LShapelayer;III[J)I" } : Jvm.MethodName)) ∈ lw_all := lw_g (lw_at lw_m4 136 rfl) rfl
theorem q915 : (Jvm.Cond.static ({ cls := "ShapelayerLaw", name := "addPoint", desc := "(LShapelayer;III[J)I" } : Jvm.MethodName)) ∈ lw_all := lw_g (lw_at lw_m4 137 rfl) rfl
theorem q916 : (Jvm.Cond.codeWith ({ cls := "ShapelayerLaw", name := "addPoint", desc := "(LShapelayer;III[J)I" } : Jvm.MethodName) method_6_code (6 : Nat) (Option.some Jvm.ClassFile.FieldType.int) [((0 : Nat), (12 : Nat), (15 : Nat), (19 : Nat)), ((0 : Nat), (12 : Nat), (19 : Nat), (21 : Nat)), ((0 : Nat), (12 : Nat), (23 : Nat), (13 : Nat))]) ∈ lw_all := lw_g (lw_at lw_m4 138 rfl) rfl
theorem q917 : (Jvm.Cond.methodLink "ShapelayerLaw" (27 : Nat) ({ cls := "Shapelayer", name := "addPoint", desc := "(III)I" } : Jvm.MethodName)) ∈ lw_all := lw_g (lw_at lw_m4 139 rfl) rfl
theorem q954 : (Jvm.Cond.methodLink "ShapelayerLaw" (124 : Nat) ({ cls := "ShapelayerLaw", name := "addNested", desc := "(LShapelayer;II[J)I" } : Jvm.MethodName)) ∈ lw_all := lw_g (lw_at lw_m4 176 rfl) rfl
theorem q955 : (Jvm.Cond.static ({ cls := "ShapelayerLaw", name := "addNested", desc := "(LShapelayer;II[J)I" } : Jvm.MethodName)) ∈ lw_all := lw_g (lw_at lw_m4 177 rfl) rfl
theorem q956 : (Jvm.Cond.codeWith ({ cls := "ShapelayerLaw", name := "addNested", desc := "(LShapelayer;II[J)I" } : Jvm.MethodName) method_7_code (5 : Nat) (Option.some Jvm.ClassFile.FieldType.int) [((0 : Nat), (10 : Nat), (13 : Nat), (19 : Nat)), ((0 : Nat), (10 : Nat), (17 : Nat), (13 : Nat))]) ∈ lw_all := lw_g (lw_at lw_m4 178 rfl) rfl
theorem q957 : (Jvm.Cond.methodLink "ShapelayerLaw" (31 : Nat) ({ cls := "Shapelayer", name := "addNested", desc := "(II)I" } : Jvm.MethodName)) ∈ lw_all := lw_g (lw_at lw_m4 179 rfl) rfl
theorem q1048 : (Jvm.Cond.methodLink "ShapelayerLaw" (127 : Nat) ({ cls := "ShapelayerLaw", name := "addNull", desc := "(LShapelayer;I[J)I" } : Jvm.MethodName)) ∈ lw_all := lw_g (lw_at lw_m5 30 rfl) rfl
theorem q1049 : (Jvm.Cond.static ({ cls := "ShapelayerLaw", name := "addNull", desc := "(LShapelayer;I[J)I" } : Jvm.MethodName)) ∈ lw_all := lw_g (lw_at lw_m5 31 rfl) rfl
theorem q1050 : (Jvm.Cond.codeWith ({ cls := "ShapelayerLaw", name := "addNull", desc := "(LShapelayer;I[J)I" } : Jvm.MethodName) method_8_code (4 : Nat) (Option.some Jvm.ClassFile.FieldType.int) [((0 : Nat), (9 : Nat), (12 : Nat), (19 : Nat)), ((0 : Nat), (9 : Nat), (15 : Nat), (13 : Nat))]) ∈ lw_all := lw_g (lw_at lw_m5 32 rfl) rfl
theorem q1051 : (Jvm.Cond.methodLink "ShapelayerLaw" (34 : Nat) ({ cls := "Shapelayer", name := "addNull", desc := "(I)I" } : Jvm.MethodName)) ∈ lw_all := lw_g (lw_at lw_m5 33 rfl) rfl
theorem q1070 : (Jvm.Cond.methodLink "ShapelayerLaw" (131 : Nat) ({ cls := "ShapelayerLaw", name := "remove", desc := "(LShapelayer;I[J)I" } : Jvm.MethodName)) ∈ lw_all := lw_g (lw_at lw_m5 52 rfl) rfl
theorem q1071 : (Jvm.Cond.static ({ cls := "ShapelayerLaw", name := "remove", desc := "(LShapelayer;I[J)I" } : Jvm.MethodName)) ∈ lw_all := lw_g (lw_at lw_m5 53 rfl) rfl
theorem q1072 : (Jvm.Cond.codeWith ({ cls := "ShapelayerLaw", name := "remove", desc := "(LShapelayer;I[J)I" } : Jvm.MethodName) method_9_code (4 : Nat) (Option.some Jvm.ClassFile.FieldType.int) [((0 : Nat), (9 : Nat), (12 : Nat), (19 : Nat))]) ∈ lw_all := lw_g (lw_at lw_m5 54 rfl) rfl
theorem q1073 : (Jvm.Cond.methodLink "ShapelayerLaw" (38 : Nat) ({ cls := "Shapelayer", name := "remove", desc := "(I)I" } : Jvm.MethodName)) ∈ lw_all := lw_g (lw_at lw_m5 55 rfl) rfl
theorem q1130 : (Jvm.Cond.methodLink "ShapelayerLaw" (134 : Nat) ({ cls := "ShapelayerLaw", name := "order", desc := "(LShapelayer;II[J)I" } : Jvm.MethodName)) ∈ lw_all := lw_g (lw_at lw_m5 112 rfl) rfl
theorem q1131 : (Jvm.Cond.static ({ cls := "ShapelayerLaw", name := "order", desc := "(LShapelayer;II[J)I" } : Jvm.MethodName)) ∈ lw_all := lw_g (lw_at lw_m5 113 rfl) rfl
theorem q1132 : (Jvm.Cond.codeWith ({ cls := "ShapelayerLaw", name := "order", desc := "(LShapelayer;II[J)I" } : Jvm.MethodName) method_10_code (5 : Nat) (Option.some Jvm.ClassFile.FieldType.int) [((0 : Nat), (10 : Nat), (13 : Nat), (19 : Nat)), ((0 : Nat), (10 : Nat), (17 : Nat), (21 : Nat))]) ∈ lw_all := lw_g (lw_at lw_m5 114 rfl) rfl
theorem q1133 : (Jvm.Cond.methodLink "ShapelayerLaw" (41 : Nat) ({ cls := "Shapelayer", name := "order", desc := "(II)I" } : Jvm.MethodName)) ∈ lw_all := lw_g (lw_at lw_m5 115 rfl) rfl
theorem q1185 : (Jvm.Cond.methodLink "ShapelayerLaw" (137 : Nat) ({ cls := "ShapelayerLaw", name := "setParent", desc := "(LShapelayer;II[J)I" } : Jvm.MethodName)) ∈ lw_all := lw_g (lw_at lw_m5 167 rfl) rfl
theorem q1186 : (Jvm.Cond.static ({ cls := "ShapelayerLaw", name := "setParent", desc := "(LShapelayer;II[J)I" } : Jvm.MethodName)) ∈ lw_all := lw_g (lw_at lw_m5 168 rfl) rfl
theorem q1187 : (Jvm.Cond.codeWith ({ cls := "ShapelayerLaw", name := "setParent", desc := "(LShapelayer;II[J)I" } : Jvm.MethodName) method_11_code (5 : Nat) (Option.some Jvm.ClassFile.FieldType.int) [((0 : Nat), (10 : Nat), (13 : Nat), (19 : Nat)), ((0 : Nat), (10 : Nat), (17 : Nat), (13 : Nat))]) ∈ lw_all := lw_g (lw_at lw_m5 169 rfl) rfl
theorem q1188 : (Jvm.Cond.methodLink "ShapelayerLaw" (44 : Nat) ({ cls := "Shapelayer", name := "setParent", desc := "(II)I" } : Jvm.MethodName)) ∈ lw_all := lw_g (lw_at lw_m5 170 rfl) rfl
theorem q1203 : (Jvm.Cond.methodLink "ShapelayerLaw" (140 : Nat) ({ cls := "ShapelayerLaw", name := "setMatte", desc := "(LShapelayer;IIZ[J)I" } : Jvm.MethodName)) ∈ lw_all := lw_g (lw_at lw_m5 185 rfl) rfl
theorem q1204 : (Jvm.Cond.static ({ cls := "ShapelayerLaw", name := "setMatte", desc := "(LShapelayer;IIZ[J)I" } : Jvm.MethodName)) ∈ lw_all := lw_g (lw_at lw_m5 186 rfl) rfl
theorem q1205 : (Jvm.Cond.codeWith ({ cls := "ShapelayerLaw", name := "setMatte", desc := "(LShapelayer;IIZ[J)I" } : Jvm.MethodName) method_12_code (6 : Nat) (Option.some Jvm.ClassFile.FieldType.int) [((0 : Nat), (12 : Nat), (15 : Nat), (19 : Nat)), ((0 : Nat), (12 : Nat), (19 : Nat), (13 : Nat))]) ∈ lw_all := lw_g (lw_at lw_m5 187 rfl) rfl
theorem q1206 : (Jvm.Cond.methodLink "ShapelayerLaw" (47 : Nat) ({ cls := "Shapelayer", name := "setMatte", desc := "(IIZ)I" } : Jvm.MethodName)) ∈ lw_all := lw_g (lw_at lw_m5 188 rfl) rfl
theorem q1210 : (Jvm.Cond.methodLink "ShapelayerLaw" (144 : Nat) ({ cls := "ShapelayerLaw", name := "setSpan", desc := "(LShapelayer;III[J)I" } : Jvm.MethodName)) ∈ lw_all := lw_g (lw_at lw_m5 192 rfl) rfl
theorem q1211 : (Jvm.Cond.static ({ cls := "ShapelayerLaw", name := "setSpan", desc := "(LShapelayer;III[J)I" } : Jvm.MethodName)) ∈ lw_all := lw_g (lw_at lw_m5 193 rfl) rfl
theorem q1212 : (Jvm.Cond.codeWith ({ cls := "ShapelayerLaw", name := "setSpan", desc := "(LShapelayer;III[J)I" } : Jvm.MethodName) method_13_code (6 : Nat) (Option.some Jvm.ClassFile.FieldType.int) [((0 : Nat), (12 : Nat), (15 : Nat), (19 : Nat)), ((0 : Nat), (12 : Nat), (19 : Nat), (21 : Nat))]) ∈ lw_all := lw_g (lw_at lw_m5 194 rfl) rfl
theorem q1213 : (Jvm.Cond.methodLink "ShapelayerLaw" (51 : Nat) ({ cls := "Shapelayer", name := "setSpan", desc := "(III)I" } : Jvm.MethodName)) ∈ lw_all := lw_g (lw_at lw_m5 195 rfl) rfl
theorem q1217 : (Jvm.Cond.methodLink "ShapelayerLaw" (147 : Nat) ({ cls := "ShapelayerLaw", name := "key", desc := "(LShapelayer;IIIII[J)I" } : Jvm.MethodName)) ∈ lw_all := lw_g (lw_at lw_m5 199 rfl) rfl
theorem q1218 : (Jvm.Cond.static ({ cls := "ShapelayerLaw", name := "key", desc := "(LShapelayer;IIIII[J)I" } : Jvm.MethodName)) ∈ lw_all := lw_g (lw_at lw_m5 200 rfl) rfl
theorem q1219 : (Jvm.Cond.codeWith ({ cls := "ShapelayerLaw", name := "key", desc := "(LShapelayer;IIIII[J)I" } : Jvm.MethodName) method_14_code (8 : Nat) (Option.some Jvm.ClassFile.FieldType.int) [((0 : Nat), (16 : Nat), (19 : Nat), (19 : Nat)), ((0 : Nat), (16 : Nat), (23 : Nat), (21 : Nat)), ((0 : Nat), (16 : Nat), (27 : Nat), (13 : Nat))]) ∈ lw_all := lw_g (lw_at lw_m5 201 rfl) rfl
theorem q1220 : (Jvm.Cond.methodLink "ShapelayerLaw" (54 : Nat) ({ cls := "Shapelayer", name := "key", desc := "(IIIII)I" } : Jvm.MethodName)) ∈ lw_all := lw_g (lw_at lw_m5 202 rfl) rfl
theorem q1291 : (Jvm.Cond.methodLink "ShapelayerLaw" (151 : Nat) ({ cls := "ShapelayerLaw", name := "unkey", desc := "(LShapelayer;III[J)I" } : Jvm.MethodName)) ∈ lw_all := lw_g (lw_at lw_m6 33 rfl) rfl
theorem q1292 : (Jvm.Cond.static ({ cls := "ShapelayerLaw", name := "unkey", desc := "(LShapelayer;III[J)I" } : Jvm.MethodName)) ∈ lw_all := lw_g (lw_at lw_m6 34 rfl) rfl
theorem q1293 : (Jvm.Cond.codeWith ({ cls := "ShapelayerLaw", name := "unkey", desc := "(LShapelayer;III[J)I" } : Jvm.MethodName) method_15_code (6 : Nat) (Option.some Jvm.ClassFile.FieldType.int) [((0 : Nat), (12 : Nat), (15 : Nat), (19 : Nat)), ((0 : Nat), (12 : Nat), (19 : Nat), (61 : Nat))]) ∈ lw_all := lw_g (lw_at lw_m6 35 rfl) rfl
theorem q1294 : (Jvm.Cond.classLink "ShapelayerLaw" (61 : Nat) "java/util/NoSuchElementException") ∈ lw_all := lw_g (lw_at lw_m6 36 rfl) rfl
theorem q1295 : (Jvm.Cond.methodLink "ShapelayerLaw" (58 : Nat) ({ cls := "Shapelayer", name := "unkey", desc := "(III)I" } : Jvm.MethodName)) ∈ lw_all := lw_g (lw_at lw_m6 37 rfl) rfl
theorem q1301 : (Jvm.Cond.methodLink "ShapelayerLaw" (154 : Nat) ({ cls := "ShapelayerLaw", name := "value", desc := "(LShapelayer;III[J)I" } : Jvm.MethodName)) ∈ lw_all := lw_g (lw_at lw_m6 43 rfl) rfl
theorem q1302 : (Jvm.Cond.static ({ cls := "ShapelayerLaw", name := "value", desc := "(LShapelayer;III[J)I" } : Jvm.MethodName)) ∈ lw_all := lw_g (lw_at lw_m6 44 rfl) rfl
theorem q1303 : (Jvm.Cond.codeWith ({ cls := "ShapelayerLaw", name := "value", desc := "(LShapelayer;III[J)I" } : Jvm.MethodName) method_16_code (6 : Nat) (Option.some Jvm.ClassFile.FieldType.int) [((0 : Nat), (12 : Nat), (15 : Nat), (19 : Nat)), ((0 : Nat), (12 : Nat), (19 : Nat), (21 : Nat))]) ∈ lw_all := lw_g (lw_at lw_m6 45 rfl) rfl
theorem q1304 : (Jvm.Cond.methodLink "ShapelayerLaw" (63 : Nat) ({ cls := "Shapelayer", name := "value", desc := "(III)I" } : Jvm.MethodName)) ∈ lw_all := lw_g (lw_at lw_m6 46 rfl) rfl
theorem q1363 : (Jvm.Cond.methodLink "ShapelayerLaw" (157 : Nat) ({ cls := "ShapelayerLaw", name := "map", desc := "(LShapelayer;IIIIZ[J)I" } : Jvm.MethodName)) ∈ lw_all := lw_g (lw_at lw_m6 105 rfl) rfl
theorem q1364 : (Jvm.Cond.static ({ cls := "ShapelayerLaw", name := "map", desc := "(LShapelayer;IIIIZ[J)I" } : Jvm.MethodName)) ∈ lw_all := lw_g (lw_at lw_m6 106 rfl) rfl
theorem q1365 : (Jvm.Cond.codeWith ({ cls := "ShapelayerLaw", name := "map", desc := "(LShapelayer;IIIIZ[J)I" } : Jvm.MethodName) method_17_code (8 : Nat) (Option.some Jvm.ClassFile.FieldType.int) [((0 : Nat), (15 : Nat), (18 : Nat), (19 : Nat)), ((0 : Nat), (15 : Nat), (22 : Nat), (21 : Nat))]) ∈ lw_all := lw_g (lw_at lw_m6 107 rfl) rfl
theorem q1366 : (Jvm.Cond.methodLink "ShapelayerLaw" (66 : Nat) ({ cls := "Shapelayer", name := "map", desc := "(IIIIZ)J" } : Jvm.MethodName)) ∈ lw_all := lw_g (lw_at lw_m6 108 rfl) rfl
theorem q1396 : (Jvm.Cond.methodLink "ShapelayerLaw" (161 : Nat) ({ cls := "ShapelayerLaw", name := "left", desc := "(LShapelayer;II[J)I" } : Jvm.MethodName)) ∈ lw_all := lw_g (lw_at lw_m6 138 rfl) rfl
theorem q1397 : (Jvm.Cond.static ({ cls := "ShapelayerLaw", name := "left", desc := "(LShapelayer;II[J)I" } : Jvm.MethodName)) ∈ lw_all := lw_g (lw_at lw_m6 139 rfl) rfl
theorem q1398 : (Jvm.Cond.codeWith ({ cls := "ShapelayerLaw", name := "left", desc := "(LShapelayer;II[J)I" } : Jvm.MethodName) method_18_code (5 : Nat) (Option.some Jvm.ClassFile.FieldType.int) [((0 : Nat), (10 : Nat), (13 : Nat), (19 : Nat)), ((0 : Nat), (10 : Nat), (17 : Nat), (21 : Nat))]) ∈ lw_all := lw_g (lw_at lw_m6 140 rfl) rfl
theorem q1399 : (Jvm.Cond.methodLink "ShapelayerLaw" (70 : Nat) ({ cls := "Shapelayer", name := "left", desc := "(II)I" } : Jvm.MethodName)) ∈ lw_all := lw_g (lw_at lw_m6 141 rfl) rfl
theorem q1422 : (Jvm.Cond.methodLink "ShapelayerLaw" (164 : Nat) ({ cls := "ShapelayerLaw", name := "cell", desc := "(LShapelayer;IIII[J)I" } : Jvm.MethodName)) ∈ lw_all := lw_g (lw_at lw_m6 164 rfl) rfl
theorem q1423 : (Jvm.Cond.static ({ cls := "ShapelayerLaw", name := "cell", desc := "(LShapelayer;IIII[J)I" } : Jvm.MethodName)) ∈ lw_all := lw_g (lw_at lw_m6 165 rfl) rfl
theorem q1424 : (Jvm.Cond.codeWith ({ cls := "ShapelayerLaw", name := "cell", desc := "(LShapelayer;IIII[J)I" } : Jvm.MethodName) method_19_code (7 : Nat) (Option.some Jvm.ClassFile.FieldType.int) [((0 : Nat), (14 : Nat), (17 : Nat), (19 : Nat)), ((0 : Nat), (14 : Nat), (21 : Nat), (21 : Nat))]) ∈ lw_all := lw_g (lw_at lw_m6 166 rfl) rfl
theorem q1425 : (Jvm.Cond.methodLink "ShapelayerLaw" (73 : Nat) ({ cls := "Shapelayer", name := "cell", desc := "(IIII)I" } : Jvm.MethodName)) ∈ lw_all := lw_g (lw_at lw_m6 167 rfl) rfl
theorem q1588 : (Jvm.Cond.methodLink "ShapelayerLaw" (167 : Nat) ({ cls := "ShapelayerLaw", name := "covered", desc := "(LShapelayer;II[J)I" } : Jvm.MethodName)) ∈ lw_all := lw_g (lw_at lw_m7 90 rfl) rfl
theorem q1589 : (Jvm.Cond.static ({ cls := "ShapelayerLaw", name := "covered", desc := "(LShapelayer;II[J)I" } : Jvm.MethodName)) ∈ lw_all := lw_g (lw_at lw_m7 91 rfl) rfl
theorem q1590 : (Jvm.Cond.codeWith ({ cls := "ShapelayerLaw", name := "covered", desc := "(LShapelayer;II[J)I" } : Jvm.MethodName) method_20_code (5 : Nat) (Option.some Jvm.ClassFile.FieldType.int) [((0 : Nat), (10 : Nat), (13 : Nat), (19 : Nat)), ((0 : Nat), (10 : Nat), (17 : Nat), (21 : Nat))]) ∈ lw_all := lw_g (lw_at lw_m7 92 rfl) rfl
theorem q1591 : (Jvm.Cond.methodLink "ShapelayerLaw" (76 : Nat) ({ cls := "Shapelayer", name := "covered", desc := "(II)I" } : Jvm.MethodName)) ∈ lw_all := lw_g (lw_at lw_m7 93 rfl) rfl
theorem q1603 : (Jvm.Cond.methodLink "ShapelayerLaw" (170 : Nat) ({ cls := "ShapelayerLaw", name := "checksum", desc := "(LShapelayer;II[J)I" } : Jvm.MethodName)) ∈ lw_all := lw_g (lw_at lw_m7 105 rfl) rfl
theorem q1604 : (Jvm.Cond.static ({ cls := "ShapelayerLaw", name := "checksum", desc := "(LShapelayer;II[J)I" } : Jvm.MethodName)) ∈ lw_all := lw_g (lw_at lw_m7 106 rfl) rfl
theorem q1605 : (Jvm.Cond.codeWith ({ cls := "ShapelayerLaw", name := "checksum", desc := "(LShapelayer;II[J)I" } : Jvm.MethodName) method_21_code (5 : Nat) (Option.some Jvm.ClassFile.FieldType.int) [((0 : Nat), (10 : Nat), (13 : Nat), (19 : Nat)), ((0 : Nat), (10 : Nat), (17 : Nat), (21 : Nat))]) ∈ lw_all := lw_g (lw_at lw_m7 107 rfl) rfl
theorem q1606 : (Jvm.Cond.methodLink "ShapelayerLaw" (79 : Nat) ({ cls := "Shapelayer", name := "checksum", desc := "(II)I" } : Jvm.MethodName)) ∈ lw_all := lw_g (lw_at lw_m7 108 rfl) rfl
theorem q1610 : (Jvm.Cond.methodLink "ShapelayerLaw" (173 : Nat) ({ cls := "ShapelayerLaw", name := "playErrors", desc := "(LShapelayer;III[J)I" } : Jvm.MethodName)) ∈ lw_all := lw_g (lw_at lw_m7 112 rfl) rfl
theorem q1611 : (Jvm.Cond.static ({ cls := "ShapelayerLaw", name := "playErrors", desc := "(LShapelayer;III[J)I" } : Jvm.MethodName)) ∈ lw_all := lw_g (lw_at lw_m7 113 rfl) rfl
theorem q1612 : (Jvm.Cond.codeWith ({ cls := "ShapelayerLaw", name := "playErrors", desc := "(LShapelayer;III[J)I" } : Jvm.MethodName) method_22_code (6 : Nat) (Option.some Jvm.ClassFile.FieldType.int) [((0 : Nat), (12 : Nat), (15 : Nat), (19 : Nat)), ((0 : Nat), (12 : Nat), (19 : Nat), (21 : Nat))]) ∈ lw_all := lw_g (lw_at lw_m7 114 rfl) rfl
theorem q1613 : (Jvm.Cond.methodLink "ShapelayerLaw" (82 : Nat) ({ cls := "Shapelayer", name := "playErrors", desc := "(III)I" } : Jvm.MethodName)) ∈ lw_all := lw_g (lw_at lw_m7 115 rfl) rfl
theorem q1621 : (Jvm.Cond.methodLink "ShapelayerLaw" (176 : Nat) ({ cls := "ShapelayerLaw", name := "writeRow", desc := "(LShapelayer;III[J)I" } : Jvm.MethodName)) ∈ lw_all := lw_g (lw_at lw_m7 123 rfl) rfl
theorem q1622 : (Jvm.Cond.static ({ cls := "ShapelayerLaw", name := "writeRow", desc := "(LShapelayer;III[J)I" } : Jvm.MethodName)) ∈ lw_all := lw_g (lw_at lw_m7 124 rfl) rfl
theorem q1623 : (Jvm.Cond.codeWith ({ cls := "ShapelayerLaw", name := "writeRow", desc := "(LShapelayer;III[J)I" } : Jvm.MethodName) method_23_code (6 : Nat) (Option.some Jvm.ClassFile.FieldType.int) [((0 : Nat), (12 : Nat), (15 : Nat), (19 : Nat)), ((0 : Nat), (12 : Nat), (19 : Nat), (21 : Nat))]) ∈ lw_all := lw_g (lw_at lw_m7 125 rfl) rfl
theorem q1624 : (Jvm.Cond.methodLink "ShapelayerLaw" (85 : Nat) ({ cls := "Shapelayer", name := "writeRow", desc := "(III)I" } : Jvm.MethodName)) ∈ lw_all := lw_g (lw_at lw_m7 126 rfl) rfl
theorem q1676 : (Jvm.Cond.methodLink "ShapelayerLaw" (179 : Nat) ({ cls := "ShapelayerLaw", name := "write", desc := "(LShapelayer;I[J)I" } : Jvm.MethodName)) ∈ lw_all := lw_g (lw_at lw_m7 178 rfl) rfl
theorem q1677 : (Jvm.Cond.static ({ cls := "ShapelayerLaw", name := "write", desc := "(LShapelayer;I[J)I" } : Jvm.MethodName)) ∈ lw_all := lw_g (lw_at lw_m7 179 rfl) rfl
theorem q1678 : (Jvm.Cond.codeWith ({ cls := "ShapelayerLaw", name := "write", desc := "(LShapelayer;I[J)I" } : Jvm.MethodName) method_24_code (4 : Nat) (Option.some Jvm.ClassFile.FieldType.int) [((0 : Nat), (9 : Nat), (12 : Nat), (19 : Nat))]) ∈ lw_all := lw_g (lw_at lw_m7 180 rfl) rfl
theorem q1679 : (Jvm.Cond.methodLink "ShapelayerLaw" (88 : Nat) ({ cls := "Shapelayer", name := "write", desc := "(I)I" } : Jvm.MethodName)) ∈ lw_all := lw_g (lw_at lw_m7 181 rfl) rfl
theorem q1788 : (Jvm.Cond.methodLink "ShapelayerLaw" (191 : Nat) ({ cls := "ShapelayerLaw", name := "coveredPart", desc := "(LShapelayer;II[D)I" } : Jvm.MethodName)) ∈ lw_all := lw_g (lw_at lw_m8 50 rfl) rfl
theorem q1789 : (Jvm.Cond.static ({ cls := "ShapelayerLaw", name := "coveredPart", desc := "(LShapelayer;II[D)I" } : Jvm.MethodName)) ∈ lw_all := lw_g (lw_at lw_m8 51 rfl) rfl
theorem q1790 : (Jvm.Cond.codeWith ({ cls := "ShapelayerLaw", name := "coveredPart", desc := "(LShapelayer;II[D)I" } : Jvm.MethodName) method_25_code (5 : Nat) (Option.some Jvm.ClassFile.FieldType.int) [((0 : Nat), (10 : Nat), (13 : Nat), (19 : Nat)), ((0 : Nat), (10 : Nat), (17 : Nat), (21 : Nat))]) ∈ lw_all := lw_g (lw_at lw_m8 52 rfl) rfl
theorem q1791 : (Jvm.Cond.methodLink "ShapelayerLaw" (91 : Nat) ({ cls := "Shapelayer", name := "coveredPart", desc := "(II)F" } : Jvm.MethodName)) ∈ lw_all := lw_g (lw_at lw_m8 53 rfl) rfl
theorem q1797 : (Jvm.Cond.classLink "ShapelayerLaw" (96 : Nat) "ShapelayerModel") ∈ lw_all := lw_g (lw_at lw_m8 59 rfl) rfl
theorem q1799 : (Jvm.Cond.methodLink "ShapelayerLaw" (98 : Nat) ({ cls := "ShapelayerModel", name := "<init>", desc := "()V" } : Jvm.MethodName)) ∈ lw_all := lw_g (lw_at lw_m8 61 rfl) rfl
theorem q1895 : (Jvm.Cond.methodLink "ShapelayerLaw" (109 : Nat) ({ cls := "ShapelayerModel", name := "thrown", desc := "()I" } : Jvm.MethodName)) ∈ lw_all := lw_g (lw_at lw_m8 157 rfl) rfl
theorem q1899 : (Jvm.Cond.methodLink "ShapelayerLaw" (102 : Nat) ({ cls := "ShapelayerModel", name := "clear", desc := "()I" } : Jvm.MethodName)) ∈ lw_all := lw_g (lw_at lw_m8 161 rfl) rfl
theorem q1903 : (Jvm.Cond.methodLink "ShapelayerLaw" (108 : Nat) ({ cls := "ShapelayerModel", name := "addComposition", desc := "()I" } : Jvm.MethodName)) ∈ lw_all := lw_g (lw_at lw_m8 165 rfl) rfl
theorem q1911 : (Jvm.Cond.methodLink "ShapelayerLaw" (115 : Nat) ({ cls := "ShapelayerModel", name := "addRect", desc := "(IIII)I" } : Jvm.MethodName)) ∈ lw_all := lw_g (lw_at lw_m8 173 rfl) rfl
theorem q1930 : (Jvm.Cond.methodLink "ShapelayerLaw" (119 : Nat) ({ cls := "ShapelayerModel", name := "addStroke", desc := "(II)I" } : Jvm.MethodName)) ∈ lw_all := lw_g (lw_at lw_m8 192 rfl) rfl
theorem q1934 : (Jvm.Cond.methodLink "ShapelayerLaw" (123 : Nat) ({ cls := "ShapelayerModel", name := "addPoint", desc := "(III)I" } : Jvm.MethodName)) ∈ lw_all := lw_g (lw_at lw_m8 196 rfl) rfl
theorem q1946 : (Jvm.Cond.methodLink "ShapelayerLaw" (126 : Nat) ({ cls := "ShapelayerModel", name := "addNested", desc := "(II)I" } : Jvm.MethodName)) ∈ lw_all := lw_g (lw_at lw_m8 208 rfl) rfl
theorem q1954 : (Jvm.Cond.methodLink "ShapelayerLaw" (130 : Nat) ({ cls := "ShapelayerModel", name := "addNull", desc := "(I)I" } : Jvm.MethodName)) ∈ lw_all := lw_g (lw_at lw_m8 216 rfl) rfl
theorem q1958 : (Jvm.Cond.methodLink "ShapelayerLaw" (133 : Nat) ({ cls := "ShapelayerModel", name := "remove", desc := "(I)I" } : Jvm.MethodName)) ∈ lw_all := lw_g (lw_at lw_m8 220 rfl) rfl
theorem q1970 : (Jvm.Cond.methodLink "ShapelayerLaw" (136 : Nat) ({ cls := "ShapelayerModel", name := "order", desc := "(II)I" } : Jvm.MethodName)) ∈ lw_all := lw_g (lw_at lw_m8 232 rfl) rfl
theorem q1974 : (Jvm.Cond.methodLink "ShapelayerLaw" (139 : Nat) ({ cls := "ShapelayerModel", name := "setParent", desc := "(II)I" } : Jvm.MethodName)) ∈ lw_all := lw_g (lw_at lw_m8 236 rfl) rfl
theorem q1982 : (Jvm.Cond.methodLink "ShapelayerLaw" (143 : Nat) ({ cls := "ShapelayerModel", name := "setMatte", desc := "(IIZ)I" } : Jvm.MethodName)) ∈ lw_all := lw_g (lw_at lw_m9 4 rfl) rfl
theorem q1986 : (Jvm.Cond.methodLink "ShapelayerLaw" (146 : Nat) ({ cls := "ShapelayerModel", name := "setSpan", desc := "(III)I" } : Jvm.MethodName)) ∈ lw_all := lw_g (lw_at lw_m9 8 rfl) rfl
theorem q1993 : (Jvm.Cond.methodLink "ShapelayerLaw" (150 : Nat) ({ cls := "ShapelayerModel", name := "key", desc := "(IIIII)I" } : Jvm.MethodName)) ∈ lw_all := lw_g (lw_at lw_m9 15 rfl) rfl
theorem q2014 : (Jvm.Cond.methodLink "ShapelayerLaw" (153 : Nat) ({ cls := "ShapelayerModel", name := "unkey", desc := "(III)I" } : Jvm.MethodName)) ∈ lw_all := lw_g (lw_at lw_m9 36 rfl) rfl
theorem q2018 : (Jvm.Cond.methodLink "ShapelayerLaw" (156 : Nat) ({ cls := "ShapelayerModel", name := "value", desc := "(III)I" } : Jvm.MethodName)) ∈ lw_all := lw_g (lw_at lw_m9 40 rfl) rfl
theorem q2039 : (Jvm.Cond.methodLink "ShapelayerLaw" (160 : Nat) ({ cls := "ShapelayerModel", name := "map", desc := "(IIIIZ)J" } : Jvm.MethodName)) ∈ lw_all := lw_g (lw_at lw_m9 61 rfl) rfl
theorem q2058 : (Jvm.Cond.methodLink "ShapelayerLaw" (163 : Nat) ({ cls := "ShapelayerModel", name := "left", desc := "(II)I" } : Jvm.MethodName)) ∈ lw_all := lw_g (lw_at lw_m9 80 rfl) rfl
theorem q2078 : (Jvm.Cond.methodLink "ShapelayerLaw" (166 : Nat) ({ cls := "ShapelayerModel", name := "cell", desc := "(IIII)I" } : Jvm.MethodName)) ∈ lw_all := lw_g (lw_at lw_m9 100 rfl) rfl
theorem q2142 : (Jvm.Cond.methodLink "ShapelayerLaw" (169 : Nat) ({ cls := "ShapelayerModel", name := "covered", desc := "(II)I" } : Jvm.MethodName)) ∈ lw_all := lw_g (lw_at lw_m9 164 rfl) rfl
theorem q2150 : (Jvm.Cond.methodLink "ShapelayerLaw" (172 : Nat) ({ cls := "ShapelayerModel", name := "checksum", desc := "(II)I" } : Jvm.MethodName)) ∈ lw_all := lw_g (lw_at lw_m9 172 rfl) rfl
theorem q2154 : (Jvm.Cond.methodLink "ShapelayerLaw" (175 : Nat) ({ cls := "ShapelayerModel", name := "playErrors", desc := "(III)I" } : Jvm.MethodName)) ∈ lw_all := lw_g (lw_at lw_m9 176 rfl) rfl
theorem q2158 : (Jvm.Cond.methodLink "ShapelayerLaw" (178 : Nat) ({ cls := "ShapelayerModel", name := "writeRow", desc := "(III)I" } : Jvm.MethodName)) ∈ lw_all := lw_g (lw_at lw_m9 180 rfl) rfl
theorem q2166 : (Jvm.Cond.methodLink "ShapelayerLaw" (181 : Nat) ({ cls := "ShapelayerModel", name := "write", desc := "(I)I" } : Jvm.MethodName)) ∈ lw_all := lw_g (lw_at lw_m9 188 rfl) rfl
theorem q2186 : (Jvm.Cond.methodLink "ShapelayerLaw" (185 : Nat) ({ cls := "ShapelayerModel", name := "outputByte", desc := "(I)I" } : Jvm.MethodName)) ∈ lw_all := lw_g (lw_at lw_m9 208 rfl) rfl
theorem q2190 : (Jvm.Cond.methodLink "ShapelayerLaw" (190 : Nat) ({ cls := "ShapelayerModel", name := "meanKeys", desc := "()D" } : Jvm.MethodName)) ∈ lw_all := lw_g (lw_at lw_m9 212 rfl) rfl
theorem q2194 : (Jvm.Cond.methodLink "ShapelayerLaw" (194 : Nat) ({ cls := "ShapelayerModel", name := "coveredPart", desc := "(II)F" } : Jvm.MethodName)) ∈ lw_all := lw_g (lw_at lw_m9 216 rfl) rfl
