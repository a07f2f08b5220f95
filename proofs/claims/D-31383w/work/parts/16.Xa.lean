/-! Shapelayer$Raster -/
set_option maxRecDepth 100000
def RX2 : String := "Shapelayer$Raster"
def TX2 : u_T := fun k => match k with
  | 0 => ("Shapelayer$Raster", "cells", "[B", true)
  | 1 => ("Shapelayer$Raster", "one", "[J", true)
  | 2 => ("Shapelayer$Raster", "other", "[J", true)
  | 3 => ("Shapelayer$Raster", "own", "LShapelayer$Raster;", false)
  | _ => ("Shapelayer$Raster", "mask", "LShapelayer$Raster;", false)
def tyX2 : Nat → FieldType := fun k => match k with
  | 0 => .array .byte
  | 1 => .array .long
  | 2 => .array .long
  | 3 => .object "Shapelayer$Raster"
  | _ => .object "Shapelayer$Raster"
abbrev wsX20 : List Cond := u_ws RX2 TX2 5
theorem nmX2 : ∀ a, a < 5 → ∀ b, b < 5 → a ≠ b → (TX2 a).2.1 ≠ (TX2 b).2.1 := by decide +kernel
theorem tyX2_ok : ∀ k, k < 5 → parseFieldDescriptor (TX2 k).2.2.1 = some (tyX2 k) := by decide +kernel
abbrev cX2_init : ByteArray := prog_16_method_1_code
def yX2_init : MethodName := ⟨RX2, "<init>", "()V"⟩
def dkwX2_init_1 : List UInt8 := [181, 0, 19, 177]
abbrev dktX2_init_1 : List UInt8 := dkwX2_init_1 ++ []
def dkwX2_init_0 : List UInt8 := [42, 183, 0, 3, 42, 17, 0, 192, 188, 8, 181, 0, 9, 42, 5, 188, 11, 181, 0, 15, 42, 5, 188, 11]
abbrev dktX2_init_0 : List UInt8 := dkwX2_init_0 ++ dktX2_init_1
theorem dksX2_init_0 : cX2_init.data.toList.drop 0 = dktX2_init_0 := by decide +kernel
theorem dksX2_init_1 : cX2_init.data.toList.drop 24 = dktX2_init_1 := dk_seg dksX2_init_0 24 rfl rfl
theorem dX2_init_0 : decode cX2_init 0 = .ok (.aload_n 0, 1) := dk_42 (dk_at dksX2_init_0 0 rfl rfl)
theorem dX2_init_1 : decode cX2_init 1 = .ok (.invokespecial 3, 3) := dk_183 0 3 (dk_at dksX2_init_0 1 rfl rfl)
theorem dX2_init_4 : decode cX2_init 4 = .ok (.aload_n 0, 1) := dk_42 (dk_at dksX2_init_0 4 rfl rfl)
theorem dX2_init_5 : decode cX2_init 5 = .ok (.sipush 192, 3) := dk_17 0 192 (dk_at dksX2_init_0 5 rfl rfl)
theorem dX2_init_8 : decode cX2_init 8 = .ok (.newarray .byte, 2) := dk_188_8 (dk_at dksX2_init_0 8 rfl rfl)
theorem dX2_init_10 : decode cX2_init 10 = .ok (.putfield 9, 3) := dk_181 0 9 (dk_at dksX2_init_0 10 rfl rfl)
theorem dX2_init_13 : decode cX2_init 13 = .ok (.aload_n 0, 1) := dk_42 (dk_at dksX2_init_0 13 rfl rfl)
theorem dX2_init_14 : decode cX2_init 14 = .ok (.iconst 2, 1) := dk_5 (dk_at dksX2_init_0 14 rfl rfl)
theorem dX2_init_15 : decode cX2_init 15 = .ok (.newarray .long, 2) := dk_188_11 (dk_at dksX2_init_0 15 rfl rfl)
theorem dX2_init_17 : decode cX2_init 17 = .ok (.putfield 15, 3) := dk_181 0 15 (dk_at dksX2_init_0 17 rfl rfl)
theorem dX2_init_20 : decode cX2_init 20 = .ok (.aload_n 0, 1) := dk_42 (dk_at dksX2_init_0 20 rfl rfl)
theorem dX2_init_21 : decode cX2_init 21 = .ok (.iconst 2, 1) := dk_5 (dk_at dksX2_init_0 21 rfl rfl)
theorem dX2_init_22 : decode cX2_init 22 = .ok (.newarray .long, 2) := dk_188_11 (dk_at dksX2_init_0 22 rfl rfl)
theorem dX2_init_24 : decode cX2_init 24 = .ok (.putfield 19, 3) := dk_181 0 19 (dk_at dksX2_init_1 0 rfl rfl)
theorem dX2_init_27 : decode cX2_init 27 = .ok (.return_, 1) := dk_177 (dk_at dksX2_init_1 3 rfl rfl)
abbrev cX2_clear : ByteArray := prog_16_method_2_code
def yX2_clear : MethodName := ⟨RX2, "clear", "()LShapelayer$Raster;"⟩
def dkwX2_clear_1 : List UInt8 := [42, 176]
abbrev dktX2_clear_1 : List UInt8 := dkwX2_clear_1 ++ []
def dkwX2_clear_0 : List UInt8 := [3, 60, 27, 42, 180, 0, 9, 190, 162, 0, 16, 42, 180, 0, 9, 27, 3, 84, 132, 1, 1, 167, 255, 237]
abbrev dktX2_clear_0 : List UInt8 := dkwX2_clear_0 ++ dktX2_clear_1
theorem dksX2_clear_0 : cX2_clear.data.toList.drop 0 = dktX2_clear_0 := by decide +kernel
theorem dksX2_clear_1 : cX2_clear.data.toList.drop 24 = dktX2_clear_1 := dk_seg dksX2_clear_0 24 rfl rfl
theorem dX2_clear_0 : decode cX2_clear 0 = .ok (.iconst 0, 1) := dk_3 (dk_at dksX2_clear_0 0 rfl rfl)
theorem dX2_clear_1 : decode cX2_clear 1 = .ok (.istore_n 1, 1) := dk_60 (dk_at dksX2_clear_0 1 rfl rfl)
theorem dX2_clear_2 : decode cX2_clear 2 = .ok (.iload_n 1, 1) := dk_27 (dk_at dksX2_clear_0 2 rfl rfl)
theorem dX2_clear_3 : decode cX2_clear 3 = .ok (.aload_n 0, 1) := dk_42 (dk_at dksX2_clear_0 3 rfl rfl)
theorem dX2_clear_4 : decode cX2_clear 4 = .ok (.getfield 9, 3) := dk_180 0 9 (dk_at dksX2_clear_0 4 rfl rfl)
theorem dX2_clear_7 : decode cX2_clear 7 = .ok (.arraylength, 1) := dk_190 (dk_at dksX2_clear_0 7 rfl rfl)
theorem dX2_clear_8 : decode cX2_clear 8 = .ok (.if_icmp .ge 16, 3) := dk_162 0 16 (dk_at dksX2_clear_0 8 rfl rfl)
theorem dX2_clear_11 : decode cX2_clear 11 = .ok (.aload_n 0, 1) := dk_42 (dk_at dksX2_clear_0 11 rfl rfl)
theorem dX2_clear_12 : decode cX2_clear 12 = .ok (.getfield 9, 3) := dk_180 0 9 (dk_at dksX2_clear_0 12 rfl rfl)
theorem dX2_clear_15 : decode cX2_clear 15 = .ok (.iload_n 1, 1) := dk_27 (dk_at dksX2_clear_0 15 rfl rfl)
theorem dX2_clear_16 : decode cX2_clear 16 = .ok (.iconst 0, 1) := dk_3 (dk_at dksX2_clear_0 16 rfl rfl)
theorem dX2_clear_17 : decode cX2_clear 17 = .ok (.bastore, 1) := dk_84 (dk_at dksX2_clear_0 17 rfl rfl)
theorem dX2_clear_18 : decode cX2_clear 18 = .ok (.iinc 1 1, 3) := dk_132 1 1 (dk_at dksX2_clear_0 18 rfl rfl)
theorem dX2_clear_21 : decode cX2_clear 21 = .ok (.goto (-19), 3) := dk_167 255 237 (dk_at dksX2_clear_0 21 rfl rfl)
theorem dX2_clear_24 : decode cX2_clear 24 = .ok (.aload_n 0, 1) := dk_42 (dk_at dksX2_clear_1 0 rfl rfl)
theorem dX2_clear_25 : decode cX2_clear 25 = .ok (.areturn, 1) := dk_176 (dk_at dksX2_clear_1 1 rfl rfl)
abbrev cX2_put : ByteArray := prog_16_method_6_code
def yX2_put : MethodName := ⟨RX2, "put", "(III)V"⟩
def dkwX2_put_0 : List UInt8 := [42, 180, 0, 9, 16, 16, 28, 104, 27, 96, 29, 145, 84, 177]
abbrev dktX2_put_0 : List UInt8 := dkwX2_put_0 ++ []
theorem dksX2_put_0 : cX2_put.data.toList.drop 0 = dktX2_put_0 := by decide +kernel
theorem dX2_put_0 : decode cX2_put 0 = .ok (.aload_n 0, 1) := dk_42 (dk_at dksX2_put_0 0 rfl rfl)
theorem dX2_put_1 : decode cX2_put 1 = .ok (.getfield 9, 3) := dk_180 0 9 (dk_at dksX2_put_0 1 rfl rfl)
theorem dX2_put_4 : decode cX2_put 4 = .ok (.bipush 16, 2) := dk_16 16 (dk_at dksX2_put_0 4 rfl rfl)
theorem dX2_put_6 : decode cX2_put 6 = .ok (.iload_n 2, 1) := dk_28 (dk_at dksX2_put_0 6 rfl rfl)
theorem dX2_put_7 : decode cX2_put 7 = .ok (.imul, 1) := dk_104 (dk_at dksX2_put_0 7 rfl rfl)
theorem dX2_put_8 : decode cX2_put 8 = .ok (.iload_n 1, 1) := dk_27 (dk_at dksX2_put_0 8 rfl rfl)
theorem dX2_put_9 : decode cX2_put 9 = .ok (.iadd, 1) := dk_96 (dk_at dksX2_put_0 9 rfl rfl)
theorem dX2_put_10 : decode cX2_put 10 = .ok (.iload_n 3, 1) := dk_29 (dk_at dksX2_put_0 10 rfl rfl)
theorem dX2_put_11 : decode cX2_put 11 = .ok (.i2b, 1) := dk_145 (dk_at dksX2_put_0 11 rfl rfl)
theorem dX2_put_12 : decode cX2_put 12 = .ok (.bastore, 1) := dk_84 (dk_at dksX2_put_0 12 rfl rfl)
theorem dX2_put_13 : decode cX2_put 13 = .ok (.return_, 1) := dk_177 (dk_at dksX2_put_0 13 rfl rfl)
abbrev cX2_fill : ByteArray := prog_16_method_8_code
def yX2_fill : MethodName := ⟨RX2, "fill", "(JJJJI)V"⟩
def dkwX2_fill_2 : List UInt8 := [21, 9, 182, 0, 38, 132, 11, 1, 167, 255, 214, 132, 10, 1, 167, 255, 198, 177]
abbrev dktX2_fill_2 : List UInt8 := dkwX2_fill_2 ++ []
def dkwX2_fill_1 : List UInt8 := [22, 5, 184, 0, 34, 153, 0, 24, 21, 10, 33, 22, 7, 184, 0, 34, 153, 0, 13, 42, 21, 11, 21, 10]
abbrev dktX2_fill_1 : List UInt8 := dkwX2_fill_1 ++ dktX2_fill_2
def dkwX2_fill_0 : List UInt8 := [3, 54, 10, 21, 10, 16, 12, 162, 0, 57, 3, 54, 11, 21, 11, 16, 16, 162, 0, 41, 21, 11, 31]
abbrev dktX2_fill_0 : List UInt8 := dkwX2_fill_0 ++ dktX2_fill_1
theorem dksX2_fill_0 : cX2_fill.data.toList.drop 0 = dktX2_fill_0 := by decide +kernel
theorem dksX2_fill_1 : cX2_fill.data.toList.drop 23 = dktX2_fill_1 := dk_seg dksX2_fill_0 23 rfl rfl
theorem dksX2_fill_2 : cX2_fill.data.toList.drop 47 = dktX2_fill_2 := dk_seg dksX2_fill_1 24 rfl rfl
theorem dX2_fill_0 : decode cX2_fill 0 = .ok (.iconst 0, 1) := dk_3 (dk_at dksX2_fill_0 0 rfl rfl)
theorem dX2_fill_1 : decode cX2_fill 1 = .ok (.istore 10, 2) := dk_54 10 (dk_at dksX2_fill_0 1 rfl rfl)
theorem dX2_fill_3 : decode cX2_fill 3 = .ok (.iload 10, 2) := dk_21 10 (dk_at dksX2_fill_0 3 rfl rfl)
theorem dX2_fill_5 : decode cX2_fill 5 = .ok (.bipush 12, 2) := dk_16 12 (dk_at dksX2_fill_0 5 rfl rfl)
theorem dX2_fill_7 : decode cX2_fill 7 = .ok (.if_icmp .ge 57, 3) := dk_162 0 57 (dk_at dksX2_fill_0 7 rfl rfl)
theorem dX2_fill_10 : decode cX2_fill 10 = .ok (.iconst 0, 1) := dk_3 (dk_at dksX2_fill_0 10 rfl rfl)
theorem dX2_fill_11 : decode cX2_fill 11 = .ok (.istore 11, 2) := dk_54 11 (dk_at dksX2_fill_0 11 rfl rfl)
theorem dX2_fill_13 : decode cX2_fill 13 = .ok (.iload 11, 2) := dk_21 11 (dk_at dksX2_fill_0 13 rfl rfl)
theorem dX2_fill_15 : decode cX2_fill 15 = .ok (.bipush 16, 2) := dk_16 16 (dk_at dksX2_fill_0 15 rfl rfl)
theorem dX2_fill_17 : decode cX2_fill 17 = .ok (.if_icmp .ge 41, 3) := dk_162 0 41 (dk_at dksX2_fill_0 17 rfl rfl)
theorem dX2_fill_20 : decode cX2_fill 20 = .ok (.iload 11, 2) := dk_21 11 (dk_at dksX2_fill_0 20 rfl rfl)
theorem dX2_fill_22 : decode cX2_fill 22 = .ok (.lload_n 1, 1) := dk_31 (dk_at dksX2_fill_0 22 rfl rfl)
theorem dX2_fill_23 : decode cX2_fill 23 = .ok (.lload 5, 2) := dk_22 5 (dk_at dksX2_fill_1 0 rfl rfl)
theorem dX2_fill_25 : decode cX2_fill 25 = .ok (.invokestatic 34, 3) := dk_184 0 34 (dk_at dksX2_fill_1 2 rfl rfl)
theorem dX2_fill_28 : decode cX2_fill 28 = .ok (.ifCond .eq 24, 3) := dk_153 0 24 (dk_at dksX2_fill_1 5 rfl rfl)
theorem dX2_fill_31 : decode cX2_fill 31 = .ok (.iload 10, 2) := dk_21 10 (dk_at dksX2_fill_1 8 rfl rfl)
theorem dX2_fill_33 : decode cX2_fill 33 = .ok (.lload_n 3, 1) := dk_33 (dk_at dksX2_fill_1 10 rfl rfl)
theorem dX2_fill_34 : decode cX2_fill 34 = .ok (.lload 7, 2) := dk_22 7 (dk_at dksX2_fill_1 11 rfl rfl)
theorem dX2_fill_36 : decode cX2_fill 36 = .ok (.invokestatic 34, 3) := dk_184 0 34 (dk_at dksX2_fill_1 13 rfl rfl)
theorem dX2_fill_39 : decode cX2_fill 39 = .ok (.ifCond .eq 13, 3) := dk_153 0 13 (dk_at dksX2_fill_1 16 rfl rfl)
theorem dX2_fill_42 : decode cX2_fill 42 = .ok (.aload_n 0, 1) := dk_42 (dk_at dksX2_fill_1 19 rfl rfl)
theorem dX2_fill_43 : decode cX2_fill 43 = .ok (.iload 11, 2) := dk_21 11 (dk_at dksX2_fill_1 20 rfl rfl)
theorem dX2_fill_45 : decode cX2_fill 45 = .ok (.iload 10, 2) := dk_21 10 (dk_at dksX2_fill_1 22 rfl rfl)
theorem dX2_fill_47 : decode cX2_fill 47 = .ok (.iload 9, 2) := dk_21 9 (dk_at dksX2_fill_2 0 rfl rfl)
theorem dX2_fill_49 : decode cX2_fill 49 = .ok (.invokevirtual 38, 3) := dk_182 0 38 (dk_at dksX2_fill_2 2 rfl rfl)
theorem dX2_fill_52 : decode cX2_fill 52 = .ok (.iinc 11 1, 3) := dk_132 11 1 (dk_at dksX2_fill_2 5 rfl rfl)
theorem dX2_fill_55 : decode cX2_fill 55 = .ok (.goto (-42), 3) := dk_167 255 214 (dk_at dksX2_fill_2 8 rfl rfl)
theorem dX2_fill_58 : decode cX2_fill 58 = .ok (.iinc 10 1, 3) := dk_132 10 1 (dk_at dksX2_fill_2 11 rfl rfl)
theorem dX2_fill_61 : decode cX2_fill 61 = .ok (.goto (-58), 3) := dk_167 255 198 (dk_at dksX2_fill_2 14 rfl rfl)
theorem dX2_fill_64 : decode cX2_fill 64 = .ok (.return_, 1) := dk_177 (dk_at dksX2_fill_2 17 rfl rfl)
abbrev cX2_isAmong : ByteArray := prog_16_method_9_code
def yX2_isAmong : MethodName := ⟨RX2, "isAmong", "(IJJ)Z"⟩
def dkwX2_isAmong_1 : List UInt8 := [167, 0, 4, 3, 172]
abbrev dktX2_isAmong_1 : List UInt8 := dkwX2_isAmong_1 ++ []
def dkwX2_isAmong_0 : List UInt8 := [26, 133, 31, 33, 184, 0, 42, 148, 155, 0, 18, 26, 133, 31, 33, 184, 0, 48, 148, 157, 0, 7, 4]
abbrev dktX2_isAmong_0 : List UInt8 := dkwX2_isAmong_0 ++ dktX2_isAmong_1
theorem dksX2_isAmong_0 : cX2_isAmong.data.toList.drop 0 = dktX2_isAmong_0 := by decide +kernel
theorem dksX2_isAmong_1 : cX2_isAmong.data.toList.drop 23 = dktX2_isAmong_1 := dk_seg dksX2_isAmong_0 23 rfl rfl
theorem dX2_isAmong_0 : decode cX2_isAmong 0 = .ok (.iload_n 0, 1) := dk_26 (dk_at dksX2_isAmong_0 0 rfl rfl)
theorem dX2_isAmong_1 : decode cX2_isAmong 1 = .ok (.i2l, 1) := dk_133 (dk_at dksX2_isAmong_0 1 rfl rfl)
theorem dX2_isAmong_2 : decode cX2_isAmong 2 = .ok (.lload_n 1, 1) := dk_31 (dk_at dksX2_isAmong_0 2 rfl rfl)
theorem dX2_isAmong_3 : decode cX2_isAmong 3 = .ok (.lload_n 3, 1) := dk_33 (dk_at dksX2_isAmong_0 3 rfl rfl)
theorem dX2_isAmong_4 : decode cX2_isAmong 4 = .ok (.invokestatic 42, 3) := dk_184 0 42 (dk_at dksX2_isAmong_0 4 rfl rfl)
theorem dX2_isAmong_7 : decode cX2_isAmong 7 = .ok (.lcmp, 1) := dk_148 (dk_at dksX2_isAmong_0 7 rfl rfl)
theorem dX2_isAmong_8 : decode cX2_isAmong 8 = .ok (.ifCond .lt 18, 3) := dk_155 0 18 (dk_at dksX2_isAmong_0 8 rfl rfl)
theorem dX2_isAmong_11 : decode cX2_isAmong 11 = .ok (.iload_n 0, 1) := dk_26 (dk_at dksX2_isAmong_0 11 rfl rfl)
theorem dX2_isAmong_12 : decode cX2_isAmong 12 = .ok (.i2l, 1) := dk_133 (dk_at dksX2_isAmong_0 12 rfl rfl)
theorem dX2_isAmong_13 : decode cX2_isAmong 13 = .ok (.lload_n 1, 1) := dk_31 (dk_at dksX2_isAmong_0 13 rfl rfl)
theorem dX2_isAmong_14 : decode cX2_isAmong 14 = .ok (.lload_n 3, 1) := dk_33 (dk_at dksX2_isAmong_0 14 rfl rfl)
theorem dX2_isAmong_15 : decode cX2_isAmong 15 = .ok (.invokestatic 48, 3) := dk_184 0 48 (dk_at dksX2_isAmong_0 15 rfl rfl)
theorem dX2_isAmong_18 : decode cX2_isAmong 18 = .ok (.lcmp, 1) := dk_148 (dk_at dksX2_isAmong_0 18 rfl rfl)
theorem dX2_isAmong_19 : decode cX2_isAmong 19 = .ok (.ifCond .gt 7, 3) := dk_157 0 7 (dk_at dksX2_isAmong_0 19 rfl rfl)
theorem dX2_isAmong_22 : decode cX2_isAmong 22 = .ok (.iconst 1, 1) := dk_4 (dk_at dksX2_isAmong_0 22 rfl rfl)
theorem dX2_isAmong_23 : decode cX2_isAmong 23 = .ok (.goto 4, 3) := dk_167 0 4 (dk_at dksX2_isAmong_1 0 rfl rfl)
theorem dX2_isAmong_26 : decode cX2_isAmong 26 = .ok (.iconst 0, 1) := dk_3 (dk_at dksX2_isAmong_1 3 rfl rfl)
theorem dX2_isAmong_27 : decode cX2_isAmong 27 = .ok (.ireturn, 1) := dk_172 (dk_at dksX2_isAmong_1 4 rfl rfl)
abbrev cX2_own : ByteArray := prog_16_method_4_code
def yX2_own : MethodName := ⟨RX2, "own", "()LShapelayer$Raster;"⟩
def dkwX2_own_1 : List UInt8 := [182, 0, 27, 176]
abbrev dktX2_own_1 : List UInt8 := dkwX2_own_1 ++ []
def dkwX2_own_0 : List UInt8 := [42, 180, 0, 23, 199, 0, 14, 42, 187, 0, 10, 89, 183, 0, 22, 181, 0, 23, 42, 180, 0, 23]
abbrev dktX2_own_0 : List UInt8 := dkwX2_own_0 ++ dktX2_own_1
theorem dksX2_own_0 : cX2_own.data.toList.drop 0 = dktX2_own_0 := by decide +kernel
theorem dksX2_own_1 : cX2_own.data.toList.drop 22 = dktX2_own_1 := dk_seg dksX2_own_0 22 rfl rfl
theorem dX2_own_0 : decode cX2_own 0 = .ok (.aload_n 0, 1) := dk_42 (dk_at dksX2_own_0 0 rfl rfl)
theorem dX2_own_1 : decode cX2_own 1 = .ok (.getfield 23, 3) := dk_180 0 23 (dk_at dksX2_own_0 1 rfl rfl)
theorem dX2_own_4 : decode cX2_own 4 = .ok (.ifnonnull 14, 3) := dk_199 0 14 (dk_at dksX2_own_0 4 rfl rfl)
theorem dX2_own_7 : decode cX2_own 7 = .ok (.aload_n 0, 1) := dk_42 (dk_at dksX2_own_0 7 rfl rfl)
theorem dX2_own_8 : decode cX2_own 8 = .ok (.new 10, 3) := dk_187 0 10 (dk_at dksX2_own_0 8 rfl rfl)
theorem dX2_own_11 : decode cX2_own 11 = .ok (.dup, 1) := dk_89 (dk_at dksX2_own_0 11 rfl rfl)
theorem dX2_own_12 : decode cX2_own 12 = .ok (.invokespecial 22, 3) := dk_183 0 22 (dk_at dksX2_own_0 12 rfl rfl)
theorem dX2_own_15 : decode cX2_own 15 = .ok (.putfield 23, 3) := dk_181 0 23 (dk_at dksX2_own_0 15 rfl rfl)
theorem dX2_own_18 : decode cX2_own 18 = .ok (.aload_n 0, 1) := dk_42 (dk_at dksX2_own_0 18 rfl rfl)
theorem dX2_own_19 : decode cX2_own 19 = .ok (.getfield 23, 3) := dk_180 0 23 (dk_at dksX2_own_0 19 rfl rfl)
theorem dX2_own_22 : decode cX2_own 22 = .ok (.invokevirtual 27, 3) := dk_182 0 27 (dk_at dksX2_own_1 0 rfl rfl)
theorem dX2_own_25 : decode cX2_own 25 = .ok (.areturn, 1) := dk_176 (dk_at dksX2_own_1 3 rfl rfl)
abbrev cX2_mask : ByteArray := prog_16_method_5_code
def yX2_mask : MethodName := ⟨RX2, "mask", "()LShapelayer$Raster;"⟩
def dkwX2_mask_1 : List UInt8 := [182, 0, 27, 176]
abbrev dktX2_mask_1 : List UInt8 := dkwX2_mask_1 ++ []
def dkwX2_mask_0 : List UInt8 := [42, 180, 0, 31, 199, 0, 14, 42, 187, 0, 10, 89, 183, 0, 22, 181, 0, 31, 42, 180, 0, 31]
abbrev dktX2_mask_0 : List UInt8 := dkwX2_mask_0 ++ dktX2_mask_1
theorem dksX2_mask_0 : cX2_mask.data.toList.drop 0 = dktX2_mask_0 := by decide +kernel
theorem dksX2_mask_1 : cX2_mask.data.toList.drop 22 = dktX2_mask_1 := dk_seg dksX2_mask_0 22 rfl rfl
theorem dX2_mask_0 : decode cX2_mask 0 = .ok (.aload_n 0, 1) := dk_42 (dk_at dksX2_mask_0 0 rfl rfl)
theorem dX2_mask_1 : decode cX2_mask 1 = .ok (.getfield 31, 3) := dk_180 0 31 (dk_at dksX2_mask_0 1 rfl rfl)
theorem dX2_mask_4 : decode cX2_mask 4 = .ok (.ifnonnull 14, 3) := dk_199 0 14 (dk_at dksX2_mask_0 4 rfl rfl)
theorem dX2_mask_7 : decode cX2_mask 7 = .ok (.aload_n 0, 1) := dk_42 (dk_at dksX2_mask_0 7 rfl rfl)
theorem dX2_mask_8 : decode cX2_mask 8 = .ok (.new 10, 3) := dk_187 0 10 (dk_at dksX2_mask_0 8 rfl rfl)
theorem dX2_mask_11 : decode cX2_mask 11 = .ok (.dup, 1) := dk_89 (dk_at dksX2_mask_0 11 rfl rfl)
theorem dX2_mask_12 : decode cX2_mask 12 = .ok (.invokespecial 22, 3) := dk_183 0 22 (dk_at dksX2_mask_0 12 rfl rfl)
theorem dX2_mask_15 : decode cX2_mask 15 = .ok (.putfield 31, 3) := dk_181 0 31 (dk_at dksX2_mask_0 15 rfl rfl)
theorem dX2_mask_18 : decode cX2_mask 18 = .ok (.aload_n 0, 1) := dk_42 (dk_at dksX2_mask_0 18 rfl rfl)
theorem dX2_mask_19 : decode cX2_mask 19 = .ok (.getfield 31, 3) := dk_180 0 31 (dk_at dksX2_mask_0 19 rfl rfl)
theorem dX2_mask_22 : decode cX2_mask 22 = .ok (.invokevirtual 27, 3) := dk_182 0 27 (dk_at dksX2_mask_1 0 rfl rfl)
theorem dX2_mask_25 : decode cX2_mask 25 = .ok (.areturn, 1) := dk_176 (dk_at dksX2_mask_1 3 rfl rfl)
abbrev cX2_take : ByteArray := prog_16_method_10_code
def yX2_take : MethodName := ⟨RX2, "take", "(LShapelayer$Raster;LShapelayer$Raster;Z)V"⟩
def dkwX2_take_2 : List UInt8 := [43, 180, 0, 9, 21, 4, 51, 84, 132, 4, 1, 167, 255, 200, 177]
abbrev dktX2_take_2 : List UInt8 := dkwX2_take_2 ++ []
def dkwX2_take_1 : List UInt8 := [180, 0, 9, 21, 4, 51, 153, 0, 7, 4, 167, 0, 4, 3, 29, 159, 0, 17, 42, 180, 0, 9, 21, 4]
abbrev dktX2_take_1 : List UInt8 := dkwX2_take_1 ++ dktX2_take_2
def dkwX2_take_0 : List UInt8 := [3, 54, 4, 21, 4, 42, 180, 0, 9, 190, 162, 0, 52, 43, 180, 0, 9, 21, 4, 51, 153, 0, 36, 44]
abbrev dktX2_take_0 : List UInt8 := dkwX2_take_0 ++ dktX2_take_1
theorem dksX2_take_0 : cX2_take.data.toList.drop 0 = dktX2_take_0 := by decide +kernel
theorem dksX2_take_1 : cX2_take.data.toList.drop 24 = dktX2_take_1 := dk_seg dksX2_take_0 24 rfl rfl
theorem dksX2_take_2 : cX2_take.data.toList.drop 48 = dktX2_take_2 := dk_seg dksX2_take_1 24 rfl rfl
theorem dX2_take_0 : decode cX2_take 0 = .ok (.iconst 0, 1) := dk_3 (dk_at dksX2_take_0 0 rfl rfl)
theorem dX2_take_1 : decode cX2_take 1 = .ok (.istore 4, 2) := dk_54 4 (dk_at dksX2_take_0 1 rfl rfl)
theorem dX2_take_3 : decode cX2_take 3 = .ok (.iload 4, 2) := dk_21 4 (dk_at dksX2_take_0 3 rfl rfl)
theorem dX2_take_5 : decode cX2_take 5 = .ok (.aload_n 0, 1) := dk_42 (dk_at dksX2_take_0 5 rfl rfl)
theorem dX2_take_6 : decode cX2_take 6 = .ok (.getfield 9, 3) := dk_180 0 9 (dk_at dksX2_take_0 6 rfl rfl)
theorem dX2_take_9 : decode cX2_take 9 = .ok (.arraylength, 1) := dk_190 (dk_at dksX2_take_0 9 rfl rfl)
theorem dX2_take_10 : decode cX2_take 10 = .ok (.if_icmp .ge 52, 3) := dk_162 0 52 (dk_at dksX2_take_0 10 rfl rfl)
theorem dX2_take_13 : decode cX2_take 13 = .ok (.aload_n 1, 1) := dk_43 (dk_at dksX2_take_0 13 rfl rfl)
theorem dX2_take_14 : decode cX2_take 14 = .ok (.getfield 9, 3) := dk_180 0 9 (dk_at dksX2_take_0 14 rfl rfl)
theorem dX2_take_17 : decode cX2_take 17 = .ok (.iload 4, 2) := dk_21 4 (dk_at dksX2_take_0 17 rfl rfl)
theorem dX2_take_19 : decode cX2_take 19 = .ok (.baload, 1) := dk_51 (dk_at dksX2_take_0 19 rfl rfl)
theorem dX2_take_20 : decode cX2_take 20 = .ok (.ifCond .eq 36, 3) := dk_153 0 36 (dk_at dksX2_take_0 20 rfl rfl)
theorem dX2_take_23 : decode cX2_take 23 = .ok (.aload_n 2, 1) := dk_44 (dk_at dksX2_take_0 23 rfl rfl)
theorem dX2_take_24 : decode cX2_take 24 = .ok (.getfield 9, 3) := dk_180 0 9 (dk_at dksX2_take_1 0 rfl rfl)
theorem dX2_take_27 : decode cX2_take 27 = .ok (.iload 4, 2) := dk_21 4 (dk_at dksX2_take_1 3 rfl rfl)
theorem dX2_take_29 : decode cX2_take 29 = .ok (.baload, 1) := dk_51 (dk_at dksX2_take_1 5 rfl rfl)
theorem dX2_take_30 : decode cX2_take 30 = .ok (.ifCond .eq 7, 3) := dk_153 0 7 (dk_at dksX2_take_1 6 rfl rfl)
theorem dX2_take_33 : decode cX2_take 33 = .ok (.iconst 1, 1) := dk_4 (dk_at dksX2_take_1 9 rfl rfl)
theorem dX2_take_34 : decode cX2_take 34 = .ok (.goto 4, 3) := dk_167 0 4 (dk_at dksX2_take_1 10 rfl rfl)
theorem dX2_take_37 : decode cX2_take 37 = .ok (.iconst 0, 1) := dk_3 (dk_at dksX2_take_1 13 rfl rfl)
theorem dX2_take_38 : decode cX2_take 38 = .ok (.iload_n 3, 1) := dk_29 (dk_at dksX2_take_1 14 rfl rfl)
theorem dX2_take_39 : decode cX2_take 39 = .ok (.if_icmp .eq 17, 3) := dk_159 0 17 (dk_at dksX2_take_1 15 rfl rfl)
theorem dX2_take_42 : decode cX2_take 42 = .ok (.aload_n 0, 1) := dk_42 (dk_at dksX2_take_1 18 rfl rfl)
theorem dX2_take_43 : decode cX2_take 43 = .ok (.getfield 9, 3) := dk_180 0 9 (dk_at dksX2_take_1 19 rfl rfl)
theorem dX2_take_46 : decode cX2_take 46 = .ok (.iload 4, 2) := dk_21 4 (dk_at dksX2_take_1 22 rfl rfl)
theorem dX2_take_48 : decode cX2_take 48 = .ok (.aload_n 1, 1) := dk_43 (dk_at dksX2_take_2 0 rfl rfl)
theorem dX2_take_49 : decode cX2_take 49 = .ok (.getfield 9, 3) := dk_180 0 9 (dk_at dksX2_take_2 1 rfl rfl)
theorem dX2_take_52 : decode cX2_take 52 = .ok (.iload 4, 2) := dk_21 4 (dk_at dksX2_take_2 4 rfl rfl)
theorem dX2_take_54 : decode cX2_take 54 = .ok (.baload, 1) := dk_51 (dk_at dksX2_take_2 6 rfl rfl)
theorem dX2_take_55 : decode cX2_take 55 = .ok (.bastore, 1) := dk_84 (dk_at dksX2_take_2 7 rfl rfl)
theorem dX2_take_56 : decode cX2_take 56 = .ok (.iinc 4 1, 3) := dk_132 4 1 (dk_at dksX2_take_2 8 rfl rfl)
theorem dX2_take_59 : decode cX2_take 59 = .ok (.goto (-56), 3) := dk_167 255 200 (dk_at dksX2_take_2 11 rfl rfl)
theorem dX2_take_62 : decode cX2_take 62 = .ok (.return_, 1) := dk_177 (dk_at dksX2_take_2 14 rfl rfl)
abbrev cX2_copy : ByteArray := prog_16_method_3_code
def yX2_copy : MethodName := ⟨RX2, "copy", "()LShapelayer$Raster;"⟩
def dkwX2_copy_1 : List UInt8 := [42, 180, 0, 9, 28, 51, 84, 132, 2, 1, 167, 255, 232, 43, 176]
abbrev dktX2_copy_1 : List UInt8 := dkwX2_copy_1 ++ []
def dkwX2_copy_0 : List UInt8 := [187, 0, 10, 89, 183, 0, 22, 76, 3, 61, 28, 42, 180, 0, 9, 190, 162, 0, 21, 43, 180, 0, 9, 28]
abbrev dktX2_copy_0 : List UInt8 := dkwX2_copy_0 ++ dktX2_copy_1
theorem dksX2_copy_0 : cX2_copy.data.toList.drop 0 = dktX2_copy_0 := by decide +kernel
theorem dksX2_copy_1 : cX2_copy.data.toList.drop 24 = dktX2_copy_1 := dk_seg dksX2_copy_0 24 rfl rfl
theorem dX2_copy_0 : decode cX2_copy 0 = .ok (.new 10, 3) := dk_187 0 10 (dk_at dksX2_copy_0 0 rfl rfl)
theorem dX2_copy_3 : decode cX2_copy 3 = .ok (.dup, 1) := dk_89 (dk_at dksX2_copy_0 3 rfl rfl)
theorem dX2_copy_4 : decode cX2_copy 4 = .ok (.invokespecial 22, 3) := dk_183 0 22 (dk_at dksX2_copy_0 4 rfl rfl)
theorem dX2_copy_7 : decode cX2_copy 7 = .ok (.astore_n 1, 1) := dk_76 (dk_at dksX2_copy_0 7 rfl rfl)
theorem dX2_copy_8 : decode cX2_copy 8 = .ok (.iconst 0, 1) := dk_3 (dk_at dksX2_copy_0 8 rfl rfl)
theorem dX2_copy_9 : decode cX2_copy 9 = .ok (.istore_n 2, 1) := dk_61 (dk_at dksX2_copy_0 9 rfl rfl)
theorem dX2_copy_10 : decode cX2_copy 10 = .ok (.iload_n 2, 1) := dk_28 (dk_at dksX2_copy_0 10 rfl rfl)
theorem dX2_copy_11 : decode cX2_copy 11 = .ok (.aload_n 0, 1) := dk_42 (dk_at dksX2_copy_0 11 rfl rfl)
theorem dX2_copy_12 : decode cX2_copy 12 = .ok (.getfield 9, 3) := dk_180 0 9 (dk_at dksX2_copy_0 12 rfl rfl)
theorem dX2_copy_15 : decode cX2_copy 15 = .ok (.arraylength, 1) := dk_190 (dk_at dksX2_copy_0 15 rfl rfl)
theorem dX2_copy_16 : decode cX2_copy 16 = .ok (.if_icmp .ge 21, 3) := dk_162 0 21 (dk_at dksX2_copy_0 16 rfl rfl)
theorem dX2_copy_19 : decode cX2_copy 19 = .ok (.aload_n 1, 1) := dk_43 (dk_at dksX2_copy_0 19 rfl rfl)
theorem dX2_copy_20 : decode cX2_copy 20 = .ok (.getfield 9, 3) := dk_180 0 9 (dk_at dksX2_copy_0 20 rfl rfl)
theorem dX2_copy_23 : decode cX2_copy 23 = .ok (.iload_n 2, 1) := dk_28 (dk_at dksX2_copy_0 23 rfl rfl)
theorem dX2_copy_24 : decode cX2_copy 24 = .ok (.aload_n 0, 1) := dk_42 (dk_at dksX2_copy_1 0 rfl rfl)
theorem dX2_copy_25 : decode cX2_copy 25 = .ok (.getfield 9, 3) := dk_180 0 9 (dk_at dksX2_copy_1 1 rfl rfl)
theorem dX2_copy_28 : decode cX2_copy 28 = .ok (.iload_n 2, 1) := dk_28 (dk_at dksX2_copy_1 4 rfl rfl)
theorem dX2_copy_29 : decode cX2_copy 29 = .ok (.baload, 1) := dk_51 (dk_at dksX2_copy_1 5 rfl rfl)
theorem dX2_copy_30 : decode cX2_copy 30 = .ok (.bastore, 1) := dk_84 (dk_at dksX2_copy_1 6 rfl rfl)
theorem dX2_copy_31 : decode cX2_copy 31 = .ok (.iinc 2 1, 3) := dk_132 2 1 (dk_at dksX2_copy_1 7 rfl rfl)
theorem dX2_copy_34 : decode cX2_copy 34 = .ok (.goto (-24), 3) := dk_167 255 232 (dk_at dksX2_copy_1 10 rfl rfl)
theorem dX2_copy_37 : decode cX2_copy 37 = .ok (.aload_n 1, 1) := dk_43 (dk_at dksX2_copy_1 13 rfl rfl)
theorem dX2_copy_38 : decode cX2_copy 38 = .ok (.areturn, 1) := dk_176 (dk_at dksX2_copy_1 14 rfl rfl)
abbrev cX2_at : ByteArray := prog_16_method_7_code
def yX2_at : MethodName := ⟨RX2, "at", "(II)I"⟩
def dkwX2_at_0 : List UInt8 := [42, 180, 0, 9, 16, 16, 28, 104, 27, 96, 51, 172]
abbrev dktX2_at_0 : List UInt8 := dkwX2_at_0 ++ []
theorem dksX2_at_0 : cX2_at.data.toList.drop 0 = dktX2_at_0 := by decide +kernel
theorem dX2_at_0 : decode cX2_at 0 = .ok (.aload_n 0, 1) := dk_42 (dk_at dksX2_at_0 0 rfl rfl)
theorem dX2_at_1 : decode cX2_at 1 = .ok (.getfield 9, 3) := dk_180 0 9 (dk_at dksX2_at_0 1 rfl rfl)
theorem dX2_at_4 : decode cX2_at 4 = .ok (.bipush 16, 2) := dk_16 16 (dk_at dksX2_at_0 4 rfl rfl)
theorem dX2_at_6 : decode cX2_at 6 = .ok (.iload_n 2, 1) := dk_28 (dk_at dksX2_at_0 6 rfl rfl)
theorem dX2_at_7 : decode cX2_at 7 = .ok (.imul, 1) := dk_104 (dk_at dksX2_at_0 7 rfl rfl)
theorem dX2_at_8 : decode cX2_at 8 = .ok (.iload_n 1, 1) := dk_27 (dk_at dksX2_at_0 8 rfl rfl)
theorem dX2_at_9 : decode cX2_at 9 = .ok (.iadd, 1) := dk_96 (dk_at dksX2_at_0 9 rfl rfl)
theorem dX2_at_10 : decode cX2_at 10 = .ok (.baload, 1) := dk_51 (dk_at dksX2_at_0 10 rfl rfl)
theorem dX2_at_11 : decode cX2_at 11 = .ok (.ireturn, 1) := dk_172 (dk_at dksX2_at_0 11 rfl rfl)
abbrev cX2_count : ByteArray := prog_16_method_11_code
def yX2_count : MethodName := ⟨RX2, "count", "()I"⟩
def dkwX2_count_1 : List UInt8 := [54, 5, 21, 5, 153, 0, 6, 132, 1, 1, 132, 4, 1, 167, 255, 233, 27, 172]
abbrev dktX2_count_1 : List UInt8 := dkwX2_count_1 ++ []
def dkwX2_count_0 : List UInt8 := [3, 60, 42, 180, 0, 9, 77, 44, 190, 62, 3, 54, 4, 21, 4, 29, 162, 0, 23, 44, 21, 4, 51]
abbrev dktX2_count_0 : List UInt8 := dkwX2_count_0 ++ dktX2_count_1
theorem dksX2_count_0 : cX2_count.data.toList.drop 0 = dktX2_count_0 := by decide +kernel
theorem dksX2_count_1 : cX2_count.data.toList.drop 23 = dktX2_count_1 := dk_seg dksX2_count_0 23 rfl rfl
theorem dX2_count_0 : decode cX2_count 0 = .ok (.iconst 0, 1) := dk_3 (dk_at dksX2_count_0 0 rfl rfl)
theorem dX2_count_1 : decode cX2_count 1 = .ok (.istore_n 1, 1) := dk_60 (dk_at dksX2_count_0 1 rfl rfl)
theorem dX2_count_2 : decode cX2_count 2 = .ok (.aload_n 0, 1) := dk_42 (dk_at dksX2_count_0 2 rfl rfl)
theorem dX2_count_3 : decode cX2_count 3 = .ok (.getfield 9, 3) := dk_180 0 9 (dk_at dksX2_count_0 3 rfl rfl)
theorem dX2_count_6 : decode cX2_count 6 = .ok (.astore_n 2, 1) := dk_77 (dk_at dksX2_count_0 6 rfl rfl)
theorem dX2_count_7 : decode cX2_count 7 = .ok (.aload_n 2, 1) := dk_44 (dk_at dksX2_count_0 7 rfl rfl)
theorem dX2_count_8 : decode cX2_count 8 = .ok (.arraylength, 1) := dk_190 (dk_at dksX2_count_0 8 rfl rfl)
theorem dX2_count_9 : decode cX2_count 9 = .ok (.istore_n 3, 1) := dk_62 (dk_at dksX2_count_0 9 rfl rfl)
theorem dX2_count_10 : decode cX2_count 10 = .ok (.iconst 0, 1) := dk_3 (dk_at dksX2_count_0 10 rfl rfl)
theorem dX2_count_11 : decode cX2_count 11 = .ok (.istore 4, 2) := dk_54 4 (dk_at dksX2_count_0 11 rfl rfl)
theorem dX2_count_13 : decode cX2_count 13 = .ok (.iload 4, 2) := dk_21 4 (dk_at dksX2_count_0 13 rfl rfl)
theorem dX2_count_15 : decode cX2_count 15 = .ok (.iload_n 3, 1) := dk_29 (dk_at dksX2_count_0 15 rfl rfl)
theorem dX2_count_16 : decode cX2_count 16 = .ok (.if_icmp .ge 23, 3) := dk_162 0 23 (dk_at dksX2_count_0 16 rfl rfl)
theorem dX2_count_19 : decode cX2_count 19 = .ok (.aload_n 2, 1) := dk_44 (dk_at dksX2_count_0 19 rfl rfl)
theorem dX2_count_20 : decode cX2_count 20 = .ok (.iload 4, 2) := dk_21 4 (dk_at dksX2_count_0 20 rfl rfl)
theorem dX2_count_22 : decode cX2_count 22 = .ok (.baload, 1) := dk_51 (dk_at dksX2_count_0 22 rfl rfl)
theorem dX2_count_23 : decode cX2_count 23 = .ok (.istore 5, 2) := dk_54 5 (dk_at dksX2_count_1 0 rfl rfl)
theorem dX2_count_25 : decode cX2_count 25 = .ok (.iload 5, 2) := dk_21 5 (dk_at dksX2_count_1 2 rfl rfl)
theorem dX2_count_27 : decode cX2_count 27 = .ok (.ifCond .eq 6, 3) := dk_153 0 6 (dk_at dksX2_count_1 4 rfl rfl)
theorem dX2_count_30 : decode cX2_count 30 = .ok (.iinc 1 1, 3) := dk_132 1 1 (dk_at dksX2_count_1 7 rfl rfl)
theorem dX2_count_33 : decode cX2_count 33 = .ok (.iinc 4 1, 3) := dk_132 4 1 (dk_at dksX2_count_1 10 rfl rfl)
theorem dX2_count_36 : decode cX2_count 36 = .ok (.goto (-23), 3) := dk_167 255 233 (dk_at dksX2_count_1 13 rfl rfl)
theorem dX2_count_39 : decode cX2_count 39 = .ok (.iload_n 1, 1) := dk_27 (dk_at dksX2_count_1 16 rfl rfl)
theorem dX2_count_40 : decode cX2_count 40 = .ok (.ireturn, 1) := dk_172 (dk_at dksX2_count_1 17 rfl rfl)
abbrev cX2_isLike : ByteArray := prog_16_method_12_code
def yX2_isLike : MethodName := ⟨RX2, "isLike", "(LShapelayer$Raster;)Z"⟩
def dkwX2_isLike_1 : List UInt8 := [159, 0, 5, 3, 172, 132, 2, 1, 167, 255, 227, 4, 172]
abbrev dktX2_isLike_1 : List UInt8 := dkwX2_isLike_1 ++ []
def dkwX2_isLike_0 : List UInt8 := [3, 61, 28, 42, 180, 0, 9, 190, 162, 0, 26, 42, 180, 0, 9, 28, 51, 43, 180, 0, 9, 28, 51]
abbrev dktX2_isLike_0 : List UInt8 := dkwX2_isLike_0 ++ dktX2_isLike_1
theorem dksX2_isLike_0 : cX2_isLike.data.toList.drop 0 = dktX2_isLike_0 := by decide +kernel
theorem dksX2_isLike_1 : cX2_isLike.data.toList.drop 23 = dktX2_isLike_1 := dk_seg dksX2_isLike_0 23 rfl rfl
theorem dX2_isLike_0 : decode cX2_isLike 0 = .ok (.iconst 0, 1) := dk_3 (dk_at dksX2_isLike_0 0 rfl rfl)
theorem dX2_isLike_1 : decode cX2_isLike 1 = .ok (.istore_n 2, 1) := dk_61 (dk_at dksX2_isLike_0 1 rfl rfl)
theorem dX2_isLike_2 : decode cX2_isLike 2 = .ok (.iload_n 2, 1) := dk_28 (dk_at dksX2_isLike_0 2 rfl rfl)
theorem dX2_isLike_3 : decode cX2_isLike 3 = .ok (.aload_n 0, 1) := dk_42 (dk_at dksX2_isLike_0 3 rfl rfl)
theorem dX2_isLike_4 : decode cX2_isLike 4 = .ok (.getfield 9, 3) := dk_180 0 9 (dk_at dksX2_isLike_0 4 rfl rfl)
theorem dX2_isLike_7 : decode cX2_isLike 7 = .ok (.arraylength, 1) := dk_190 (dk_at dksX2_isLike_0 7 rfl rfl)
theorem dX2_isLike_8 : decode cX2_isLike 8 = .ok (.if_icmp .ge 26, 3) := dk_162 0 26 (dk_at dksX2_isLike_0 8 rfl rfl)
theorem dX2_isLike_11 : decode cX2_isLike 11 = .ok (.aload_n 0, 1) := dk_42 (dk_at dksX2_isLike_0 11 rfl rfl)
theorem dX2_isLike_12 : decode cX2_isLike 12 = .ok (.getfield 9, 3) := dk_180 0 9 (dk_at dksX2_isLike_0 12 rfl rfl)
theorem dX2_isLike_15 : decode cX2_isLike 15 = .ok (.iload_n 2, 1) := dk_28 (dk_at dksX2_isLike_0 15 rfl rfl)
theorem dX2_isLike_16 : decode cX2_isLike 16 = .ok (.baload, 1) := dk_51 (dk_at dksX2_isLike_0 16 rfl rfl)
theorem dX2_isLike_17 : decode cX2_isLike 17 = .ok (.aload_n 1, 1) := dk_43 (dk_at dksX2_isLike_0 17 rfl rfl)
theorem dX2_isLike_18 : decode cX2_isLike 18 = .ok (.getfield 9, 3) := dk_180 0 9 (dk_at dksX2_isLike_0 18 rfl rfl)
theorem dX2_isLike_21 : decode cX2_isLike 21 = .ok (.iload_n 2, 1) := dk_28 (dk_at dksX2_isLike_0 21 rfl rfl)
theorem dX2_isLike_22 : decode cX2_isLike 22 = .ok (.baload, 1) := dk_51 (dk_at dksX2_isLike_0 22 rfl rfl)
theorem dX2_isLike_23 : decode cX2_isLike 23 = .ok (.if_icmp .eq 5, 3) := dk_159 0 5 (dk_at dksX2_isLike_1 0 rfl rfl)
theorem dX2_isLike_26 : decode cX2_isLike 26 = .ok (.iconst 0, 1) := dk_3 (dk_at dksX2_isLike_1 3 rfl rfl)
theorem dX2_isLike_27 : decode cX2_isLike 27 = .ok (.ireturn, 1) := dk_172 (dk_at dksX2_isLike_1 4 rfl rfl)
theorem dX2_isLike_28 : decode cX2_isLike 28 = .ok (.iinc 2 1, 3) := dk_132 2 1 (dk_at dksX2_isLike_1 5 rfl rfl)
theorem dX2_isLike_31 : decode cX2_isLike 31 = .ok (.goto (-29), 3) := dk_167 255 227 (dk_at dksX2_isLike_1 8 rfl rfl)
theorem dX2_isLike_34 : decode cX2_isLike 34 = .ok (.iconst 1, 1) := dk_4 (dk_at dksX2_isLike_1 11 rfl rfl)
theorem dX2_isLike_35 : decode cX2_isLike 35 = .ok (.ireturn, 1) := dk_172 (dk_at dksX2_isLike_1 12 rfl rfl)
theorem q67 : (Jvm.Cond.initialized "Shapelayer$Raster") ∈ lw_all := lw_g (lw_at lw_m1 9 rfl) rfl
theorem q174 : (Jvm.Cond.instantiable "Shapelayer$Raster" (5 : Nat)) ∈ lw_all := lw_g (lw_at lw_m1 116 rfl) rfl
theorem q176 : (Jvm.Cond.instanceMethod ({ cls := "Shapelayer$Raster", name := "<init>", desc := "()V" } : Jvm.MethodName)) ∈ lw_all := lw_g (lw_at lw_m1 118 rfl) rfl
theorem q177 : (Jvm.Cond.code ({ cls := "Shapelayer$Raster", name := "<init>", desc := "()V" } : Jvm.MethodName) prog_16_method_1_code (1 : Nat) (Option.none : Option Jvm.ClassFile.FieldType)) ∈ lw_all := lw_g (lw_at lw_m1 119 rfl) rfl
theorem q178 : (Jvm.Cond.methodLink "Shapelayer$Raster" (3 : Nat) ({ cls := "java/lang/Object", name := "<init>", desc := "()V" } : Jvm.MethodName)) ∈ lw_all := lw_g (lw_at lw_m1 120 rfl) rfl
theorem q179 : (Jvm.Cond.fieldLink "Shapelayer$Raster" (9 : Nat) "Shapelayer$Raster" "cells" "[B") ∈ lw_all := lw_g (lw_at lw_m1 121 rfl) rfl
theorem q181 : (Jvm.Cond.fieldLink "Shapelayer$Raster" (15 : Nat) "Shapelayer$Raster" "one" "[J") ∈ lw_all := lw_g (lw_at lw_m1 123 rfl) rfl
theorem q184 : (Jvm.Cond.fieldLink "Shapelayer$Raster" (19 : Nat) "Shapelayer$Raster" "other" "[J") ∈ lw_all := lw_g (lw_at lw_m1 126 rfl) rfl
theorem q187 : (Jvm.Cond.fieldLink "Shapelayer$Raster" (23 : Nat) "Shapelayer$Raster" "own" "LShapelayer$Raster;") ∈ lw_all := lw_g (lw_at lw_m1 129 rfl) rfl
theorem q188 : (Jvm.Cond.fieldLink "Shapelayer$Raster" (31 : Nat) "Shapelayer$Raster" "mask" "LShapelayer$Raster;") ∈ lw_all := lw_g (lw_at lw_m1 130 rfl) rfl
theorem q189 : (Jvm.Cond.laysFinal "Shapelayer$Raster" "Shapelayer$Raster" "cells" "[B") ∈ lw_all := lw_g (lw_at lw_m1 131 rfl) rfl
theorem q190 : (Jvm.Cond.soleField "Shapelayer$Raster" "cells") ∈ lw_all := lw_g (lw_at lw_m1 132 rfl) rfl
theorem q191 : (Jvm.Cond.laysFinal "Shapelayer$Raster" "Shapelayer$Raster" "one" "[J") ∈ lw_all := lw_g (lw_at lw_m1 133 rfl) rfl
theorem q192 : (Jvm.Cond.soleField "Shapelayer$Raster" "one") ∈ lw_all := lw_g (lw_at lw_m1 134 rfl) rfl
theorem q193 : (Jvm.Cond.laysFinal "Shapelayer$Raster" "Shapelayer$Raster" "other" "[J") ∈ lw_all := lw_g (lw_at lw_m1 135 rfl) rfl
theorem q194 : (Jvm.Cond.soleField "Shapelayer$Raster" "other") ∈ lw_all := lw_g (lw_at lw_m1 136 rfl) rfl
theorem q195 : (Jvm.Cond.lays "Shapelayer$Raster" "Shapelayer$Raster" "own" "LShapelayer$Raster;") ∈ lw_all := lw_g (lw_at lw_m1 137 rfl) rfl
theorem q196 : (Jvm.Cond.soleField "Shapelayer$Raster" "own") ∈ lw_all := lw_g (lw_at lw_m1 138 rfl) rfl
theorem q197 : (Jvm.Cond.lays "Shapelayer$Raster" "Shapelayer$Raster" "mask" "LShapelayer$Raster;") ∈ lw_all := lw_g (lw_at lw_m1 139 rfl) rfl
theorem q198 : (Jvm.Cond.soleField "Shapelayer$Raster" "mask") ∈ lw_all := lw_g (lw_at lw_m1 140 rfl) rfl
theorem q199 : (Jvm.Cond.superclass "Shapelayer$Raster" "java/lang/Object") ∈ lw_all := lw_g (lw_at lw_m1 141 rfl) rfl
theorem q715 : (Jvm.Cond.selects "Shapelayer$Raster" ({ cls := "java/lang/Object", name := "getClass", desc := "()Ljava/lang/Class;" } : Jvm.MethodName) ({ cls := "java/lang/Object", name := "getClass", desc := "()Ljava/lang/Class;" } : Jvm.MethodName)) ∈ lw_all := lw_g (lw_at lw_m3 177 rfl) rfl
theorem q1102 : (Jvm.Cond.selects "Shapelayer$Raster" ({ cls := "java/lang/Object", name := "equals", desc := "(Ljava/lang/Object;)Z" } : Jvm.MethodName) ({ cls := "java/lang/Object", name := "equals", desc := "(Ljava/lang/Object;)Z" } : Jvm.MethodName)) ∈ lw_all := lw_g (lw_at lw_m5 84 rfl) rfl
theorem q1440 : (Jvm.Cond.instanceMethod ({ cls := "Shapelayer$Raster", name := "clear", desc := "()LShapelayer$Raster;" } : Jvm.MethodName)) ∈ lw_all := lw_g (lw_at lw_m6 182 rfl) rfl
theorem q1441 : (Jvm.Cond.selects "Shapelayer$Raster" ({ cls := "Shapelayer$Raster", name := "clear", desc := "()LShapelayer$Raster;" } : Jvm.MethodName) ({ cls := "Shapelayer$Raster", name := "clear", desc := "()LShapelayer$Raster;" } : Jvm.MethodName)) ∈ lw_all := lw_g (lw_at lw_m6 183 rfl) rfl
theorem q1442 : (Jvm.Cond.code ({ cls := "Shapelayer$Raster", name := "clear", desc := "()LShapelayer$Raster;" } : Jvm.MethodName) prog_16_method_2_code (2 : Nat) (Option.some (Jvm.ClassFile.FieldType.object "Shapelayer$Raster"))) ∈ lw_all := lw_g (lw_at lw_m6 184 rfl) rfl
theorem q1517 : (Jvm.Cond.instanceMethod ({ cls := "Shapelayer$Raster", name := "put", desc := "(III)V" } : Jvm.MethodName)) ∈ lw_all := lw_g (lw_at lw_m7 19 rfl) rfl
theorem q1518 : (Jvm.Cond.selects "Shapelayer$Raster" ({ cls := "Shapelayer$Raster", name := "put", desc := "(III)V" } : Jvm.MethodName) ({ cls := "Shapelayer$Raster", name := "put", desc := "(III)V" } : Jvm.MethodName)) ∈ lw_all := lw_g (lw_at lw_m7 20 rfl) rfl
theorem q1519 : (Jvm.Cond.code ({ cls := "Shapelayer$Raster", name := "put", desc := "(III)V" } : Jvm.MethodName) prog_16_method_6_code (4 : Nat) (Option.none : Option Jvm.ClassFile.FieldType)) ∈ lw_all := lw_g (lw_at lw_m7 21 rfl) rfl
theorem q1538 : (Jvm.Cond.instanceMethod ({ cls := "Shapelayer$Raster", name := "fill", desc := "(JJJJI)V" } : Jvm.MethodName)) ∈ lw_all := lw_g (lw_at lw_m7 40 rfl) rfl
theorem q1539 : (Jvm.Cond.selects "Shapelayer$Raster" ({ cls := "Shapelayer$Raster", name := "fill", desc := "(JJJJI)V" } : Jvm.MethodName) ({ cls := "Shapelayer$Raster", name := "fill", desc := "(JJJJI)V" } : Jvm.MethodName)) ∈ lw_all := lw_g (lw_at lw_m7 41 rfl) rfl
theorem q1540 : (Jvm.Cond.code ({ cls := "Shapelayer$Raster", name := "fill", desc := "(JJJJI)V" } : Jvm.MethodName) prog_16_method_8_code (12 : Nat) (Option.none : Option Jvm.ClassFile.FieldType)) ∈ lw_all := lw_g (lw_at lw_m7 42 rfl) rfl
theorem q1541 : (Jvm.Cond.methodLink "Shapelayer$Raster" (34 : Nat) ({ cls := "Shapelayer$Raster", name := "isAmong", desc := "(IJJ)Z" } : Jvm.MethodName)) ∈ lw_all := lw_g (lw_at lw_m7 43 rfl) rfl
theorem q1542 : (Jvm.Cond.static ({ cls := "Shapelayer$Raster", name := "isAmong", desc := "(IJJ)Z" } : Jvm.MethodName)) ∈ lw_all := lw_g (lw_at lw_m7 44 rfl) rfl
theorem q1543 : (Jvm.Cond.code ({ cls := "Shapelayer$Raster", name := "isAmong", desc := "(IJJ)Z" } : Jvm.MethodName) prog_16_method_9_code (5 : Nat) (Option.some Jvm.ClassFile.FieldType.boolean)) ∈ lw_all := lw_g (lw_at lw_m7 45 rfl) rfl
theorem q1544 : (Jvm.Cond.methodLink "Shapelayer$Raster" (42 : Nat) ({ cls := "java/lang/Math", name := "min", desc := "(JJ)J" } : Jvm.MethodName)) ∈ lw_all := lw_g (lw_at lw_m7 46 rfl) rfl
theorem q1545 : (Jvm.Cond.methodLink "Shapelayer$Raster" (48 : Nat) ({ cls := "java/lang/Math", name := "max", desc := "(JJ)J" } : Jvm.MethodName)) ∈ lw_all := lw_g (lw_at lw_m7 47 rfl) rfl
theorem q1546 : (Jvm.Cond.methodLink "Shapelayer$Raster" (38 : Nat) ({ cls := "Shapelayer$Raster", name := "put", desc := "(III)V" } : Jvm.MethodName)) ∈ lw_all := lw_g (lw_at lw_m7 48 rfl) rfl
theorem q1549 : (Jvm.Cond.instanceMethod ({ cls := "Shapelayer$Raster", name := "own", desc := "()LShapelayer$Raster;" } : Jvm.MethodName)) ∈ lw_all := lw_g (lw_at lw_m7 51 rfl) rfl
theorem q1550 : (Jvm.Cond.selects "Shapelayer$Raster" ({ cls := "Shapelayer$Raster", name := "own", desc := "()LShapelayer$Raster;" } : Jvm.MethodName) ({ cls := "Shapelayer$Raster", name := "own", desc := "()LShapelayer$Raster;" } : Jvm.MethodName)) ∈ lw_all := lw_g (lw_at lw_m7 52 rfl) rfl
theorem q1551 : (Jvm.Cond.code ({ cls := "Shapelayer$Raster", name := "own", desc := "()LShapelayer$Raster;" } : Jvm.MethodName) prog_16_method_4_code (1 : Nat) (Option.some (Jvm.ClassFile.FieldType.object "Shapelayer$Raster"))) ∈ lw_all := lw_g (lw_at lw_m7 53 rfl) rfl
theorem q1552 : (Jvm.Cond.classLink "Shapelayer$Raster" (10 : Nat) "Shapelayer$Raster") ∈ lw_all := lw_g (lw_at lw_m7 54 rfl) rfl
theorem q1553 : (Jvm.Cond.methodLink "Shapelayer$Raster" (22 : Nat) ({ cls := "Shapelayer$Raster", name := "<init>", desc := "()V" } : Jvm.MethodName)) ∈ lw_all := lw_g (lw_at lw_m7 55 rfl) rfl
theorem q1554 : (Jvm.Cond.methodLink "Shapelayer$Raster" (27 : Nat) ({ cls := "Shapelayer$Raster", name := "clear", desc := "()LShapelayer$Raster;" } : Jvm.MethodName)) ∈ lw_all := lw_g (lw_at lw_m7 56 rfl) rfl
theorem q1556 : (Jvm.Cond.instanceMethod ({ cls := "Shapelayer$Raster", name := "mask", desc := "()LShapelayer$Raster;" } : Jvm.MethodName)) ∈ lw_all := lw_g (lw_at lw_m7 58 rfl) rfl
theorem q1557 : (Jvm.Cond.selects "Shapelayer$Raster" ({ cls := "Shapelayer$Raster", name := "mask", desc := "()LShapelayer$Raster;" } : Jvm.MethodName) ({ cls := "Shapelayer$Raster", name := "mask", desc := "()LShapelayer$Raster;" } : Jvm.MethodName)) ∈ lw_all := lw_g (lw_at lw_m7 59 rfl) rfl
theorem q1558 : (Jvm.Cond.code ({ cls := "Shapelayer$Raster", name := "mask", desc := "()LShapelayer$Raster;" } : Jvm.MethodName) prog_16_method_5_code (1 : Nat) (Option.some (Jvm.ClassFile.FieldType.object "Shapelayer$Raster"))) ∈ lw_all := lw_g (lw_at lw_m7 60 rfl) rfl
theorem q1560 : (Jvm.Cond.instanceMethod ({ cls := "Shapelayer$Raster", name := "take", desc := "(LShapelayer$Raster;LShapelayer$Raster;Z)V" } : Jvm.MethodName)) ∈ lw_all := lw_g (lw_at lw_m7 62 rfl) rfl
theorem q1561 : (Jvm.Cond.selects "Shapelayer$Raster" ({ cls := "Shapelayer$Raster", name := "take", desc := "(LShapelayer$Raster;LShapelayer$Raster;Z)V" } : Jvm.MethodName) ({ cls := "Shapelayer$Raster", name := "take", desc := "(LShapelayer$Raster;LShapelayer$Raster;Z)V" } : Jvm.MethodName)) ∈ lw_all := lw_g (lw_at lw_m7 63 rfl) rfl
theorem q1562 : (Jvm.Cond.code ({ cls := "Shapelayer$Raster", name := "take", desc := "(LShapelayer$Raster;LShapelayer$Raster;Z)V" } : Jvm.MethodName) prog_16_method_10_code (5 : Nat) (Option.none : Option Jvm.ClassFile.FieldType)) ∈ lw_all := lw_g (lw_at lw_m7 64 rfl) rfl
theorem q1564 : (Jvm.Cond.instanceMethod ({ cls := "Shapelayer$Raster", name := "copy", desc := "()LShapelayer$Raster;" } : Jvm.MethodName)) ∈ lw_all := lw_g (lw_at lw_m7 66 rfl) rfl
theorem q1565 : (Jvm.Cond.selects "Shapelayer$Raster" ({ cls := "Shapelayer$Raster", name := "copy", desc := "()LShapelayer$Raster;" } : Jvm.MethodName) ({ cls := "Shapelayer$Raster", name := "copy", desc := "()LShapelayer$Raster;" } : Jvm.MethodName)) ∈ lw_all := lw_g (lw_at lw_m7 67 rfl) rfl
theorem q1566 : (Jvm.Cond.code ({ cls := "Shapelayer$Raster", name := "copy", desc := "()LShapelayer$Raster;" } : Jvm.MethodName) prog_16_method_3_code (3 : Nat) (Option.some (Jvm.ClassFile.FieldType.object "Shapelayer$Raster"))) ∈ lw_all := lw_g (lw_at lw_m7 68 rfl) rfl
theorem q1585 : (Jvm.Cond.instanceMethod ({ cls := "Shapelayer$Raster", name := "at", desc := "(II)I" } : Jvm.MethodName)) ∈ lw_all := lw_g (lw_at lw_m7 87 rfl) rfl
theorem q1586 : (Jvm.Cond.selects "Shapelayer$Raster" ({ cls := "Shapelayer$Raster", name := "at", desc := "(II)I" } : Jvm.MethodName) ({ cls := "Shapelayer$Raster", name := "at", desc := "(II)I" } : Jvm.MethodName)) ∈ lw_all := lw_g (lw_at lw_m7 88 rfl) rfl
theorem q1587 : (Jvm.Cond.code ({ cls := "Shapelayer$Raster", name := "at", desc := "(II)I" } : Jvm.MethodName) prog_16_method_7_code (3 : Nat) (Option.some Jvm.ClassFile.FieldType.int)) ∈ lw_all := lw_g (lw_at lw_m7 89 rfl) rfl
theorem q1600 : (Jvm.Cond.instanceMethod ({ cls := "Shapelayer$Raster", name := "count", desc := "()I" } : Jvm.MethodName)) ∈ lw_all := lw_g (lw_at lw_m7 102 rfl) rfl
theorem q1601 : (Jvm.Cond.selects "Shapelayer$Raster" ({ cls := "Shapelayer$Raster", name := "count", desc := "()I" } : Jvm.MethodName) ({ cls := "Shapelayer$Raster", name := "count", desc := "()I" } : Jvm.MethodName)) ∈ lw_all := lw_g (lw_at lw_m7 103 rfl) rfl
theorem q1602 : (Jvm.Cond.code ({ cls := "Shapelayer$Raster", name := "count", desc := "()I" } : Jvm.MethodName) prog_16_method_11_code (6 : Nat) (Option.some Jvm.ClassFile.FieldType.int)) ∈ lw_all := lw_g (lw_at lw_m7 104 rfl) rfl
theorem q1618 : (Jvm.Cond.instanceMethod ({ cls := "Shapelayer$Raster", name := "isLike", desc := "(LShapelayer$Raster;)Z" } : Jvm.MethodName)) ∈ lw_all := lw_g (lw_at lw_m7 120 rfl) rfl
theorem q1619 : (Jvm.Cond.selects "Shapelayer$Raster" ({ cls := "Shapelayer$Raster", name := "isLike", desc := "(LShapelayer$Raster;)Z" } : Jvm.MethodName) ({ cls := "Shapelayer$Raster", name := "isLike", desc := "(LShapelayer$Raster;)Z" } : Jvm.MethodName)) ∈ lw_all := lw_g (lw_at lw_m7 121 rfl) rfl
theorem q1620 : (Jvm.Cond.code ({ cls := "Shapelayer$Raster", name := "isLike", desc := "(LShapelayer$Raster;)Z" } : Jvm.MethodName) prog_16_method_12_code (3 : Nat) (Option.some Jvm.ClassFile.FieldType.boolean)) ∈ lw_all := lw_g (lw_at lw_m7 122 rfl) rfl
theorem q2230 : (Jvm.Cond.castable "Shapelayer$Raster" "java/lang/Object") ∈ lw_tbl := lw_at lw_m10 12 rfl
theorem in_X2 : ∀ w ∈ wsX20, w ∈ lw_all := lw_in wsX20 [189, 191, 193, 195, 197] (by decide +kernel) (by decide +kernel)

/-! Shapelayer$Composition -/
set_option maxRecDepth 100000
def RX4 : String := "Shapelayer$Composition"
def TX4 : u_T := fun k => match k with
  | 0 => ("Shapelayer$Composition", "number", "I", true)
  | _ => ("Shapelayer$Composition", "layers", "Ljava/util/List;", true)
def tyX4 : Nat → FieldType := fun k => match k with
  | 0 => .int
  | _ => .object "java/util/List"
abbrev wsX40 : List Cond := u_ws RX4 TX4 2
theorem nmX4 : ∀ a, a < 2 → ∀ b, b < 2 → a ≠ b → (TX4 a).2.1 ≠ (TX4 b).2.1 := by decide +kernel
theorem tyX4_ok : ∀ k, k < 2 → parseFieldDescriptor (TX4 k).2.2.1 = some (tyX4 k) := by decide +kernel
abbrev cX4_init : ByteArray := prog_3_method_1_code
def yX4_init : MethodName := ⟨RX4, "<init>", "(I)V"⟩
def dkwX4_init_0 : List UInt8 := [42, 183, 0, 1, 42, 187, 0, 7, 89, 183, 0, 9, 181, 0, 10, 42, 27, 181, 0, 16, 177]
abbrev dktX4_init_0 : List UInt8 := dkwX4_init_0 ++ []
theorem dksX4_init_0 : cX4_init.data.toList.drop 0 = dktX4_init_0 := by decide +kernel
theorem dX4_init_0 : decode cX4_init 0 = .ok (.aload_n 0, 1) := dk_42 (dk_at dksX4_init_0 0 rfl rfl)
theorem dX4_init_1 : decode cX4_init 1 = .ok (.invokespecial 1, 3) := dk_183 0 1 (dk_at dksX4_init_0 1 rfl rfl)
theorem dX4_init_4 : decode cX4_init 4 = .ok (.aload_n 0, 1) := dk_42 (dk_at dksX4_init_0 4 rfl rfl)
theorem dX4_init_5 : decode cX4_init 5 = .ok (.new 7, 3) := dk_187 0 7 (dk_at dksX4_init_0 5 rfl rfl)
theorem dX4_init_8 : decode cX4_init 8 = .ok (.dup, 1) := dk_89 (dk_at dksX4_init_0 8 rfl rfl)
theorem dX4_init_9 : decode cX4_init 9 = .ok (.invokespecial 9, 3) := dk_183 0 9 (dk_at dksX4_init_0 9 rfl rfl)
theorem dX4_init_12 : decode cX4_init 12 = .ok (.putfield 10, 3) := dk_181 0 10 (dk_at dksX4_init_0 12 rfl rfl)
theorem dX4_init_15 : decode cX4_init 15 = .ok (.aload_n 0, 1) := dk_42 (dk_at dksX4_init_0 15 rfl rfl)
theorem dX4_init_16 : decode cX4_init 16 = .ok (.iload_n 1, 1) := dk_27 (dk_at dksX4_init_0 16 rfl rfl)
theorem dX4_init_17 : decode cX4_init 17 = .ok (.putfield 16, 3) := dk_181 0 16 (dk_at dksX4_init_0 17 rfl rfl)
theorem dX4_init_20 : decode cX4_init 20 = .ok (.return_, 1) := dk_177 (dk_at dksX4_init_0 20 rfl rfl)
abbrev cX4_has : ByteArray := prog_3_method_5_code
def yX4_has : MethodName := ⟨RX4, "has", "(LShapelayer$Composition;)Z"⟩
def dkwX4_has_2 : List UInt8 := [180, 0, 86, 43, 182, 0, 90, 153, 0, 5, 4, 172, 167, 255, 210, 3, 172]
abbrev dktX4_has_2 : List UInt8 := dkwX4_has_2 ++ []
def dkwX4_has_1 : List UInt8 := [185, 0, 80, 1, 0, 192, 0, 35, 78, 45, 193, 0, 84, 153, 0, 23, 45, 192, 0, 84, 58, 4, 25, 4]
abbrev dktX4_has_1 : List UInt8 := dkwX4_has_1 ++ dktX4_has_2
def dkwX4_has_0 : List UInt8 := [42, 43, 166, 0, 5, 4, 172, 42, 182, 0, 70, 77, 44, 185, 0, 74, 1, 0, 153, 0, 43, 44]
abbrev dktX4_has_0 : List UInt8 := dkwX4_has_0 ++ dktX4_has_1
theorem dksX4_has_0 : cX4_has.data.toList.drop 0 = dktX4_has_0 := by decide +kernel
theorem dksX4_has_1 : cX4_has.data.toList.drop 22 = dktX4_has_1 := dk_seg dksX4_has_0 22 rfl rfl
theorem dksX4_has_2 : cX4_has.data.toList.drop 46 = dktX4_has_2 := dk_seg dksX4_has_1 24 rfl rfl
theorem dX4_has_0 : decode cX4_has 0 = .ok (.aload_n 0, 1) := dk_42 (dk_at dksX4_has_0 0 rfl rfl)
theorem dX4_has_1 : decode cX4_has 1 = .ok (.aload_n 1, 1) := dk_43 (dk_at dksX4_has_0 1 rfl rfl)
theorem dX4_has_2 : decode cX4_has 2 = .ok (.if_acmp .ne 5, 3) := dk_166 0 5 (dk_at dksX4_has_0 2 rfl rfl)
theorem dX4_has_5 : decode cX4_has 5 = .ok (.iconst 1, 1) := dk_4 (dk_at dksX4_has_0 5 rfl rfl)
theorem dX4_has_6 : decode cX4_has 6 = .ok (.ireturn, 1) := dk_172 (dk_at dksX4_has_0 6 rfl rfl)
theorem dX4_has_7 : decode cX4_has 7 = .ok (.aload_n 0, 1) := dk_42 (dk_at dksX4_has_0 7 rfl rfl)
theorem dX4_has_8 : decode cX4_has 8 = .ok (.invokevirtual 70, 3) := dk_182 0 70 (dk_at dksX4_has_0 8 rfl rfl)
theorem dX4_has_11 : decode cX4_has 11 = .ok (.astore_n 2, 1) := dk_77 (dk_at dksX4_has_0 11 rfl rfl)
theorem dX4_has_12 : decode cX4_has 12 = .ok (.aload_n 2, 1) := dk_44 (dk_at dksX4_has_0 12 rfl rfl)
theorem dX4_has_13 : decode cX4_has 13 = .ok (.invokeinterface 74 1, 5) := by decide +kernel
theorem dX4_has_18 : decode cX4_has 18 = .ok (.ifCond .eq 43, 3) := dk_153 0 43 (dk_at dksX4_has_0 18 rfl rfl)
theorem dX4_has_21 : decode cX4_has 21 = .ok (.aload_n 2, 1) := dk_44 (dk_at dksX4_has_0 21 rfl rfl)
theorem dX4_has_22 : decode cX4_has 22 = .ok (.invokeinterface 80 1, 5) := by decide +kernel
theorem dX4_has_27 : decode cX4_has 27 = .ok (.checkcast 35, 3) := dk_192 0 35 (dk_at dksX4_has_1 5 rfl rfl)
theorem dX4_has_30 : decode cX4_has 30 = .ok (.astore_n 3, 1) := dk_78 (dk_at dksX4_has_1 8 rfl rfl)
theorem dX4_has_31 : decode cX4_has 31 = .ok (.aload_n 3, 1) := dk_45 (dk_at dksX4_has_1 9 rfl rfl)
theorem dX4_has_32 : decode cX4_has 32 = .ok (.instanceof 84, 3) := dk_193 0 84 (dk_at dksX4_has_1 10 rfl rfl)
theorem dX4_has_35 : decode cX4_has 35 = .ok (.ifCond .eq 23, 3) := dk_153 0 23 (dk_at dksX4_has_1 13 rfl rfl)
theorem dX4_has_38 : decode cX4_has 38 = .ok (.aload_n 3, 1) := dk_45 (dk_at dksX4_has_1 16 rfl rfl)
theorem dX4_has_39 : decode cX4_has 39 = .ok (.checkcast 84, 3) := dk_192 0 84 (dk_at dksX4_has_1 17 rfl rfl)
theorem dX4_has_42 : decode cX4_has 42 = .ok (.astore 4, 2) := dk_58 4 (dk_at dksX4_has_1 20 rfl rfl)
theorem dX4_has_44 : decode cX4_has 44 = .ok (.aload 4, 2) := dk_25 4 (dk_at dksX4_has_1 22 rfl rfl)
theorem dX4_has_46 : decode cX4_has 46 = .ok (.getfield 86, 3) := dk_180 0 86 (dk_at dksX4_has_2 0 rfl rfl)
theorem dX4_has_49 : decode cX4_has 49 = .ok (.aload_n 1, 1) := dk_43 (dk_at dksX4_has_2 3 rfl rfl)
theorem dX4_has_50 : decode cX4_has 50 = .ok (.invokevirtual 90, 3) := dk_182 0 90 (dk_at dksX4_has_2 4 rfl rfl)
theorem dX4_has_53 : decode cX4_has 53 = .ok (.ifCond .eq 5, 3) := dk_153 0 5 (dk_at dksX4_has_2 7 rfl rfl)
theorem dX4_has_56 : decode cX4_has 56 = .ok (.iconst 1, 1) := dk_4 (dk_at dksX4_has_2 10 rfl rfl)
theorem dX4_has_57 : decode cX4_has 57 = .ok (.ireturn, 1) := dk_172 (dk_at dksX4_has_2 11 rfl rfl)
theorem dX4_has_58 : decode cX4_has 58 = .ok (.goto (-46), 3) := dk_167 255 210 (dk_at dksX4_has_2 12 rfl rfl)
theorem dX4_has_61 : decode cX4_has 61 = .ok (.iconst 0, 1) := dk_3 (dk_at dksX4_has_2 15 rfl rfl)
theorem dX4_has_62 : decode cX4_has 62 = .ok (.ireturn, 1) := dk_172 (dk_at dksX4_has_2 16 rfl rfl)
abbrev cX4_iterator : ByteArray := prog_3_method_2_code
def yX4_iterator : MethodName := ⟨RX4, "iterator", "()Ljava/util/Iterator;"⟩
def dkwX4_iterator_0 : List UInt8 := [187, 0, 20, 89, 42, 183, 0, 22, 176]
abbrev dktX4_iterator_0 : List UInt8 := dkwX4_iterator_0 ++ []
theorem dksX4_iterator_0 : cX4_iterator.data.toList.drop 0 = dktX4_iterator_0 := by decide +kernel
theorem dX4_iterator_0 : decode cX4_iterator 0 = .ok (.new 20, 3) := dk_187 0 20 (dk_at dksX4_iterator_0 0 rfl rfl)
theorem dX4_iterator_3 : decode cX4_iterator 3 = .ok (.dup, 1) := dk_89 (dk_at dksX4_iterator_0 3 rfl rfl)
theorem dX4_iterator_4 : decode cX4_iterator 4 = .ok (.aload_n 0, 1) := dk_42 (dk_at dksX4_iterator_0 4 rfl rfl)
theorem dX4_iterator_5 : decode cX4_iterator 5 = .ok (.invokespecial 22, 3) := dk_183 0 22 (dk_at dksX4_iterator_0 5 rfl rfl)
theorem dX4_iterator_8 : decode cX4_iterator 8 = .ok (.areturn, 1) := dk_176 (dk_at dksX4_iterator_0 8 rfl rfl)
abbrev cX4_draw : ByteArray := prog_3_method_4_code
def yX4_draw : MethodName := ⟨RX4, "draw", "(ILShapelayer$Outer;LShapelayer$Raster;)V"⟩
def dkwX4_draw_5 : List UInt8 := [182, 0, 49, 45, 25, 6, 25, 7, 25, 5, 180, 0, 62, 182, 0, 66, 132, 4, 1, 167, 255, 125, 177]
abbrev dktX4_draw_5 : List UInt8 := dkwX4_draw_5 ++ []
def dkwX4_draw_4 : List UInt8 := [182, 0, 49, 25, 5, 180, 0, 37, 27, 182, 0, 45, 153, 0, 15, 25, 5, 180, 0, 37, 27, 44, 25, 7]
abbrev dktX4_draw_4 : List UInt8 := dkwX4_draw_4 ++ dktX4_draw_5
def dkwX4_draw_3 : List UInt8 := [182, 0, 49, 167, 0, 61, 45, 182, 0, 53, 58, 6, 45, 182, 0, 59, 58, 7, 25, 5, 27, 44, 25, 6]
abbrev dktX4_draw_3 : List UInt8 := dkwX4_draw_3 ++ dktX4_draw_4
def dkwX4_draw_2 : List UInt8 := [182, 0, 45, 154, 0, 6, 167, 0, 80, 25, 5, 180, 0, 37, 199, 0, 14, 25, 5, 27, 44, 45]
abbrev dktX4_draw_2 : List UInt8 := dkwX4_draw_2 ++ dktX4_draw_3
def dkwX4_draw_1 : List UInt8 := [185, 0, 31, 2, 0, 192, 0, 35, 58, 5, 42, 25, 5, 182, 0, 41, 154, 0, 92, 25, 5, 27]
abbrev dktX4_draw_1 : List UInt8 := dkwX4_draw_1 ++ dktX4_draw_2
def dkwX4_draw_0 : List UInt8 := [3, 54, 4, 21, 4, 42, 180, 0, 10, 185, 0, 25, 1, 0, 162, 0, 123, 42, 180, 0, 10, 21, 4]
abbrev dktX4_draw_0 : List UInt8 := dkwX4_draw_0 ++ dktX4_draw_1
theorem dksX4_draw_0 : cX4_draw.data.toList.drop 0 = dktX4_draw_0 := by decide +kernel
theorem dksX4_draw_1 : cX4_draw.data.toList.drop 23 = dktX4_draw_1 := dk_seg dksX4_draw_0 23 rfl rfl
theorem dksX4_draw_2 : cX4_draw.data.toList.drop 45 = dktX4_draw_2 := dk_seg dksX4_draw_1 22 rfl rfl
theorem dksX4_draw_3 : cX4_draw.data.toList.drop 67 = dktX4_draw_3 := dk_seg dksX4_draw_2 22 rfl rfl
theorem dksX4_draw_4 : cX4_draw.data.toList.drop 91 = dktX4_draw_4 := dk_seg dksX4_draw_3 24 rfl rfl
theorem dksX4_draw_5 : cX4_draw.data.toList.drop 115 = dktX4_draw_5 := dk_seg dksX4_draw_4 24 rfl rfl
theorem dX4_draw_0 : decode cX4_draw 0 = .ok (.iconst 0, 1) := dk_3 (dk_at dksX4_draw_0 0 rfl rfl)
theorem dX4_draw_1 : decode cX4_draw 1 = .ok (.istore 4, 2) := dk_54 4 (dk_at dksX4_draw_0 1 rfl rfl)
theorem dX4_draw_3 : decode cX4_draw 3 = .ok (.iload 4, 2) := dk_21 4 (dk_at dksX4_draw_0 3 rfl rfl)
theorem dX4_draw_5 : decode cX4_draw 5 = .ok (.aload_n 0, 1) := dk_42 (dk_at dksX4_draw_0 5 rfl rfl)
theorem dX4_draw_6 : decode cX4_draw 6 = .ok (.getfield 10, 3) := dk_180 0 10 (dk_at dksX4_draw_0 6 rfl rfl)
theorem dX4_draw_9 : decode cX4_draw 9 = .ok (.invokeinterface 25 1, 5) := by decide +kernel
theorem dX4_draw_14 : decode cX4_draw 14 = .ok (.if_icmp .ge 123, 3) := dk_162 0 123 (dk_at dksX4_draw_0 14 rfl rfl)
theorem dX4_draw_17 : decode cX4_draw 17 = .ok (.aload_n 0, 1) := dk_42 (dk_at dksX4_draw_0 17 rfl rfl)
theorem dX4_draw_18 : decode cX4_draw 18 = .ok (.getfield 10, 3) := dk_180 0 10 (dk_at dksX4_draw_0 18 rfl rfl)
theorem dX4_draw_21 : decode cX4_draw 21 = .ok (.iload 4, 2) := dk_21 4 (dk_at dksX4_draw_0 21 rfl rfl)
theorem dX4_draw_23 : decode cX4_draw 23 = .ok (.invokeinterface 31 2, 5) := by decide +kernel
theorem dX4_draw_28 : decode cX4_draw 28 = .ok (.checkcast 35, 3) := dk_192 0 35 (dk_at dksX4_draw_1 5 rfl rfl)
theorem dX4_draw_31 : decode cX4_draw 31 = .ok (.astore 5, 2) := dk_58 5 (dk_at dksX4_draw_1 8 rfl rfl)
theorem dX4_draw_33 : decode cX4_draw 33 = .ok (.aload_n 0, 1) := dk_42 (dk_at dksX4_draw_1 10 rfl rfl)
theorem dX4_draw_34 : decode cX4_draw 34 = .ok (.aload 5, 2) := dk_25 5 (dk_at dksX4_draw_1 11 rfl rfl)
theorem dX4_draw_36 : decode cX4_draw 36 = .ok (.invokevirtual 41, 3) := dk_182 0 41 (dk_at dksX4_draw_1 13 rfl rfl)
theorem dX4_draw_39 : decode cX4_draw 39 = .ok (.ifCond .ne 92, 3) := dk_154 0 92 (dk_at dksX4_draw_1 16 rfl rfl)
theorem dX4_draw_42 : decode cX4_draw 42 = .ok (.aload 5, 2) := dk_25 5 (dk_at dksX4_draw_1 19 rfl rfl)
theorem dX4_draw_44 : decode cX4_draw 44 = .ok (.iload_n 1, 1) := dk_27 (dk_at dksX4_draw_1 21 rfl rfl)
theorem dX4_draw_45 : decode cX4_draw 45 = .ok (.invokevirtual 45, 3) := dk_182 0 45 (dk_at dksX4_draw_2 0 rfl rfl)
theorem dX4_draw_48 : decode cX4_draw 48 = .ok (.ifCond .ne 6, 3) := dk_154 0 6 (dk_at dksX4_draw_2 3 rfl rfl)
theorem dX4_draw_51 : decode cX4_draw 51 = .ok (.goto 80, 3) := dk_167 0 80 (dk_at dksX4_draw_2 6 rfl rfl)
theorem dX4_draw_54 : decode cX4_draw 54 = .ok (.aload 5, 2) := dk_25 5 (dk_at dksX4_draw_2 9 rfl rfl)
theorem dX4_draw_56 : decode cX4_draw 56 = .ok (.getfield 37, 3) := dk_180 0 37 (dk_at dksX4_draw_2 11 rfl rfl)
theorem dX4_draw_59 : decode cX4_draw 59 = .ok (.ifnonnull 14, 3) := dk_199 0 14 (dk_at dksX4_draw_2 14 rfl rfl)
theorem dX4_draw_62 : decode cX4_draw 62 = .ok (.aload 5, 2) := dk_25 5 (dk_at dksX4_draw_2 17 rfl rfl)
theorem dX4_draw_64 : decode cX4_draw 64 = .ok (.iload_n 1, 1) := dk_27 (dk_at dksX4_draw_2 19 rfl rfl)
theorem dX4_draw_65 : decode cX4_draw 65 = .ok (.aload_n 2, 1) := dk_44 (dk_at dksX4_draw_2 20 rfl rfl)
theorem dX4_draw_66 : decode cX4_draw 66 = .ok (.aload_n 3, 1) := dk_45 (dk_at dksX4_draw_2 21 rfl rfl)
theorem dX4_draw_67 : decode cX4_draw 67 = .ok (.invokevirtual 49, 3) := dk_182 0 49 (dk_at dksX4_draw_3 0 rfl rfl)
theorem dX4_draw_70 : decode cX4_draw 70 = .ok (.goto 61, 3) := dk_167 0 61 (dk_at dksX4_draw_3 3 rfl rfl)
theorem dX4_draw_73 : decode cX4_draw 73 = .ok (.aload_n 3, 1) := dk_45 (dk_at dksX4_draw_3 6 rfl rfl)
theorem dX4_draw_74 : decode cX4_draw 74 = .ok (.invokevirtual 53, 3) := dk_182 0 53 (dk_at dksX4_draw_3 7 rfl rfl)
theorem dX4_draw_77 : decode cX4_draw 77 = .ok (.astore 6, 2) := dk_58 6 (dk_at dksX4_draw_3 10 rfl rfl)
theorem dX4_draw_79 : decode cX4_draw 79 = .ok (.aload_n 3, 1) := dk_45 (dk_at dksX4_draw_3 12 rfl rfl)
theorem dX4_draw_80 : decode cX4_draw 80 = .ok (.invokevirtual 59, 3) := dk_182 0 59 (dk_at dksX4_draw_3 13 rfl rfl)
theorem dX4_draw_83 : decode cX4_draw 83 = .ok (.astore 7, 2) := dk_58 7 (dk_at dksX4_draw_3 16 rfl rfl)
theorem dX4_draw_85 : decode cX4_draw 85 = .ok (.aload 5, 2) := dk_25 5 (dk_at dksX4_draw_3 18 rfl rfl)
theorem dX4_draw_87 : decode cX4_draw 87 = .ok (.iload_n 1, 1) := dk_27 (dk_at dksX4_draw_3 20 rfl rfl)
theorem dX4_draw_88 : decode cX4_draw 88 = .ok (.aload_n 2, 1) := dk_44 (dk_at dksX4_draw_3 21 rfl rfl)
theorem dX4_draw_89 : decode cX4_draw 89 = .ok (.aload 6, 2) := dk_25 6 (dk_at dksX4_draw_3 22 rfl rfl)
theorem dX4_draw_91 : decode cX4_draw 91 = .ok (.invokevirtual 49, 3) := dk_182 0 49 (dk_at dksX4_draw_4 0 rfl rfl)
theorem dX4_draw_94 : decode cX4_draw 94 = .ok (.aload 5, 2) := dk_25 5 (dk_at dksX4_draw_4 3 rfl rfl)
theorem dX4_draw_96 : decode cX4_draw 96 = .ok (.getfield 37, 3) := dk_180 0 37 (dk_at dksX4_draw_4 5 rfl rfl)
theorem dX4_draw_99 : decode cX4_draw 99 = .ok (.iload_n 1, 1) := dk_27 (dk_at dksX4_draw_4 8 rfl rfl)
theorem dX4_draw_100 : decode cX4_draw 100 = .ok (.invokevirtual 45, 3) := dk_182 0 45 (dk_at dksX4_draw_4 9 rfl rfl)
theorem dX4_draw_103 : decode cX4_draw 103 = .ok (.ifCond .eq 15, 3) := dk_153 0 15 (dk_at dksX4_draw_4 12 rfl rfl)
theorem dX4_draw_106 : decode cX4_draw 106 = .ok (.aload 5, 2) := dk_25 5 (dk_at dksX4_draw_4 15 rfl rfl)
theorem dX4_draw_108 : decode cX4_draw 108 = .ok (.getfield 37, 3) := dk_180 0 37 (dk_at dksX4_draw_4 17 rfl rfl)
theorem dX4_draw_111 : decode cX4_draw 111 = .ok (.iload_n 1, 1) := dk_27 (dk_at dksX4_draw_4 20 rfl rfl)
theorem dX4_draw_112 : decode cX4_draw 112 = .ok (.aload_n 2, 1) := dk_44 (dk_at dksX4_draw_4 21 rfl rfl)
theorem dX4_draw_113 : decode cX4_draw 113 = .ok (.aload 7, 2) := dk_25 7 (dk_at dksX4_draw_4 22 rfl rfl)
theorem dX4_draw_115 : decode cX4_draw 115 = .ok (.invokevirtual 49, 3) := dk_182 0 49 (dk_at dksX4_draw_5 0 rfl rfl)
theorem dX4_draw_118 : decode cX4_draw 118 = .ok (.aload_n 3, 1) := dk_45 (dk_at dksX4_draw_5 3 rfl rfl)
theorem dX4_draw_119 : decode cX4_draw 119 = .ok (.aload 6, 2) := dk_25 6 (dk_at dksX4_draw_5 4 rfl rfl)
theorem dX4_draw_121 : decode cX4_draw 121 = .ok (.aload 7, 2) := dk_25 7 (dk_at dksX4_draw_5 6 rfl rfl)
theorem dX4_draw_123 : decode cX4_draw 123 = .ok (.aload 5, 2) := dk_25 5 (dk_at dksX4_draw_5 8 rfl rfl)
theorem dX4_draw_125 : decode cX4_draw 125 = .ok (.getfield 62, 3) := dk_180 0 62 (dk_at dksX4_draw_5 10 rfl rfl)
theorem dX4_draw_128 : decode cX4_draw 128 = .ok (.invokevirtual 66, 3) := dk_182 0 66 (dk_at dksX4_draw_5 13 rfl rfl)
theorem dX4_draw_131 : decode cX4_draw 131 = .ok (.iinc 4 1, 3) := dk_132 4 1 (dk_at dksX4_draw_5 16 rfl rfl)
theorem dX4_draw_134 : decode cX4_draw 134 = .ok (.goto (-131), 3) := dk_167 255 125 (dk_at dksX4_draw_5 19 rfl rfl)
theorem dX4_draw_137 : decode cX4_draw 137 = .ok (.return_, 1) := dk_177 (dk_at dksX4_draw_5 22 rfl rfl)
abbrev cX4_isMatte : ByteArray := prog_3_method_3_code
def yX4_isMatte : MethodName := ⟨RX4, "isMatte", "(LShapelayer$Layer;)Z"⟩
def dkwX4_isMatte_2 : List UInt8 := [172]
abbrev dktX4_isMatte_2 : List UInt8 := dkwX4_isMatte_2 ++ []
def dkwX4_isMatte_1 : List UInt8 := [185, 0, 31, 2, 0, 192, 0, 35, 180, 0, 37, 43, 166, 0, 5, 4, 172, 132, 2, 1, 167, 255, 218, 3]
abbrev dktX4_isMatte_1 : List UInt8 := dkwX4_isMatte_1 ++ dktX4_isMatte_2
def dkwX4_isMatte_0 : List UInt8 := [3, 61, 28, 42, 180, 0, 10, 185, 0, 25, 1, 0, 162, 0, 31, 42, 180, 0, 10, 28]
abbrev dktX4_isMatte_0 : List UInt8 := dkwX4_isMatte_0 ++ dktX4_isMatte_1
theorem dksX4_isMatte_0 : cX4_isMatte.data.toList.drop 0 = dktX4_isMatte_0 := by decide +kernel
theorem dksX4_isMatte_1 : cX4_isMatte.data.toList.drop 20 = dktX4_isMatte_1 := dk_seg dksX4_isMatte_0 20 rfl rfl
theorem dksX4_isMatte_2 : cX4_isMatte.data.toList.drop 44 = dktX4_isMatte_2 := dk_seg dksX4_isMatte_1 24 rfl rfl
theorem dX4_isMatte_0 : decode cX4_isMatte 0 = .ok (.iconst 0, 1) := dk_3 (dk_at dksX4_isMatte_0 0 rfl rfl)
theorem dX4_isMatte_1 : decode cX4_isMatte 1 = .ok (.istore_n 2, 1) := dk_61 (dk_at dksX4_isMatte_0 1 rfl rfl)
theorem dX4_isMatte_2 : decode cX4_isMatte 2 = .ok (.iload_n 2, 1) := dk_28 (dk_at dksX4_isMatte_0 2 rfl rfl)
theorem dX4_isMatte_3 : decode cX4_isMatte 3 = .ok (.aload_n 0, 1) := dk_42 (dk_at dksX4_isMatte_0 3 rfl rfl)
theorem dX4_isMatte_4 : decode cX4_isMatte 4 = .ok (.getfield 10, 3) := dk_180 0 10 (dk_at dksX4_isMatte_0 4 rfl rfl)
theorem dX4_isMatte_7 : decode cX4_isMatte 7 = .ok (.invokeinterface 25 1, 5) := by decide +kernel
theorem dX4_isMatte_12 : decode cX4_isMatte 12 = .ok (.if_icmp .ge 31, 3) := dk_162 0 31 (dk_at dksX4_isMatte_0 12 rfl rfl)
theorem dX4_isMatte_15 : decode cX4_isMatte 15 = .ok (.aload_n 0, 1) := dk_42 (dk_at dksX4_isMatte_0 15 rfl rfl)
theorem dX4_isMatte_16 : decode cX4_isMatte 16 = .ok (.getfield 10, 3) := dk_180 0 10 (dk_at dksX4_isMatte_0 16 rfl rfl)
theorem dX4_isMatte_19 : decode cX4_isMatte 19 = .ok (.iload_n 2, 1) := dk_28 (dk_at dksX4_isMatte_0 19 rfl rfl)
theorem dX4_isMatte_20 : decode cX4_isMatte 20 = .ok (.invokeinterface 31 2, 5) := by decide +kernel
theorem dX4_isMatte_25 : decode cX4_isMatte 25 = .ok (.checkcast 35, 3) := dk_192 0 35 (dk_at dksX4_isMatte_1 5 rfl rfl)
theorem dX4_isMatte_28 : decode cX4_isMatte 28 = .ok (.getfield 37, 3) := dk_180 0 37 (dk_at dksX4_isMatte_1 8 rfl rfl)
theorem dX4_isMatte_31 : decode cX4_isMatte 31 = .ok (.aload_n 1, 1) := dk_43 (dk_at dksX4_isMatte_1 11 rfl rfl)
theorem dX4_isMatte_32 : decode cX4_isMatte 32 = .ok (.if_acmp .ne 5, 3) := dk_166 0 5 (dk_at dksX4_isMatte_1 12 rfl rfl)
theorem dX4_isMatte_35 : decode cX4_isMatte 35 = .ok (.iconst 1, 1) := dk_4 (dk_at dksX4_isMatte_1 15 rfl rfl)
theorem dX4_isMatte_36 : decode cX4_isMatte 36 = .ok (.ireturn, 1) := dk_172 (dk_at dksX4_isMatte_1 16 rfl rfl)
theorem dX4_isMatte_37 : decode cX4_isMatte 37 = .ok (.iinc 2 1, 3) := dk_132 2 1 (dk_at dksX4_isMatte_1 17 rfl rfl)
theorem dX4_isMatte_40 : decode cX4_isMatte 40 = .ok (.goto (-38), 3) := dk_167 255 218 (dk_at dksX4_isMatte_1 20 rfl rfl)
theorem dX4_isMatte_43 : decode cX4_isMatte 43 = .ok (.iconst 0, 1) := dk_3 (dk_at dksX4_isMatte_1 23 rfl rfl)
theorem dX4_isMatte_44 : decode cX4_isMatte 44 = .ok (.ireturn, 1) := dk_172 (dk_at dksX4_isMatte_2 0 rfl rfl)
theorem q85 : (Jvm.Cond.initialized "Shapelayer$Composition") ∈ lw_all := lw_g (lw_at lw_m1 27 rfl) rfl
theorem q658 : (Jvm.Cond.instantiable "Shapelayer$Composition" (2 : Nat)) ∈ lw_all := lw_g (lw_at lw_m3 120 rfl) rfl
theorem q660 : (Jvm.Cond.instanceMethod ({ cls := "Shapelayer$Composition", name := "<init>", desc := "(I)V" } : Jvm.MethodName)) ∈ lw_all := lw_g (lw_at lw_m3 122 rfl) rfl
theorem q661 : (Jvm.Cond.code ({ cls := "Shapelayer$Composition", name := "<init>", desc := "(I)V" } : Jvm.MethodName) prog_3_method_1_code (2 : Nat) (Option.none : Option Jvm.ClassFile.FieldType)) ∈ lw_all := lw_g (lw_at lw_m3 123 rfl) rfl
theorem q662 : (Jvm.Cond.methodLink "Shapelayer$Composition" (1 : Nat) ({ cls := "java/lang/Object", name := "<init>", desc := "()V" } : Jvm.MethodName)) ∈ lw_all := lw_g (lw_at lw_m3 124 rfl) rfl
theorem q663 : (Jvm.Cond.classLink "Shapelayer$Composition" (7 : Nat) "java/util/ArrayList") ∈ lw_all := lw_g (lw_at lw_m3 125 rfl) rfl
theorem q664 : (Jvm.Cond.methodLink "Shapelayer$Composition" (9 : Nat) ({ cls := "java/util/ArrayList", name := "<init>", desc := "()V" } : Jvm.MethodName)) ∈ lw_all := lw_g (lw_at lw_m3 126 rfl) rfl
theorem q665 : (Jvm.Cond.fieldLink "Shapelayer$Composition" (16 : Nat) "Shapelayer$Composition" "number" "I") ∈ lw_all := lw_g (lw_at lw_m3 127 rfl) rfl
theorem q667 : (Jvm.Cond.fieldLink "Shapelayer$Composition" (10 : Nat) "Shapelayer$Composition" "layers" "Ljava/util/List;") ∈ lw_all := lw_g (lw_at lw_m3 129 rfl) rfl
theorem q670 : (Jvm.Cond.laysFinal "Shapelayer$Composition" "Shapelayer$Composition" "number" "I") ∈ lw_all := lw_g (lw_at lw_m3 132 rfl) rfl
theorem q671 : (Jvm.Cond.soleField "Shapelayer$Composition" "number") ∈ lw_all := lw_g (lw_at lw_m3 133 rfl) rfl
theorem q672 : (Jvm.Cond.laysFinal "Shapelayer$Composition" "Shapelayer$Composition" "layers" "Ljava/util/List;") ∈ lw_all := lw_g (lw_at lw_m3 134 rfl) rfl
theorem q673 : (Jvm.Cond.soleField "Shapelayer$Composition" "layers") ∈ lw_all := lw_g (lw_at lw_m3 135 rfl) rfl
theorem q674 : (Jvm.Cond.superclass "Shapelayer$Composition" "java/lang/Object") ∈ lw_all := lw_g (lw_at lw_m3 136 rfl) rfl
theorem q704 : (Jvm.Cond.selects "Shapelayer$Composition" ({ cls := "java/lang/Object", name := "getClass", desc := "()Ljava/lang/Class;" } : Jvm.MethodName) ({ cls := "java/lang/Object", name := "getClass", desc := "()Ljava/lang/Class;" } : Jvm.MethodName)) ∈ lw_all := lw_g (lw_at lw_m3 166 rfl) rfl
theorem q843 : (Jvm.Cond.fieldLinkNest "Shapelayer$Composition" (37 : Nat) "Shapelayer$Layer" "matte" "LShapelayer$Layer;" "Shapelayer") ∈ lw_tbl := lw_at lw_m4 65 rfl
theorem q846 : (Jvm.Cond.fieldLinkNest "Shapelayer$Composition" (62 : Nat) "Shapelayer$Layer" "isInverted" "Z" "Shapelayer") ∈ lw_tbl := lw_at lw_m4 68 rfl
theorem q962 : (Jvm.Cond.instanceMethod ({ cls := "Shapelayer$Composition", name := "has", desc := "(LShapelayer$Composition;)Z" } : Jvm.MethodName)) ∈ lw_all := lw_g (lw_at lw_m4 184 rfl) rfl
theorem q963 : (Jvm.Cond.selects "Shapelayer$Composition" ({ cls := "Shapelayer$Composition", name := "has", desc := "(LShapelayer$Composition;)Z" } : Jvm.MethodName) ({ cls := "Shapelayer$Composition", name := "has", desc := "(LShapelayer$Composition;)Z" } : Jvm.MethodName)) ∈ lw_all := lw_g (lw_at lw_m4 185 rfl) rfl
theorem q964 : (Jvm.Cond.code ({ cls := "Shapelayer$Composition", name := "has", desc := "(LShapelayer$Composition;)Z" } : Jvm.MethodName) prog_3_method_5_code (5 : Nat) (Option.some Jvm.ClassFile.FieldType.boolean)) ∈ lw_all := lw_g (lw_at lw_m4 186 rfl) rfl
theorem q965 : (Jvm.Cond.methodLink "Shapelayer$Composition" (70 : Nat) ({ cls := "Shapelayer$Composition", name := "iterator", desc := "()Ljava/util/Iterator;" } : Jvm.MethodName)) ∈ lw_all := lw_g (lw_at lw_m4 187 rfl) rfl
theorem q966 : (Jvm.Cond.instanceMethod ({ cls := "Shapelayer$Composition", name := "iterator", desc := "()Ljava/util/Iterator;" } : Jvm.MethodName)) ∈ lw_all := lw_g (lw_at lw_m4 188 rfl) rfl
theorem q967 : (Jvm.Cond.selects "Shapelayer$Composition" ({ cls := "Shapelayer$Composition", name := "iterator", desc := "()Ljava/util/Iterator;" } : Jvm.MethodName) ({ cls := "Shapelayer$Composition", name := "iterator", desc := "()Ljava/util/Iterator;" } : Jvm.MethodName)) ∈ lw_all := lw_g (lw_at lw_m4 189 rfl) rfl
theorem q968 : (Jvm.Cond.code ({ cls := "Shapelayer$Composition", name := "iterator", desc := "()Ljava/util/Iterator;" } : Jvm.MethodName) prog_3_method_2_code (1 : Nat) (Option.some (Jvm.ClassFile.FieldType.object "java/util/Iterator"))) ∈ lw_all := lw_g (lw_at lw_m4 190 rfl) rfl
theorem q969 : (Jvm.Cond.classLink "Shapelayer$Composition" (20 : Nat) "Shapelayer$Composition$1") ∈ lw_all := lw_g (lw_at lw_m4 191 rfl) rfl
theorem q971 : (Jvm.Cond.methodLink "Shapelayer$Composition" (22 : Nat) ({ cls := "Shapelayer$Composition$1", name := "<init>", desc := "(LShapelayer$Composition;)V" } : Jvm.MethodName)) ∈ lw_all := lw_g (lw_at lw_m4 193 rfl) rfl
theorem q984 : (Jvm.Cond.interfaceEntry "Shapelayer$Composition" (74 : Nat)) ∈ lw_tbl := lw_at lw_m4 206 rfl
theorem q985 : (Jvm.Cond.methodLink "Shapelayer$Composition" (74 : Nat) ({ cls := "java/util/Iterator", name := "hasNext", desc := "()Z" } : Jvm.MethodName)) ∈ lw_all := lw_g (lw_at lw_m4 207 rfl) rfl
theorem q994 : (Jvm.Cond.interfaceEntry "Shapelayer$Composition" (80 : Nat)) ∈ lw_tbl := lw_at lw_m4 216 rfl
theorem q995 : (Jvm.Cond.methodLink "Shapelayer$Composition" (80 : Nat) ({ cls := "java/util/Iterator", name := "next", desc := "()Ljava/lang/Object;" } : Jvm.MethodName)) ∈ lw_all := lw_g (lw_at lw_m4 217 rfl) rfl
theorem q1026 : (Jvm.Cond.classLink "Shapelayer$Composition" (35 : Nat) "Shapelayer$Layer") ∈ lw_all := lw_g (lw_at lw_m5 8 rfl) rfl
theorem q1027 : (Jvm.Cond.classLink "Shapelayer$Composition" (84 : Nat) "Shapelayer$Nested") ∈ lw_all := lw_g (lw_at lw_m5 9 rfl) rfl
theorem q1028 : (Jvm.Cond.methodLink "Shapelayer$Composition" (90 : Nat) ({ cls := "Shapelayer$Composition", name := "has", desc := "(LShapelayer$Composition;)Z" } : Jvm.MethodName)) ∈ lw_all := lw_g (lw_at lw_m5 10 rfl) rfl
theorem q1036 : (Jvm.Cond.fieldLinkNest "Shapelayer$Composition" (86 : Nat) "Shapelayer$Nested" "shown" "LShapelayer$Composition;" "Shapelayer") ∈ lw_tbl := lw_at lw_m5 18 rfl
theorem q1091 : (Jvm.Cond.selects "Shapelayer$Composition" ({ cls := "java/lang/Object", name := "equals", desc := "(Ljava/lang/Object;)Z" } : Jvm.MethodName) ({ cls := "java/lang/Object", name := "equals", desc := "(Ljava/lang/Object;)Z" } : Jvm.MethodName)) ∈ lw_all := lw_g (lw_at lw_m5 73 rfl) rfl
theorem q1444 : (Jvm.Cond.instanceMethod ({ cls := "Shapelayer$Composition", name := "draw", desc := "(ILShapelayer$Outer;LShapelayer$Raster;)V" } : Jvm.MethodName)) ∈ lw_all := lw_g (lw_at lw_m6 186 rfl) rfl
theorem q1445 : (Jvm.Cond.selects "Shapelayer$Composition" ({ cls := "Shapelayer$Composition", name := "draw", desc := "(ILShapelayer$Outer;LShapelayer$Raster;)V" } : Jvm.MethodName) ({ cls := "Shapelayer$Composition", name := "draw", desc := "(ILShapelayer$Outer;LShapelayer$Raster;)V" } : Jvm.MethodName)) ∈ lw_all := lw_g (lw_at lw_m6 187 rfl) rfl
theorem q1446 : (Jvm.Cond.code ({ cls := "Shapelayer$Composition", name := "draw", desc := "(ILShapelayer$Outer;LShapelayer$Raster;)V" } : Jvm.MethodName) prog_3_method_4_code (8 : Nat) (Option.none : Option Jvm.ClassFile.FieldType)) ∈ lw_all := lw_g (lw_at lw_m6 188 rfl) rfl
theorem q1447 : (Jvm.Cond.interfaceEntry "Shapelayer$Composition" (25 : Nat)) ∈ lw_tbl := lw_at lw_m6 189 rfl
theorem q1448 : (Jvm.Cond.methodLink "Shapelayer$Composition" (25 : Nat) ({ cls := "java/util/List", name := "size", desc := "()I" } : Jvm.MethodName)) ∈ lw_all := lw_g (lw_at lw_m6 190 rfl) rfl
theorem q1449 : (Jvm.Cond.interfaceEntry "Shapelayer$Composition" (31 : Nat)) ∈ lw_tbl := lw_at lw_m6 191 rfl
theorem q1450 : (Jvm.Cond.methodLink "Shapelayer$Composition" (31 : Nat) ({ cls := "java/util/List", name := "get", desc := "(I)Ljava/lang/Object;" } : Jvm.MethodName)) ∈ lw_all := lw_g (lw_at lw_m6 192 rfl) rfl
theorem q1451 : (Jvm.Cond.methodLink "Shapelayer$Composition" (41 : Nat) ({ cls := "Shapelayer$Composition", name := "isMatte", desc := "(LShapelayer$Layer;)Z" } : Jvm.MethodName)) ∈ lw_all := lw_g (lw_at lw_m6 193 rfl) rfl
theorem q1452 : (Jvm.Cond.instanceMethod ({ cls := "Shapelayer$Composition", name := "isMatte", desc := "(LShapelayer$Layer;)Z" } : Jvm.MethodName)) ∈ lw_all := lw_g (lw_at lw_m6 194 rfl) rfl
theorem q1453 : (Jvm.Cond.selects "Shapelayer$Composition" ({ cls := "Shapelayer$Composition", name := "isMatte", desc := "(LShapelayer$Layer;)Z" } : Jvm.MethodName) ({ cls := "Shapelayer$Composition", name := "isMatte", desc := "(LShapelayer$Layer;)Z" } : Jvm.MethodName)) ∈ lw_all := lw_g (lw_at lw_m6 195 rfl) rfl
theorem q1454 : (Jvm.Cond.code ({ cls := "Shapelayer$Composition", name := "isMatte", desc := "(LShapelayer$Layer;)Z" } : Jvm.MethodName) prog_3_method_3_code (3 : Nat) (Option.some Jvm.ClassFile.FieldType.boolean)) ∈ lw_all := lw_g (lw_at lw_m6 196 rfl) rfl
theorem q1455 : (Jvm.Cond.methodLink "Shapelayer$Composition" (45 : Nat) ({ cls := "Shapelayer$Layer", name := "shows", desc := "(I)Z" } : Jvm.MethodName)) ∈ lw_all := lw_g (lw_at lw_m6 197 rfl) rfl
theorem q1464 : (Jvm.Cond.methodLink "Shapelayer$Composition" (49 : Nat) ({ cls := "Shapelayer$Layer", name := "draw", desc := "(ILShapelayer$Outer;LShapelayer$Raster;)V" } : Jvm.MethodName)) ∈ lw_all := lw_g (lw_at lw_m6 206 rfl) rfl
theorem q1548 : (Jvm.Cond.methodLink "Shapelayer$Composition" (53 : Nat) ({ cls := "Shapelayer$Raster", name := "own", desc := "()LShapelayer$Raster;" } : Jvm.MethodName)) ∈ lw_all := lw_g (lw_at lw_m7 50 rfl) rfl
theorem q1555 : (Jvm.Cond.methodLink "Shapelayer$Composition" (59 : Nat) ({ cls := "Shapelayer$Raster", name := "mask", desc := "()LShapelayer$Raster;" } : Jvm.MethodName)) ∈ lw_all := lw_g (lw_at lw_m7 57 rfl) rfl
theorem q1559 : (Jvm.Cond.methodLink "Shapelayer$Composition" (66 : Nat) ({ cls := "Shapelayer$Raster", name := "take", desc := "(LShapelayer$Raster;LShapelayer$Raster;Z)V" } : Jvm.MethodName)) ∈ lw_all := lw_g (lw_at lw_m7 61 rfl) rfl
theorem q2237 : (Jvm.Cond.castable "Shapelayer$Composition" "java/lang/Object") ∈ lw_tbl := lw_at lw_m10 19 rfl
theorem in_X4 : ∀ w ∈ wsX40, w ∈ lw_all := lw_in wsX40 [670, 672] (by decide +kernel) (by decide +kernel)

/-! Shapelayer$Layer -/
set_option maxRecDepth 100000
def RX5 : String := "Shapelayer$Layer"
abbrev cX5_keys : ByteArray := prog_12_method_11_code
def yX5_keys : MethodName := ⟨RX5, "keys", "()I"⟩
def dkwX5_keys_1 : List UInt8 := [58, 5, 27, 25, 5, 180, 0, 35, 185, 0, 94, 1, 0, 96, 60, 132, 4, 1, 167, 255, 228, 27, 172]
abbrev dktX5_keys_1 : List UInt8 := dkwX5_keys_1 ++ []
def dkwX5_keys_0 : List UInt8 := [3, 60, 42, 180, 0, 11, 77, 44, 190, 62, 3, 54, 4, 21, 4, 29, 162, 0, 28, 44, 21, 4, 50]
abbrev dktX5_keys_0 : List UInt8 := dkwX5_keys_0 ++ dktX5_keys_1
theorem dksX5_keys_0 : cX5_keys.data.toList.drop 0 = dktX5_keys_0 := by decide +kernel
theorem dksX5_keys_1 : cX5_keys.data.toList.drop 23 = dktX5_keys_1 := dk_seg dksX5_keys_0 23 rfl rfl
theorem dX5_keys_0 : decode cX5_keys 0 = .ok (.iconst 0, 1) := dk_3 (dk_at dksX5_keys_0 0 rfl rfl)
theorem dX5_keys_1 : decode cX5_keys 1 = .ok (.istore_n 1, 1) := dk_60 (dk_at dksX5_keys_0 1 rfl rfl)
theorem dX5_keys_2 : decode cX5_keys 2 = .ok (.aload_n 0, 1) := dk_42 (dk_at dksX5_keys_0 2 rfl rfl)
theorem dX5_keys_3 : decode cX5_keys 3 = .ok (.getfield 11, 3) := dk_180 0 11 (dk_at dksX5_keys_0 3 rfl rfl)
theorem dX5_keys_6 : decode cX5_keys 6 = .ok (.astore_n 2, 1) := dk_77 (dk_at dksX5_keys_0 6 rfl rfl)
theorem dX5_keys_7 : decode cX5_keys 7 = .ok (.aload_n 2, 1) := dk_44 (dk_at dksX5_keys_0 7 rfl rfl)
theorem dX5_keys_8 : decode cX5_keys 8 = .ok (.arraylength, 1) := dk_190 (dk_at dksX5_keys_0 8 rfl rfl)
theorem dX5_keys_9 : decode cX5_keys 9 = .ok (.istore_n 3, 1) := dk_62 (dk_at dksX5_keys_0 9 rfl rfl)
theorem dX5_keys_10 : decode cX5_keys 10 = .ok (.iconst 0, 1) := dk_3 (dk_at dksX5_keys_0 10 rfl rfl)
theorem dX5_keys_11 : decode cX5_keys 11 = .ok (.istore 4, 2) := dk_54 4 (dk_at dksX5_keys_0 11 rfl rfl)
theorem dX5_keys_13 : decode cX5_keys 13 = .ok (.iload 4, 2) := dk_21 4 (dk_at dksX5_keys_0 13 rfl rfl)
theorem dX5_keys_15 : decode cX5_keys 15 = .ok (.iload_n 3, 1) := dk_29 (dk_at dksX5_keys_0 15 rfl rfl)
theorem dX5_keys_16 : decode cX5_keys 16 = .ok (.if_icmp .ge 28, 3) := dk_162 0 28 (dk_at dksX5_keys_0 16 rfl rfl)
theorem dX5_keys_19 : decode cX5_keys 19 = .ok (.aload_n 2, 1) := dk_44 (dk_at dksX5_keys_0 19 rfl rfl)
theorem dX5_keys_20 : decode cX5_keys 20 = .ok (.iload 4, 2) := dk_21 4 (dk_at dksX5_keys_0 20 rfl rfl)
theorem dX5_keys_22 : decode cX5_keys 22 = .ok (.aaload, 1) := dk_50 (dk_at dksX5_keys_0 22 rfl rfl)
theorem dX5_keys_23 : decode cX5_keys 23 = .ok (.astore 5, 2) := dk_58 5 (dk_at dksX5_keys_1 0 rfl rfl)
theorem dX5_keys_25 : decode cX5_keys 25 = .ok (.iload_n 1, 1) := dk_27 (dk_at dksX5_keys_1 2 rfl rfl)
theorem dX5_keys_26 : decode cX5_keys 26 = .ok (.aload 5, 2) := dk_25 5 (dk_at dksX5_keys_1 3 rfl rfl)
theorem dX5_keys_28 : decode cX5_keys 28 = .ok (.getfield 35, 3) := dk_180 0 35 (dk_at dksX5_keys_1 5 rfl rfl)
theorem dX5_keys_31 : decode cX5_keys 31 = .ok (.invokeinterface 94 1, 5) := by decide +kernel
theorem dX5_keys_36 : decode cX5_keys 36 = .ok (.iadd, 1) := dk_96 (dk_at dksX5_keys_1 13 rfl rfl)
theorem dX5_keys_37 : decode cX5_keys 37 = .ok (.istore_n 1, 1) := dk_60 (dk_at dksX5_keys_1 14 rfl rfl)
theorem dX5_keys_38 : decode cX5_keys 38 = .ok (.iinc 4 1, 3) := dk_132 4 1 (dk_at dksX5_keys_1 15 rfl rfl)
theorem dX5_keys_41 : decode cX5_keys 41 = .ok (.goto (-28), 3) := dk_167 255 228 (dk_at dksX5_keys_1 18 rfl rfl)
theorem dX5_keys_44 : decode cX5_keys 44 = .ok (.iload_n 1, 1) := dk_27 (dk_at dksX5_keys_1 21 rfl rfl)
theorem dX5_keys_45 : decode cX5_keys 45 = .ok (.ireturn, 1) := dk_172 (dk_at dksX5_keys_1 22 rfl rfl)
abbrev cX5_init : ByteArray := prog_12_method_1_code
def yX5_init : MethodName := ⟨RX5, "<init>", "(ILShapelayer$Composition;)V"⟩
def dkwX5_init_2 : List UInt8 := [132, 3, 1, 167, 255, 229, 42, 27, 181, 0, 28, 42, 44, 181, 0, 31, 177]
abbrev dktX5_init_2 : List UInt8 := dkwX5_init_2 ++ []
def dkwX5_init_1 : List UInt8 := [16, 8, 162, 0, 27, 42, 180, 0, 11, 29, 187, 0, 9, 89, 178, 0, 21, 29, 46, 183, 0, 25, 83]
abbrev dktX5_init_1 : List UInt8 := dkwX5_init_1 ++ dktX5_init_2
def dkwX5_init_0 : List UInt8 := [42, 183, 0, 3, 42, 16, 8, 189, 0, 9, 181, 0, 11, 42, 17, 3, 232, 181, 0, 17, 3, 62, 29]
abbrev dktX5_init_0 : List UInt8 := dkwX5_init_0 ++ dktX5_init_1
theorem dksX5_init_0 : cX5_init.data.toList.drop 0 = dktX5_init_0 := by decide +kernel
theorem dksX5_init_1 : cX5_init.data.toList.drop 23 = dktX5_init_1 := dk_seg dksX5_init_0 23 rfl rfl
theorem dksX5_init_2 : cX5_init.data.toList.drop 46 = dktX5_init_2 := dk_seg dksX5_init_1 23 rfl rfl
theorem dX5_init_0 : decode cX5_init 0 = .ok (.aload_n 0, 1) := dk_42 (dk_at dksX5_init_0 0 rfl rfl)
theorem dX5_init_1 : decode cX5_init 1 = .ok (.invokespecial 3, 3) := dk_183 0 3 (dk_at dksX5_init_0 1 rfl rfl)
theorem dX5_init_4 : decode cX5_init 4 = .ok (.aload_n 0, 1) := dk_42 (dk_at dksX5_init_0 4 rfl rfl)
theorem dX5_init_5 : decode cX5_init 5 = .ok (.bipush 8, 2) := dk_16 8 (dk_at dksX5_init_0 5 rfl rfl)
theorem dX5_init_7 : decode cX5_init 7 = .ok (.anewarray 9, 3) := dk_189 0 9 (dk_at dksX5_init_0 7 rfl rfl)
theorem dX5_init_10 : decode cX5_init 10 = .ok (.putfield 11, 3) := dk_181 0 11 (dk_at dksX5_init_0 10 rfl rfl)
theorem dX5_init_13 : decode cX5_init 13 = .ok (.aload_n 0, 1) := dk_42 (dk_at dksX5_init_0 13 rfl rfl)
theorem dX5_init_14 : decode cX5_init 14 = .ok (.sipush 1000, 3) := dk_17 3 232 (dk_at dksX5_init_0 14 rfl rfl)
theorem dX5_init_17 : decode cX5_init 17 = .ok (.putfield 17, 3) := dk_181 0 17 (dk_at dksX5_init_0 17 rfl rfl)
theorem dX5_init_20 : decode cX5_init 20 = .ok (.iconst 0, 1) := dk_3 (dk_at dksX5_init_0 20 rfl rfl)
theorem dX5_init_21 : decode cX5_init 21 = .ok (.istore_n 3, 1) := dk_62 (dk_at dksX5_init_0 21 rfl rfl)
theorem dX5_init_22 : decode cX5_init 22 = .ok (.iload_n 3, 1) := dk_29 (dk_at dksX5_init_0 22 rfl rfl)
theorem dX5_init_23 : decode cX5_init 23 = .ok (.bipush 8, 2) := dk_16 8 (dk_at dksX5_init_1 0 rfl rfl)
theorem dX5_init_25 : decode cX5_init 25 = .ok (.if_icmp .ge 27, 3) := dk_162 0 27 (dk_at dksX5_init_1 2 rfl rfl)
theorem dX5_init_28 : decode cX5_init 28 = .ok (.aload_n 0, 1) := dk_42 (dk_at dksX5_init_1 5 rfl rfl)
theorem dX5_init_29 : decode cX5_init 29 = .ok (.getfield 11, 3) := dk_180 0 11 (dk_at dksX5_init_1 6 rfl rfl)
theorem dX5_init_32 : decode cX5_init 32 = .ok (.iload_n 3, 1) := dk_29 (dk_at dksX5_init_1 9 rfl rfl)
theorem dX5_init_33 : decode cX5_init 33 = .ok (.new 9, 3) := dk_187 0 9 (dk_at dksX5_init_1 10 rfl rfl)
theorem dX5_init_36 : decode cX5_init 36 = .ok (.dup, 1) := dk_89 (dk_at dksX5_init_1 13 rfl rfl)
theorem dX5_init_37 : decode cX5_init 37 = .ok (.getstatic 21, 3) := dk_178 0 21 (dk_at dksX5_init_1 14 rfl rfl)
theorem dX5_init_40 : decode cX5_init 40 = .ok (.iload_n 3, 1) := dk_29 (dk_at dksX5_init_1 17 rfl rfl)
theorem dX5_init_41 : decode cX5_init 41 = .ok (.iaload, 1) := dk_46 (dk_at dksX5_init_1 18 rfl rfl)
theorem dX5_init_42 : decode cX5_init 42 = .ok (.invokespecial 25, 3) := dk_183 0 25 (dk_at dksX5_init_1 19 rfl rfl)
theorem dX5_init_45 : decode cX5_init 45 = .ok (.aastore, 1) := dk_83 (dk_at dksX5_init_1 22 rfl rfl)
theorem dX5_init_46 : decode cX5_init 46 = .ok (.iinc 3 1, 3) := dk_132 3 1 (dk_at dksX5_init_2 0 rfl rfl)
theorem dX5_init_49 : decode cX5_init 49 = .ok (.goto (-27), 3) := dk_167 255 229 (dk_at dksX5_init_2 3 rfl rfl)
theorem dX5_init_52 : decode cX5_init 52 = .ok (.aload_n 0, 1) := dk_42 (dk_at dksX5_init_2 6 rfl rfl)
theorem dX5_init_53 : decode cX5_init 53 = .ok (.iload_n 1, 1) := dk_27 (dk_at dksX5_init_2 7 rfl rfl)
theorem dX5_init_54 : decode cX5_init 54 = .ok (.putfield 28, 3) := dk_181 0 28 (dk_at dksX5_init_2 8 rfl rfl)
theorem dX5_init_57 : decode cX5_init 57 = .ok (.aload_n 0, 1) := dk_42 (dk_at dksX5_init_2 11 rfl rfl)
theorem dX5_init_58 : decode cX5_init 58 = .ok (.aload_n 2, 1) := dk_44 (dk_at dksX5_init_2 12 rfl rfl)
theorem dX5_init_59 : decode cX5_init 59 = .ok (.putfield 31, 3) := dk_181 0 31 (dk_at dksX5_init_2 13 rfl rfl)
theorem dX5_init_62 : decode cX5_init 62 = .ok (.return_, 1) := dk_177 (dk_at dksX5_init_2 16 rfl rfl)
abbrev cX5_isOn : ByteArray := prog_12_method_10_code
def yX5_isOn : MethodName := ⟨RX5, "isOn", "(LShapelayer$Layer;)Z"⟩
def dkwX5_isOn_0 : List UInt8 := [42, 77, 44, 198, 0, 18, 44, 43, 166, 0, 5, 4, 172, 44, 180, 0, 75, 77, 167, 255, 240, 3, 172]
abbrev dktX5_isOn_0 : List UInt8 := dkwX5_isOn_0 ++ []
theorem dksX5_isOn_0 : cX5_isOn.data.toList.drop 0 = dktX5_isOn_0 := by decide +kernel
theorem dX5_isOn_0 : decode cX5_isOn 0 = .ok (.aload_n 0, 1) := dk_42 (dk_at dksX5_isOn_0 0 rfl rfl)
theorem dX5_isOn_1 : decode cX5_isOn 1 = .ok (.astore_n 2, 1) := dk_77 (dk_at dksX5_isOn_0 1 rfl rfl)
theorem dX5_isOn_2 : decode cX5_isOn 2 = .ok (.aload_n 2, 1) := dk_44 (dk_at dksX5_isOn_0 2 rfl rfl)
theorem dX5_isOn_3 : decode cX5_isOn 3 = .ok (.ifnull 18, 3) := dk_198 0 18 (dk_at dksX5_isOn_0 3 rfl rfl)
theorem dX5_isOn_6 : decode cX5_isOn 6 = .ok (.aload_n 2, 1) := dk_44 (dk_at dksX5_isOn_0 6 rfl rfl)
theorem dX5_isOn_7 : decode cX5_isOn 7 = .ok (.aload_n 1, 1) := dk_43 (dk_at dksX5_isOn_0 7 rfl rfl)
theorem dX5_isOn_8 : decode cX5_isOn 8 = .ok (.if_acmp .ne 5, 3) := dk_166 0 5 (dk_at dksX5_isOn_0 8 rfl rfl)
theorem dX5_isOn_11 : decode cX5_isOn 11 = .ok (.iconst 1, 1) := dk_4 (dk_at dksX5_isOn_0 11 rfl rfl)
theorem dX5_isOn_12 : decode cX5_isOn 12 = .ok (.ireturn, 1) := dk_172 (dk_at dksX5_isOn_0 12 rfl rfl)
theorem dX5_isOn_13 : decode cX5_isOn 13 = .ok (.aload_n 2, 1) := dk_44 (dk_at dksX5_isOn_0 13 rfl rfl)
theorem dX5_isOn_14 : decode cX5_isOn 14 = .ok (.getfield 75, 3) := dk_180 0 75 (dk_at dksX5_isOn_0 14 rfl rfl)
theorem dX5_isOn_17 : decode cX5_isOn 17 = .ok (.astore_n 2, 1) := dk_77 (dk_at dksX5_isOn_0 17 rfl rfl)
theorem dX5_isOn_18 : decode cX5_isOn 18 = .ok (.goto (-16), 3) := dk_167 255 240 (dk_at dksX5_isOn_0 18 rfl rfl)
theorem dX5_isOn_21 : decode cX5_isOn 21 = .ok (.iconst 0, 1) := dk_3 (dk_at dksX5_isOn_0 21 rfl rfl)
theorem dX5_isOn_22 : decode cX5_isOn 22 = .ok (.ireturn, 1) := dk_172 (dk_at dksX5_isOn_0 22 rfl rfl)
abbrev cX5_value : ByteArray := prog_12_method_4_code
def yX5_value : MethodName := ⟨RX5, "value", "(II)I"⟩
def dkwX5_value_1 : List UInt8 := [28, 167, 0, 13, 42, 180, 0, 11, 27, 50, 28, 182, 0, 45, 172]
abbrev dktX5_value_1 : List UInt8 := dkwX5_value_1 ++ []
def dkwX5_value_0 : List UInt8 := [27, 16, 6, 160, 0, 25, 42, 180, 0, 11, 16, 6, 50, 180, 0, 35, 185, 0, 39, 1, 0, 153, 0, 7]
abbrev dktX5_value_0 : List UInt8 := dkwX5_value_0 ++ dktX5_value_1
theorem dksX5_value_0 : cX5_value.data.toList.drop 0 = dktX5_value_0 := by decide +kernel
theorem dksX5_value_1 : cX5_value.data.toList.drop 24 = dktX5_value_1 := dk_seg dksX5_value_0 24 rfl rfl
theorem dX5_value_0 : decode cX5_value 0 = .ok (.iload_n 1, 1) := dk_27 (dk_at dksX5_value_0 0 rfl rfl)
theorem dX5_value_1 : decode cX5_value 1 = .ok (.bipush 6, 2) := dk_16 6 (dk_at dksX5_value_0 1 rfl rfl)
theorem dX5_value_3 : decode cX5_value 3 = .ok (.if_icmp .ne 25, 3) := dk_160 0 25 (dk_at dksX5_value_0 3 rfl rfl)
theorem dX5_value_6 : decode cX5_value 6 = .ok (.aload_n 0, 1) := dk_42 (dk_at dksX5_value_0 6 rfl rfl)
theorem dX5_value_7 : decode cX5_value 7 = .ok (.getfield 11, 3) := dk_180 0 11 (dk_at dksX5_value_0 7 rfl rfl)
theorem dX5_value_10 : decode cX5_value 10 = .ok (.bipush 6, 2) := dk_16 6 (dk_at dksX5_value_0 10 rfl rfl)
theorem dX5_value_12 : decode cX5_value 12 = .ok (.aaload, 1) := dk_50 (dk_at dksX5_value_0 12 rfl rfl)
theorem dX5_value_13 : decode cX5_value 13 = .ok (.getfield 35, 3) := dk_180 0 35 (dk_at dksX5_value_0 13 rfl rfl)
theorem dX5_value_16 : decode cX5_value 16 = .ok (.invokeinterface 39 1, 5) := by decide +kernel
theorem dX5_value_21 : decode cX5_value 21 = .ok (.ifCond .eq 7, 3) := dk_153 0 7 (dk_at dksX5_value_0 21 rfl rfl)
theorem dX5_value_24 : decode cX5_value 24 = .ok (.iload_n 2, 1) := dk_28 (dk_at dksX5_value_1 0 rfl rfl)
theorem dX5_value_25 : decode cX5_value 25 = .ok (.goto 13, 3) := dk_167 0 13 (dk_at dksX5_value_1 1 rfl rfl)
theorem dX5_value_28 : decode cX5_value 28 = .ok (.aload_n 0, 1) := dk_42 (dk_at dksX5_value_1 4 rfl rfl)
theorem dX5_value_29 : decode cX5_value 29 = .ok (.getfield 11, 3) := dk_180 0 11 (dk_at dksX5_value_1 5 rfl rfl)
theorem dX5_value_32 : decode cX5_value 32 = .ok (.iload_n 1, 1) := dk_27 (dk_at dksX5_value_1 8 rfl rfl)
theorem dX5_value_33 : decode cX5_value 33 = .ok (.aaload, 1) := dk_50 (dk_at dksX5_value_1 9 rfl rfl)
theorem dX5_value_34 : decode cX5_value 34 = .ok (.iload_n 2, 1) := dk_28 (dk_at dksX5_value_1 10 rfl rfl)
theorem dX5_value_35 : decode cX5_value 35 = .ok (.invokevirtual 45, 3) := dk_182 0 45 (dk_at dksX5_value_1 11 rfl rfl)
theorem dX5_value_38 : decode cX5_value 38 = .ok (.ireturn, 1) := dk_172 (dk_at dksX5_value_1 14 rfl rfl)
abbrev cX5_map : ByteArray := prog_12_method_9_code
def yX5_map : MethodName := ⟨RX5, "map", "(ILShapelayer$Outer;JJ[J)V"⟩
def dkwX5_map_2 : List UInt8 := [58, 8, 167, 255, 229, 177]
abbrev dktX5_map_2 : List UInt8 := dkwX5_map_2 ++ []
def dkwX5_map_1 : List UInt8 := [198, 0, 28, 25, 8, 180, 0, 82, 25, 8, 180, 0, 87, 25, 7, 182, 0, 79, 25, 8, 180, 0, 90]
abbrev dktX5_map_1 : List UInt8 := dkwX5_map_1 ++ dktX5_map_2
def dkwX5_map_0 : List UInt8 := [25, 7, 3, 33, 80, 25, 7, 4, 22, 5, 80, 42, 27, 25, 7, 182, 0, 79, 44, 58, 8, 25, 8]
abbrev dktX5_map_0 : List UInt8 := dkwX5_map_0 ++ dktX5_map_1
theorem dksX5_map_0 : cX5_map.data.toList.drop 0 = dktX5_map_0 := by decide +kernel
theorem dksX5_map_1 : cX5_map.data.toList.drop 23 = dktX5_map_1 := dk_seg dksX5_map_0 23 rfl rfl
theorem dksX5_map_2 : cX5_map.data.toList.drop 46 = dktX5_map_2 := dk_seg dksX5_map_1 23 rfl rfl
theorem dX5_map_0 : decode cX5_map 0 = .ok (.aload 7, 2) := dk_25 7 (dk_at dksX5_map_0 0 rfl rfl)
theorem dX5_map_2 : decode cX5_map 2 = .ok (.iconst 0, 1) := dk_3 (dk_at dksX5_map_0 2 rfl rfl)
theorem dX5_map_3 : decode cX5_map 3 = .ok (.lload_n 3, 1) := dk_33 (dk_at dksX5_map_0 3 rfl rfl)
theorem dX5_map_4 : decode cX5_map 4 = .ok (.lastore, 1) := dk_80 (dk_at dksX5_map_0 4 rfl rfl)
theorem dX5_map_5 : decode cX5_map 5 = .ok (.aload 7, 2) := dk_25 7 (dk_at dksX5_map_0 5 rfl rfl)
theorem dX5_map_7 : decode cX5_map 7 = .ok (.iconst 1, 1) := dk_4 (dk_at dksX5_map_0 7 rfl rfl)
theorem dX5_map_8 : decode cX5_map 8 = .ok (.lload 5, 2) := dk_22 5 (dk_at dksX5_map_0 8 rfl rfl)
theorem dX5_map_10 : decode cX5_map 10 = .ok (.lastore, 1) := dk_80 (dk_at dksX5_map_0 10 rfl rfl)
theorem dX5_map_11 : decode cX5_map 11 = .ok (.aload_n 0, 1) := dk_42 (dk_at dksX5_map_0 11 rfl rfl)
theorem dX5_map_12 : decode cX5_map 12 = .ok (.iload_n 1, 1) := dk_27 (dk_at dksX5_map_0 12 rfl rfl)
theorem dX5_map_13 : decode cX5_map 13 = .ok (.aload 7, 2) := dk_25 7 (dk_at dksX5_map_0 13 rfl rfl)
theorem dX5_map_15 : decode cX5_map 15 = .ok (.invokevirtual 79, 3) := dk_182 0 79 (dk_at dksX5_map_0 15 rfl rfl)
theorem dX5_map_18 : decode cX5_map 18 = .ok (.aload_n 2, 1) := dk_44 (dk_at dksX5_map_0 18 rfl rfl)
theorem dX5_map_19 : decode cX5_map 19 = .ok (.astore 8, 2) := dk_58 8 (dk_at dksX5_map_0 19 rfl rfl)
theorem dX5_map_21 : decode cX5_map 21 = .ok (.aload 8, 2) := dk_25 8 (dk_at dksX5_map_0 21 rfl rfl)
theorem dX5_map_23 : decode cX5_map 23 = .ok (.ifnull 28, 3) := dk_198 0 28 (dk_at dksX5_map_1 0 rfl rfl)
theorem dX5_map_26 : decode cX5_map 26 = .ok (.aload 8, 2) := dk_25 8 (dk_at dksX5_map_1 3 rfl rfl)
theorem dX5_map_28 : decode cX5_map 28 = .ok (.getfield 82, 3) := dk_180 0 82 (dk_at dksX5_map_1 5 rfl rfl)
theorem dX5_map_31 : decode cX5_map 31 = .ok (.aload 8, 2) := dk_25 8 (dk_at dksX5_map_1 8 rfl rfl)
theorem dX5_map_33 : decode cX5_map 33 = .ok (.getfield 87, 3) := dk_180 0 87 (dk_at dksX5_map_1 10 rfl rfl)
theorem dX5_map_36 : decode cX5_map 36 = .ok (.aload 7, 2) := dk_25 7 (dk_at dksX5_map_1 13 rfl rfl)
theorem dX5_map_38 : decode cX5_map 38 = .ok (.invokevirtual 79, 3) := dk_182 0 79 (dk_at dksX5_map_1 15 rfl rfl)
theorem dX5_map_41 : decode cX5_map 41 = .ok (.aload 8, 2) := dk_25 8 (dk_at dksX5_map_1 18 rfl rfl)
theorem dX5_map_43 : decode cX5_map 43 = .ok (.getfield 90, 3) := dk_180 0 90 (dk_at dksX5_map_1 20 rfl rfl)
theorem dX5_map_46 : decode cX5_map 46 = .ok (.astore 8, 2) := dk_58 8 (dk_at dksX5_map_2 0 rfl rfl)
theorem dX5_map_48 : decode cX5_map 48 = .ok (.goto (-27), 3) := dk_167 255 229 (dk_at dksX5_map_2 2 rfl rfl)
theorem dX5_map_51 : decode cX5_map 51 = .ok (.return_, 1) := dk_177 (dk_at dksX5_map_2 5 rfl rfl)
abbrev cX5_map_2 : ByteArray := prog_12_method_8_code
def yX5_map_2 : MethodName := ⟨RX5, "map", "(I[J)V"⟩
def dkwX5_map_2_0 : List UInt8 := [42, 78, 45, 198, 0, 17, 45, 27, 44, 182, 0, 71, 45, 180, 0, 75, 78, 167, 255, 241, 177]
abbrev dktX5_map_2_0 : List UInt8 := dkwX5_map_2_0 ++ []
theorem dksX5_map_2_0 : cX5_map_2.data.toList.drop 0 = dktX5_map_2_0 := by decide +kernel
theorem dX5_map_2_0 : decode cX5_map_2 0 = .ok (.aload_n 0, 1) := dk_42 (dk_at dksX5_map_2_0 0 rfl rfl)
theorem dX5_map_2_1 : decode cX5_map_2 1 = .ok (.astore_n 3, 1) := dk_78 (dk_at dksX5_map_2_0 1 rfl rfl)
theorem dX5_map_2_2 : decode cX5_map_2 2 = .ok (.aload_n 3, 1) := dk_45 (dk_at dksX5_map_2_0 2 rfl rfl)
theorem dX5_map_2_3 : decode cX5_map_2 3 = .ok (.ifnull 17, 3) := dk_198 0 17 (dk_at dksX5_map_2_0 3 rfl rfl)
theorem dX5_map_2_6 : decode cX5_map_2 6 = .ok (.aload_n 3, 1) := dk_45 (dk_at dksX5_map_2_0 6 rfl rfl)
theorem dX5_map_2_7 : decode cX5_map_2 7 = .ok (.iload_n 1, 1) := dk_27 (dk_at dksX5_map_2_0 7 rfl rfl)
theorem dX5_map_2_8 : decode cX5_map_2 8 = .ok (.aload_n 2, 1) := dk_44 (dk_at dksX5_map_2_0 8 rfl rfl)
theorem dX5_map_2_9 : decode cX5_map_2 9 = .ok (.invokevirtual 71, 3) := dk_182 0 71 (dk_at dksX5_map_2_0 9 rfl rfl)
theorem dX5_map_2_12 : decode cX5_map_2 12 = .ok (.aload_n 3, 1) := dk_45 (dk_at dksX5_map_2_0 12 rfl rfl)
theorem dX5_map_2_13 : decode cX5_map_2 13 = .ok (.getfield 75, 3) := dk_180 0 75 (dk_at dksX5_map_2_0 13 rfl rfl)
theorem dX5_map_2_16 : decode cX5_map_2 16 = .ok (.astore_n 3, 1) := dk_78 (dk_at dksX5_map_2_0 16 rfl rfl)
theorem dX5_map_2_17 : decode cX5_map_2 17 = .ok (.goto (-15), 3) := dk_167 255 241 (dk_at dksX5_map_2_0 17 rfl rfl)
theorem dX5_map_2_20 : decode cX5_map_2 20 = .ok (.return_, 1) := dk_177 (dk_at dksX5_map_2_0 20 rfl rfl)
abbrev cX5_mapOnce : ByteArray := prog_12_method_7_code
def yX5_mapOnce : MethodName := ⟨RX5, "mapOnce", "(I[J)V"⟩
def dkwX5_mapOnce_3 : List UInt8 := [47, 33, 105, 20, 0, 65, 184, 0, 67, 42, 4, 27, 182, 0, 56, 133, 97, 80, 177]
abbrev dktX5_mapOnce_3 : List UInt8 := dkwX5_mapOnce_3 ++ []
def dkwX5_mapOnce_2 : List UInt8 := [44, 3, 47, 33, 105, 20, 0, 65, 184, 0, 67, 42, 3, 27, 182, 0, 56, 133, 97, 80, 44, 4, 44, 4]
abbrev dktX5_mapOnce_2 : List UInt8 := dkwX5_mapOnce_2 ++ dktX5_mapOnce_3
def dkwX5_mapOnce_1 : List UInt8 := [47, 117, 80, 44, 4, 22, 4, 80, 132, 3, 255, 167, 255, 232, 42, 5, 27, 182, 0, 56, 133, 66, 44, 3]
abbrev dktX5_mapOnce_1 : List UInt8 := dkwX5_mapOnce_1 ++ dktX5_mapOnce_2
def dkwX5_mapOnce_0 : List UInt8 := [42, 6, 27, 182, 0, 56, 7, 184, 0, 60, 62, 29, 158, 0, 26, 44, 3, 47, 55, 4, 44, 3, 44, 4]
abbrev dktX5_mapOnce_0 : List UInt8 := dkwX5_mapOnce_0 ++ dktX5_mapOnce_1
theorem dksX5_mapOnce_0 : cX5_mapOnce.data.toList.drop 0 = dktX5_mapOnce_0 := by decide +kernel
theorem dksX5_mapOnce_1 : cX5_mapOnce.data.toList.drop 24 = dktX5_mapOnce_1 := dk_seg dksX5_mapOnce_0 24 rfl rfl
theorem dksX5_mapOnce_2 : cX5_mapOnce.data.toList.drop 48 = dktX5_mapOnce_2 := dk_seg dksX5_mapOnce_1 24 rfl rfl
theorem dksX5_mapOnce_3 : cX5_mapOnce.data.toList.drop 72 = dktX5_mapOnce_3 := dk_seg dksX5_mapOnce_2 24 rfl rfl
theorem dX5_mapOnce_0 : decode cX5_mapOnce 0 = .ok (.aload_n 0, 1) := dk_42 (dk_at dksX5_mapOnce_0 0 rfl rfl)
theorem dX5_mapOnce_1 : decode cX5_mapOnce 1 = .ok (.iconst 3, 1) := dk_6 (dk_at dksX5_mapOnce_0 1 rfl rfl)
theorem dX5_mapOnce_2 : decode cX5_mapOnce 2 = .ok (.iload_n 1, 1) := dk_27 (dk_at dksX5_mapOnce_0 2 rfl rfl)
theorem dX5_mapOnce_3 : decode cX5_mapOnce 3 = .ok (.invokevirtual 56, 3) := dk_182 0 56 (dk_at dksX5_mapOnce_0 3 rfl rfl)
theorem dX5_mapOnce_6 : decode cX5_mapOnce 6 = .ok (.iconst 4, 1) := dk_7 (dk_at dksX5_mapOnce_0 6 rfl rfl)
theorem dX5_mapOnce_7 : decode cX5_mapOnce 7 = .ok (.invokestatic 60, 3) := dk_184 0 60 (dk_at dksX5_mapOnce_0 7 rfl rfl)
theorem dX5_mapOnce_10 : decode cX5_mapOnce 10 = .ok (.istore_n 3, 1) := dk_62 (dk_at dksX5_mapOnce_0 10 rfl rfl)
theorem dX5_mapOnce_11 : decode cX5_mapOnce 11 = .ok (.iload_n 3, 1) := dk_29 (dk_at dksX5_mapOnce_0 11 rfl rfl)
theorem dX5_mapOnce_12 : decode cX5_mapOnce 12 = .ok (.ifCond .le 26, 3) := dk_158 0 26 (dk_at dksX5_mapOnce_0 12 rfl rfl)
theorem dX5_mapOnce_15 : decode cX5_mapOnce 15 = .ok (.aload_n 2, 1) := dk_44 (dk_at dksX5_mapOnce_0 15 rfl rfl)
theorem dX5_mapOnce_16 : decode cX5_mapOnce 16 = .ok (.iconst 0, 1) := dk_3 (dk_at dksX5_mapOnce_0 16 rfl rfl)
theorem dX5_mapOnce_17 : decode cX5_mapOnce 17 = .ok (.laload, 1) := dk_47 (dk_at dksX5_mapOnce_0 17 rfl rfl)
theorem dX5_mapOnce_18 : decode cX5_mapOnce 18 = .ok (.lstore 4, 2) := dk_55 4 (dk_at dksX5_mapOnce_0 18 rfl rfl)
theorem dX5_mapOnce_20 : decode cX5_mapOnce 20 = .ok (.aload_n 2, 1) := dk_44 (dk_at dksX5_mapOnce_0 20 rfl rfl)
theorem dX5_mapOnce_21 : decode cX5_mapOnce 21 = .ok (.iconst 0, 1) := dk_3 (dk_at dksX5_mapOnce_0 21 rfl rfl)
theorem dX5_mapOnce_22 : decode cX5_mapOnce 22 = .ok (.aload_n 2, 1) := dk_44 (dk_at dksX5_mapOnce_0 22 rfl rfl)
theorem dX5_mapOnce_23 : decode cX5_mapOnce 23 = .ok (.iconst 1, 1) := dk_4 (dk_at dksX5_mapOnce_0 23 rfl rfl)
theorem dX5_mapOnce_24 : decode cX5_mapOnce 24 = .ok (.laload, 1) := dk_47 (dk_at dksX5_mapOnce_1 0 rfl rfl)
theorem dX5_mapOnce_25 : decode cX5_mapOnce 25 = .ok (.lneg, 1) := dk_117 (dk_at dksX5_mapOnce_1 1 rfl rfl)
theorem dX5_mapOnce_26 : decode cX5_mapOnce 26 = .ok (.lastore, 1) := dk_80 (dk_at dksX5_mapOnce_1 2 rfl rfl)
theorem dX5_mapOnce_27 : decode cX5_mapOnce 27 = .ok (.aload_n 2, 1) := dk_44 (dk_at dksX5_mapOnce_1 3 rfl rfl)
theorem dX5_mapOnce_28 : decode cX5_mapOnce 28 = .ok (.iconst 1, 1) := dk_4 (dk_at dksX5_mapOnce_1 4 rfl rfl)
theorem dX5_mapOnce_29 : decode cX5_mapOnce 29 = .ok (.lload 4, 2) := dk_22 4 (dk_at dksX5_mapOnce_1 5 rfl rfl)
theorem dX5_mapOnce_31 : decode cX5_mapOnce 31 = .ok (.lastore, 1) := dk_80 (dk_at dksX5_mapOnce_1 7 rfl rfl)
theorem dX5_mapOnce_32 : decode cX5_mapOnce 32 = .ok (.iinc 3 (-1), 3) := dk_132 3 255 (dk_at dksX5_mapOnce_1 8 rfl rfl)
theorem dX5_mapOnce_35 : decode cX5_mapOnce 35 = .ok (.goto (-24), 3) := dk_167 255 232 (dk_at dksX5_mapOnce_1 11 rfl rfl)
theorem dX5_mapOnce_38 : decode cX5_mapOnce 38 = .ok (.aload_n 0, 1) := dk_42 (dk_at dksX5_mapOnce_1 14 rfl rfl)
theorem dX5_mapOnce_39 : decode cX5_mapOnce 39 = .ok (.iconst 2, 1) := dk_5 (dk_at dksX5_mapOnce_1 15 rfl rfl)
theorem dX5_mapOnce_40 : decode cX5_mapOnce 40 = .ok (.iload_n 1, 1) := dk_27 (dk_at dksX5_mapOnce_1 16 rfl rfl)
theorem dX5_mapOnce_41 : decode cX5_mapOnce 41 = .ok (.invokevirtual 56, 3) := dk_182 0 56 (dk_at dksX5_mapOnce_1 17 rfl rfl)
theorem dX5_mapOnce_44 : decode cX5_mapOnce 44 = .ok (.i2l, 1) := dk_133 (dk_at dksX5_mapOnce_1 20 rfl rfl)
theorem dX5_mapOnce_45 : decode cX5_mapOnce 45 = .ok (.lstore_n 3, 1) := dk_66 (dk_at dksX5_mapOnce_1 21 rfl rfl)
theorem dX5_mapOnce_46 : decode cX5_mapOnce 46 = .ok (.aload_n 2, 1) := dk_44 (dk_at dksX5_mapOnce_1 22 rfl rfl)
theorem dX5_mapOnce_47 : decode cX5_mapOnce 47 = .ok (.iconst 0, 1) := dk_3 (dk_at dksX5_mapOnce_1 23 rfl rfl)
theorem dX5_mapOnce_48 : decode cX5_mapOnce 48 = .ok (.aload_n 2, 1) := dk_44 (dk_at dksX5_mapOnce_2 0 rfl rfl)
theorem dX5_mapOnce_49 : decode cX5_mapOnce 49 = .ok (.iconst 0, 1) := dk_3 (dk_at dksX5_mapOnce_2 1 rfl rfl)
theorem dX5_mapOnce_50 : decode cX5_mapOnce 50 = .ok (.laload, 1) := dk_47 (dk_at dksX5_mapOnce_2 2 rfl rfl)
theorem dX5_mapOnce_51 : decode cX5_mapOnce 51 = .ok (.lload_n 3, 1) := dk_33 (dk_at dksX5_mapOnce_2 3 rfl rfl)
theorem dX5_mapOnce_52 : decode cX5_mapOnce 52 = .ok (.lmul, 1) := dk_105 (dk_at dksX5_mapOnce_2 4 rfl rfl)
theorem dX5_mapOnce_53 : decode cX5_mapOnce 53 = .ok (.ldc2_w 65, 3) := dk_20 0 65 (dk_at dksX5_mapOnce_2 5 rfl rfl)
theorem dX5_mapOnce_56 : decode cX5_mapOnce 56 = .ok (.invokestatic 67, 3) := dk_184 0 67 (dk_at dksX5_mapOnce_2 8 rfl rfl)
theorem dX5_mapOnce_59 : decode cX5_mapOnce 59 = .ok (.aload_n 0, 1) := dk_42 (dk_at dksX5_mapOnce_2 11 rfl rfl)
theorem dX5_mapOnce_60 : decode cX5_mapOnce 60 = .ok (.iconst 0, 1) := dk_3 (dk_at dksX5_mapOnce_2 12 rfl rfl)
theorem dX5_mapOnce_61 : decode cX5_mapOnce 61 = .ok (.iload_n 1, 1) := dk_27 (dk_at dksX5_mapOnce_2 13 rfl rfl)
theorem dX5_mapOnce_62 : decode cX5_mapOnce 62 = .ok (.invokevirtual 56, 3) := dk_182 0 56 (dk_at dksX5_mapOnce_2 14 rfl rfl)
theorem dX5_mapOnce_65 : decode cX5_mapOnce 65 = .ok (.i2l, 1) := dk_133 (dk_at dksX5_mapOnce_2 17 rfl rfl)
theorem dX5_mapOnce_66 : decode cX5_mapOnce 66 = .ok (.ladd, 1) := dk_97 (dk_at dksX5_mapOnce_2 18 rfl rfl)
theorem dX5_mapOnce_67 : decode cX5_mapOnce 67 = .ok (.lastore, 1) := dk_80 (dk_at dksX5_mapOnce_2 19 rfl rfl)
theorem dX5_mapOnce_68 : decode cX5_mapOnce 68 = .ok (.aload_n 2, 1) := dk_44 (dk_at dksX5_mapOnce_2 20 rfl rfl)
theorem dX5_mapOnce_69 : decode cX5_mapOnce 69 = .ok (.iconst 1, 1) := dk_4 (dk_at dksX5_mapOnce_2 21 rfl rfl)
theorem dX5_mapOnce_70 : decode cX5_mapOnce 70 = .ok (.aload_n 2, 1) := dk_44 (dk_at dksX5_mapOnce_2 22 rfl rfl)
theorem dX5_mapOnce_71 : decode cX5_mapOnce 71 = .ok (.iconst 1, 1) := dk_4 (dk_at dksX5_mapOnce_2 23 rfl rfl)
theorem dX5_mapOnce_72 : decode cX5_mapOnce 72 = .ok (.laload, 1) := dk_47 (dk_at dksX5_mapOnce_3 0 rfl rfl)
theorem dX5_mapOnce_73 : decode cX5_mapOnce 73 = .ok (.lload_n 3, 1) := dk_33 (dk_at dksX5_mapOnce_3 1 rfl rfl)
theorem dX5_mapOnce_74 : decode cX5_mapOnce 74 = .ok (.lmul, 1) := dk_105 (dk_at dksX5_mapOnce_3 2 rfl rfl)
theorem dX5_mapOnce_75 : decode cX5_mapOnce 75 = .ok (.ldc2_w 65, 3) := dk_20 0 65 (dk_at dksX5_mapOnce_3 3 rfl rfl)
theorem dX5_mapOnce_78 : decode cX5_mapOnce 78 = .ok (.invokestatic 67, 3) := dk_184 0 67 (dk_at dksX5_mapOnce_3 6 rfl rfl)
theorem dX5_mapOnce_81 : decode cX5_mapOnce 81 = .ok (.aload_n 0, 1) := dk_42 (dk_at dksX5_mapOnce_3 9 rfl rfl)
theorem dX5_mapOnce_82 : decode cX5_mapOnce 82 = .ok (.iconst 1, 1) := dk_4 (dk_at dksX5_mapOnce_3 10 rfl rfl)
theorem dX5_mapOnce_83 : decode cX5_mapOnce 83 = .ok (.iload_n 1, 1) := dk_27 (dk_at dksX5_mapOnce_3 11 rfl rfl)
theorem dX5_mapOnce_84 : decode cX5_mapOnce 84 = .ok (.invokevirtual 56, 3) := dk_182 0 56 (dk_at dksX5_mapOnce_3 12 rfl rfl)
theorem dX5_mapOnce_87 : decode cX5_mapOnce 87 = .ok (.i2l, 1) := dk_133 (dk_at dksX5_mapOnce_3 15 rfl rfl)
theorem dX5_mapOnce_88 : decode cX5_mapOnce 88 = .ok (.ladd, 1) := dk_97 (dk_at dksX5_mapOnce_3 16 rfl rfl)
theorem dX5_mapOnce_89 : decode cX5_mapOnce 89 = .ok (.lastore, 1) := dk_80 (dk_at dksX5_mapOnce_3 17 rfl rfl)
theorem dX5_mapOnce_90 : decode cX5_mapOnce 90 = .ok (.return_, 1) := dk_177 (dk_at dksX5_mapOnce_3 18 rfl rfl)
abbrev cX5_shows : ByteArray := prog_12_method_6_code
def yX5_shows : MethodName := ⟨RX5, "shows", "(I)Z"⟩
def dkwX5_shows_1 : List UInt8 := [4, 161, 0, 7, 4, 167, 0, 4, 3, 172]
abbrev dktX5_shows_1 : List UInt8 := dkwX5_shows_1 ++ []
def dkwX5_shows_0 : List UInt8 := [27, 42, 180, 0, 49, 42, 180, 0, 17, 4, 100, 184, 0, 52, 153, 0, 18, 42, 16, 7, 27, 182, 0, 56]
abbrev dktX5_shows_0 : List UInt8 := dkwX5_shows_0 ++ dktX5_shows_1
theorem dksX5_shows_0 : cX5_shows.data.toList.drop 0 = dktX5_shows_0 := by decide +kernel
theorem dksX5_shows_1 : cX5_shows.data.toList.drop 24 = dktX5_shows_1 := dk_seg dksX5_shows_0 24 rfl rfl
theorem dX5_shows_0 : decode cX5_shows 0 = .ok (.iload_n 1, 1) := dk_27 (dk_at dksX5_shows_0 0 rfl rfl)
theorem dX5_shows_1 : decode cX5_shows 1 = .ok (.aload_n 0, 1) := dk_42 (dk_at dksX5_shows_0 1 rfl rfl)
theorem dX5_shows_2 : decode cX5_shows 2 = .ok (.getfield 49, 3) := dk_180 0 49 (dk_at dksX5_shows_0 2 rfl rfl)
theorem dX5_shows_5 : decode cX5_shows 5 = .ok (.aload_n 0, 1) := dk_42 (dk_at dksX5_shows_0 5 rfl rfl)
theorem dX5_shows_6 : decode cX5_shows 6 = .ok (.getfield 17, 3) := dk_180 0 17 (dk_at dksX5_shows_0 6 rfl rfl)
theorem dX5_shows_9 : decode cX5_shows 9 = .ok (.iconst 1, 1) := dk_4 (dk_at dksX5_shows_0 9 rfl rfl)
theorem dX5_shows_10 : decode cX5_shows 10 = .ok (.isub, 1) := dk_100 (dk_at dksX5_shows_0 10 rfl rfl)
theorem dX5_shows_11 : decode cX5_shows 11 = .ok (.invokestatic 52, 3) := dk_184 0 52 (dk_at dksX5_shows_0 11 rfl rfl)
theorem dX5_shows_14 : decode cX5_shows 14 = .ok (.ifCond .eq 18, 3) := dk_153 0 18 (dk_at dksX5_shows_0 14 rfl rfl)
theorem dX5_shows_17 : decode cX5_shows 17 = .ok (.aload_n 0, 1) := dk_42 (dk_at dksX5_shows_0 17 rfl rfl)
theorem dX5_shows_18 : decode cX5_shows 18 = .ok (.bipush 7, 2) := dk_16 7 (dk_at dksX5_shows_0 18 rfl rfl)
theorem dX5_shows_20 : decode cX5_shows 20 = .ok (.iload_n 1, 1) := dk_27 (dk_at dksX5_shows_0 20 rfl rfl)
theorem dX5_shows_21 : decode cX5_shows 21 = .ok (.invokevirtual 56, 3) := dk_182 0 56 (dk_at dksX5_shows_0 21 rfl rfl)
theorem dX5_shows_24 : decode cX5_shows 24 = .ok (.iconst 1, 1) := dk_4 (dk_at dksX5_shows_1 0 rfl rfl)
theorem dX5_shows_25 : decode cX5_shows 25 = .ok (.if_icmp .lt 7, 3) := dk_161 0 7 (dk_at dksX5_shows_1 1 rfl rfl)
theorem dX5_shows_28 : decode cX5_shows 28 = .ok (.iconst 1, 1) := dk_4 (dk_at dksX5_shows_1 4 rfl rfl)
theorem dX5_shows_29 : decode cX5_shows 29 = .ok (.goto 4, 3) := dk_167 0 4 (dk_at dksX5_shows_1 5 rfl rfl)
theorem dX5_shows_32 : decode cX5_shows 32 = .ok (.iconst 0, 1) := dk_3 (dk_at dksX5_shows_1 8 rfl rfl)
theorem dX5_shows_33 : decode cX5_shows 33 = .ok (.ireturn, 1) := dk_172 (dk_at dksX5_shows_1 9 rfl rfl)
abbrev cX5_hasKeys : ByteArray := prog_12_method_5_code
def yX5_hasKeys : MethodName := ⟨RX5, "hasKeys", "(I)Z"⟩
def dkwX5_hasKeys_0 : List UInt8 := [42, 180, 0, 11, 27, 50, 180, 0, 35, 185, 0, 39, 1, 0, 154, 0, 7, 4, 167, 0, 4, 3, 172]
abbrev dktX5_hasKeys_0 : List UInt8 := dkwX5_hasKeys_0 ++ []
theorem dksX5_hasKeys_0 : cX5_hasKeys.data.toList.drop 0 = dktX5_hasKeys_0 := by decide +kernel
theorem dX5_hasKeys_0 : decode cX5_hasKeys 0 = .ok (.aload_n 0, 1) := dk_42 (dk_at dksX5_hasKeys_0 0 rfl rfl)
theorem dX5_hasKeys_1 : decode cX5_hasKeys 1 = .ok (.getfield 11, 3) := dk_180 0 11 (dk_at dksX5_hasKeys_0 1 rfl rfl)
theorem dX5_hasKeys_4 : decode cX5_hasKeys 4 = .ok (.iload_n 1, 1) := dk_27 (dk_at dksX5_hasKeys_0 4 rfl rfl)
theorem dX5_hasKeys_5 : decode cX5_hasKeys 5 = .ok (.aaload, 1) := dk_50 (dk_at dksX5_hasKeys_0 5 rfl rfl)
theorem dX5_hasKeys_6 : decode cX5_hasKeys 6 = .ok (.getfield 35, 3) := dk_180 0 35 (dk_at dksX5_hasKeys_0 6 rfl rfl)
theorem dX5_hasKeys_9 : decode cX5_hasKeys 9 = .ok (.invokeinterface 39 1, 5) := by decide +kernel
theorem dX5_hasKeys_14 : decode cX5_hasKeys 14 = .ok (.ifCond .ne 7, 3) := dk_154 0 7 (dk_at dksX5_hasKeys_0 14 rfl rfl)
theorem dX5_hasKeys_17 : decode cX5_hasKeys 17 = .ok (.iconst 1, 1) := dk_4 (dk_at dksX5_hasKeys_0 17 rfl rfl)
theorem dX5_hasKeys_18 : decode cX5_hasKeys 18 = .ok (.goto 4, 3) := dk_167 0 4 (dk_at dksX5_hasKeys_0 18 rfl rfl)
theorem dX5_hasKeys_21 : decode cX5_hasKeys 21 = .ok (.iconst 0, 1) := dk_3 (dk_at dksX5_hasKeys_0 21 rfl rfl)
theorem dX5_hasKeys_22 : decode cX5_hasKeys 22 = .ok (.ireturn, 1) := dk_172 (dk_at dksX5_hasKeys_0 22 rfl rfl)
abbrev cX5_draw : ByteArray := prog_12_method_3_code
def yX5_draw : MethodName := ⟨RX5, "draw", "(ILShapelayer$Outer;LShapelayer$Raster;)V"⟩
theorem dX5_draw_0 : decode cX5_draw 0 = .ok (.return_, 1) := by decide +kernel
abbrev cX5_tail : ByteArray := prog_12_method_13_code
def yX5_tail : MethodName := ⟨RX5, "tail", "()Ljava/lang/String;"⟩
def dkwX5_tail_3 : List UInt8 := [167, 0, 5, 18, 132, 182, 0, 105, 42, 180, 0, 123, 180, 0, 28, 182, 0, 111, 182, 0, 116, 176]
abbrev dktX5_tail_3 : List UInt8 := dkwX5_tail_3 ++ []
def dkwX5_tail_2 : List UInt8 := [167, 0, 44, 187, 0, 98, 89, 183, 0, 100, 43, 182, 0, 105, 42, 180, 0, 126, 153, 0, 8, 18, 130]
abbrev dktX5_tail_2 : List UInt8 := dkwX5_tail_2 ++ dktX5_tail_3
def dkwX5_tail_1 : List UInt8 := [42, 180, 0, 75, 180, 0, 28, 182, 0, 111, 182, 0, 116, 76, 42, 180, 0, 123, 199, 0, 7, 43]
abbrev dktX5_tail_1 : List UInt8 := dkwX5_tail_1 ++ dktX5_tail_2
def dkwX5_tail_0 : List UInt8 := [42, 180, 0, 75, 199, 0, 8, 18, 119, 167, 0, 28, 187, 0, 98, 89, 183, 0, 100, 18, 121, 182, 0, 105]
abbrev dktX5_tail_0 : List UInt8 := dkwX5_tail_0 ++ dktX5_tail_1
theorem dksX5_tail_0 : cX5_tail.data.toList.drop 0 = dktX5_tail_0 := by decide +kernel
theorem dksX5_tail_1 : cX5_tail.data.toList.drop 24 = dktX5_tail_1 := dk_seg dksX5_tail_0 24 rfl rfl
theorem dksX5_tail_2 : cX5_tail.data.toList.drop 46 = dktX5_tail_2 := dk_seg dksX5_tail_1 22 rfl rfl
theorem dksX5_tail_3 : cX5_tail.data.toList.drop 69 = dktX5_tail_3 := dk_seg dksX5_tail_2 23 rfl rfl
theorem dX5_tail_0 : decode cX5_tail 0 = .ok (.aload_n 0, 1) := dk_42 (dk_at dksX5_tail_0 0 rfl rfl)
theorem dX5_tail_1 : decode cX5_tail 1 = .ok (.getfield 75, 3) := dk_180 0 75 (dk_at dksX5_tail_0 1 rfl rfl)
theorem dX5_tail_4 : decode cX5_tail 4 = .ok (.ifnonnull 8, 3) := dk_199 0 8 (dk_at dksX5_tail_0 4 rfl rfl)
theorem dX5_tail_7 : decode cX5_tail 7 = .ok (.ldc 119, 2) := dk_18 119 (dk_at dksX5_tail_0 7 rfl rfl)
theorem dX5_tail_9 : decode cX5_tail 9 = .ok (.goto 28, 3) := dk_167 0 28 (dk_at dksX5_tail_0 9 rfl rfl)
theorem dX5_tail_12 : decode cX5_tail 12 = .ok (.new 98, 3) := dk_187 0 98 (dk_at dksX5_tail_0 12 rfl rfl)
theorem dX5_tail_15 : decode cX5_tail 15 = .ok (.dup, 1) := dk_89 (dk_at dksX5_tail_0 15 rfl rfl)
theorem dX5_tail_16 : decode cX5_tail 16 = .ok (.invokespecial 100, 3) := dk_183 0 100 (dk_at dksX5_tail_0 16 rfl rfl)
theorem dX5_tail_19 : decode cX5_tail 19 = .ok (.ldc 121, 2) := dk_18 121 (dk_at dksX5_tail_0 19 rfl rfl)
theorem dX5_tail_21 : decode cX5_tail 21 = .ok (.invokevirtual 105, 3) := dk_182 0 105 (dk_at dksX5_tail_0 21 rfl rfl)
theorem dX5_tail_24 : decode cX5_tail 24 = .ok (.aload_n 0, 1) := dk_42 (dk_at dksX5_tail_1 0 rfl rfl)
theorem dX5_tail_25 : decode cX5_tail 25 = .ok (.getfield 75, 3) := dk_180 0 75 (dk_at dksX5_tail_1 1 rfl rfl)
theorem dX5_tail_28 : decode cX5_tail 28 = .ok (.getfield 28, 3) := dk_180 0 28 (dk_at dksX5_tail_1 4 rfl rfl)
theorem dX5_tail_31 : decode cX5_tail 31 = .ok (.invokevirtual 111, 3) := dk_182 0 111 (dk_at dksX5_tail_1 7 rfl rfl)
theorem dX5_tail_34 : decode cX5_tail 34 = .ok (.invokevirtual 116, 3) := dk_182 0 116 (dk_at dksX5_tail_1 10 rfl rfl)
theorem dX5_tail_37 : decode cX5_tail 37 = .ok (.astore_n 1, 1) := dk_76 (dk_at dksX5_tail_1 13 rfl rfl)
theorem dX5_tail_38 : decode cX5_tail 38 = .ok (.aload_n 0, 1) := dk_42 (dk_at dksX5_tail_1 14 rfl rfl)
theorem dX5_tail_39 : decode cX5_tail 39 = .ok (.getfield 123, 3) := dk_180 0 123 (dk_at dksX5_tail_1 15 rfl rfl)
theorem dX5_tail_42 : decode cX5_tail 42 = .ok (.ifnonnull 7, 3) := dk_199 0 7 (dk_at dksX5_tail_1 18 rfl rfl)
theorem dX5_tail_45 : decode cX5_tail 45 = .ok (.aload_n 1, 1) := dk_43 (dk_at dksX5_tail_1 21 rfl rfl)
theorem dX5_tail_46 : decode cX5_tail 46 = .ok (.goto 44, 3) := dk_167 0 44 (dk_at dksX5_tail_2 0 rfl rfl)
theorem dX5_tail_49 : decode cX5_tail 49 = .ok (.new 98, 3) := dk_187 0 98 (dk_at dksX5_tail_2 3 rfl rfl)
theorem dX5_tail_52 : decode cX5_tail 52 = .ok (.dup, 1) := dk_89 (dk_at dksX5_tail_2 6 rfl rfl)
theorem dX5_tail_53 : decode cX5_tail 53 = .ok (.invokespecial 100, 3) := dk_183 0 100 (dk_at dksX5_tail_2 7 rfl rfl)
theorem dX5_tail_56 : decode cX5_tail 56 = .ok (.aload_n 1, 1) := dk_43 (dk_at dksX5_tail_2 10 rfl rfl)
theorem dX5_tail_57 : decode cX5_tail 57 = .ok (.invokevirtual 105, 3) := dk_182 0 105 (dk_at dksX5_tail_2 11 rfl rfl)
theorem dX5_tail_60 : decode cX5_tail 60 = .ok (.aload_n 0, 1) := dk_42 (dk_at dksX5_tail_2 14 rfl rfl)
theorem dX5_tail_61 : decode cX5_tail 61 = .ok (.getfield 126, 3) := dk_180 0 126 (dk_at dksX5_tail_2 15 rfl rfl)
theorem dX5_tail_64 : decode cX5_tail 64 = .ok (.ifCond .eq 8, 3) := dk_153 0 8 (dk_at dksX5_tail_2 18 rfl rfl)
theorem dX5_tail_67 : decode cX5_tail 67 = .ok (.ldc 130, 2) := dk_18 130 (dk_at dksX5_tail_2 21 rfl rfl)
theorem dX5_tail_69 : decode cX5_tail 69 = .ok (.goto 5, 3) := dk_167 0 5 (dk_at dksX5_tail_3 0 rfl rfl)
theorem dX5_tail_72 : decode cX5_tail 72 = .ok (.ldc 132, 2) := dk_18 132 (dk_at dksX5_tail_3 3 rfl rfl)
theorem dX5_tail_74 : decode cX5_tail 74 = .ok (.invokevirtual 105, 3) := dk_182 0 105 (dk_at dksX5_tail_3 5 rfl rfl)
theorem dX5_tail_77 : decode cX5_tail 77 = .ok (.aload_n 0, 1) := dk_42 (dk_at dksX5_tail_3 8 rfl rfl)
theorem dX5_tail_78 : decode cX5_tail 78 = .ok (.getfield 123, 3) := dk_180 0 123 (dk_at dksX5_tail_3 9 rfl rfl)
theorem dX5_tail_81 : decode cX5_tail 81 = .ok (.getfield 28, 3) := dk_180 0 28 (dk_at dksX5_tail_3 12 rfl rfl)
theorem dX5_tail_84 : decode cX5_tail 84 = .ok (.invokevirtual 111, 3) := dk_182 0 111 (dk_at dksX5_tail_3 15 rfl rfl)
theorem dX5_tail_87 : decode cX5_tail 87 = .ok (.invokevirtual 116, 3) := dk_182 0 116 (dk_at dksX5_tail_3 18 rfl rfl)
theorem dX5_tail_90 : decode cX5_tail 90 = .ok (.areturn, 1) := dk_176 (dk_at dksX5_tail_3 21 rfl rfl)
abbrev cX5_toString : ByteArray := prog_12_method_12_code
def yX5_toString : MethodName := ⟨RX5, "toString", "()Ljava/lang/String;"⟩
def dkwX5_toString_1 : List UInt8 := [182, 0, 111, 18, 114, 182, 0, 105, 42, 180, 0, 17, 4, 100, 182, 0, 111, 182, 0, 116, 176]
abbrev dktX5_toString_1 : List UInt8 := dkwX5_toString_1 ++ []
def dkwX5_toString_0 : List UInt8 := [187, 0, 98, 89, 183, 0, 100, 42, 182, 0, 101, 182, 0, 105, 18, 109, 182, 0, 105, 42, 180, 0, 49]
abbrev dktX5_toString_0 : List UInt8 := dkwX5_toString_0 ++ dktX5_toString_1
theorem dksX5_toString_0 : cX5_toString.data.toList.drop 0 = dktX5_toString_0 := by decide +kernel
theorem dksX5_toString_1 : cX5_toString.data.toList.drop 23 = dktX5_toString_1 := dk_seg dksX5_toString_0 23 rfl rfl
theorem dX5_toString_0 : decode cX5_toString 0 = .ok (.new 98, 3) := dk_187 0 98 (dk_at dksX5_toString_0 0 rfl rfl)
theorem dX5_toString_3 : decode cX5_toString 3 = .ok (.dup, 1) := dk_89 (dk_at dksX5_toString_0 3 rfl rfl)
theorem dX5_toString_4 : decode cX5_toString 4 = .ok (.invokespecial 100, 3) := dk_183 0 100 (dk_at dksX5_toString_0 4 rfl rfl)
theorem dX5_toString_7 : decode cX5_toString 7 = .ok (.aload_n 0, 1) := dk_42 (dk_at dksX5_toString_0 7 rfl rfl)
theorem dX5_toString_8 : decode cX5_toString 8 = .ok (.invokevirtual 101, 3) := dk_182 0 101 (dk_at dksX5_toString_0 8 rfl rfl)
theorem dX5_toString_11 : decode cX5_toString 11 = .ok (.invokevirtual 105, 3) := dk_182 0 105 (dk_at dksX5_toString_0 11 rfl rfl)
theorem dX5_toString_14 : decode cX5_toString 14 = .ok (.ldc 109, 2) := dk_18 109 (dk_at dksX5_toString_0 14 rfl rfl)
theorem dX5_toString_16 : decode cX5_toString 16 = .ok (.invokevirtual 105, 3) := dk_182 0 105 (dk_at dksX5_toString_0 16 rfl rfl)
theorem dX5_toString_19 : decode cX5_toString 19 = .ok (.aload_n 0, 1) := dk_42 (dk_at dksX5_toString_0 19 rfl rfl)
theorem dX5_toString_20 : decode cX5_toString 20 = .ok (.getfield 49, 3) := dk_180 0 49 (dk_at dksX5_toString_0 20 rfl rfl)
theorem dX5_toString_23 : decode cX5_toString 23 = .ok (.invokevirtual 111, 3) := dk_182 0 111 (dk_at dksX5_toString_1 0 rfl rfl)
theorem dX5_toString_26 : decode cX5_toString 26 = .ok (.ldc 114, 2) := dk_18 114 (dk_at dksX5_toString_1 3 rfl rfl)
theorem dX5_toString_28 : decode cX5_toString 28 = .ok (.invokevirtual 105, 3) := dk_182 0 105 (dk_at dksX5_toString_1 5 rfl rfl)
theorem dX5_toString_31 : decode cX5_toString 31 = .ok (.aload_n 0, 1) := dk_42 (dk_at dksX5_toString_1 8 rfl rfl)
theorem dX5_toString_32 : decode cX5_toString 32 = .ok (.getfield 17, 3) := dk_180 0 17 (dk_at dksX5_toString_1 9 rfl rfl)
theorem dX5_toString_35 : decode cX5_toString 35 = .ok (.iconst 1, 1) := dk_4 (dk_at dksX5_toString_1 12 rfl rfl)
theorem dX5_toString_36 : decode cX5_toString 36 = .ok (.isub, 1) := dk_100 (dk_at dksX5_toString_1 13 rfl rfl)
theorem dX5_toString_37 : decode cX5_toString 37 = .ok (.invokevirtual 111, 3) := dk_182 0 111 (dk_at dksX5_toString_1 14 rfl rfl)
theorem dX5_toString_40 : decode cX5_toString 40 = .ok (.invokevirtual 116, 3) := dk_182 0 116 (dk_at dksX5_toString_1 17 rfl rfl)
theorem dX5_toString_43 : decode cX5_toString 43 = .ok (.areturn, 1) := dk_176 (dk_at dksX5_toString_1 20 rfl rfl)
theorem q87 : (Jvm.Cond.initialized "Shapelayer$Layer") ∈ lw_all := lw_g (lw_at lw_m1 29 rfl) rfl
theorem q616 : (Jvm.Cond.instanceMethod ({ cls := "Shapelayer$Layer", name := "keys", desc := "()I" } : Jvm.MethodName)) ∈ lw_all := lw_g (lw_at lw_m3 78 rfl) rfl
theorem q617 : (Jvm.Cond.sameMethod "Shapelayer$Layer" "Shapelayer$Layer" "keys" "()I") ∈ lw_all := lw_g (lw_at lw_m3 79 rfl) rfl
theorem q622 : (Jvm.Cond.code ({ cls := "Shapelayer$Layer", name := "keys", desc := "()I" } : Jvm.MethodName) prog_12_method_11_code (6 : Nat) (Option.some Jvm.ClassFile.FieldType.int)) ∈ lw_all := lw_g (lw_at lw_m3 84 rfl) rfl
theorem q623 : (Jvm.Cond.interfaceEntry "Shapelayer$Layer" (94 : Nat)) ∈ lw_tbl := lw_at lw_m3 85 rfl
theorem q624 : (Jvm.Cond.methodLink "Shapelayer$Layer" (94 : Nat) ({ cls := "java/util/List", name := "size", desc := "()I" } : Jvm.MethodName)) ∈ lw_all := lw_g (lw_at lw_m3 86 rfl) rfl
theorem q804 : (Jvm.Cond.instanceMethod ({ cls := "Shapelayer$Layer", name := "<init>", desc := "(ILShapelayer$Composition;)V" } : Jvm.MethodName)) ∈ lw_all := lw_g (lw_at lw_m4 26 rfl) rfl
theorem q805 : (Jvm.Cond.code ({ cls := "Shapelayer$Layer", name := "<init>", desc := "(ILShapelayer$Composition;)V" } : Jvm.MethodName) prog_12_method_1_code (4 : Nat) (Option.none : Option Jvm.ClassFile.FieldType)) ∈ lw_all := lw_g (lw_at lw_m4 27 rfl) rfl
theorem q806 : (Jvm.Cond.methodLink "Shapelayer$Layer" (3 : Nat) ({ cls := "java/lang/Object", name := "<init>", desc := "()V" } : Jvm.MethodName)) ∈ lw_all := lw_g (lw_at lw_m4 28 rfl) rfl
theorem q807 : (Jvm.Cond.classLink "Shapelayer$Layer" (9 : Nat) "Shapelayer$Keyed") ∈ lw_all := lw_g (lw_at lw_m4 29 rfl) rfl
theorem q810 : (Jvm.Cond.fieldLinkNest "Shapelayer$Layer" (21 : Nat) "Shapelayer" "FIRST" "[I" "Shapelayer") ∈ lw_tbl := lw_at lw_m4 32 rfl
theorem q812 : (Jvm.Cond.methodLink "Shapelayer$Layer" (25 : Nat) ({ cls := "Shapelayer$Keyed", name := "<init>", desc := "(I)V" } : Jvm.MethodName)) ∈ lw_all := lw_g (lw_at lw_m4 34 rfl) rfl
theorem q820 : (Jvm.Cond.fieldLinkNest "Shapelayer$Layer" (35 : Nat) "Shapelayer$Keyed" "keys" "Ljava/util/List;" "Shapelayer") ∈ lw_tbl := lw_at lw_m4 42 rfl
theorem q835 : (Jvm.Cond.fieldLink "Shapelayer$Layer" (28 : Nat) "Shapelayer$Layer" "number" "I") ∈ lw_all := lw_g (lw_at lw_m4 57 rfl) rfl
theorem q837 : (Jvm.Cond.fieldLink "Shapelayer$Layer" (31 : Nat) "Shapelayer$Layer" "owner" "LShapelayer$Composition;") ∈ lw_all := lw_g (lw_at lw_m4 59 rfl) rfl
theorem q839 : (Jvm.Cond.fieldLink "Shapelayer$Layer" (11 : Nat) "Shapelayer$Layer" "values" "[LShapelayer$Keyed;") ∈ lw_all := lw_g (lw_at lw_m4 61 rfl) rfl
theorem q841 : (Jvm.Cond.fieldLink "Shapelayer$Layer" (75 : Nat) "Shapelayer$Layer" "parent" "LShapelayer$Layer;") ∈ lw_all := lw_g (lw_at lw_m4 63 rfl) rfl
theorem q844 : (Jvm.Cond.fieldLink "Shapelayer$Layer" (123 : Nat) "Shapelayer$Layer" "matte" "LShapelayer$Layer;") ∈ lw_all := lw_g (lw_at lw_m4 66 rfl) rfl
theorem q847 : (Jvm.Cond.fieldLink "Shapelayer$Layer" (126 : Nat) "Shapelayer$Layer" "isInverted" "Z") ∈ lw_all := lw_g (lw_at lw_m4 69 rfl) rfl
theorem q851 : (Jvm.Cond.fieldLink "Shapelayer$Layer" (49 : Nat) "Shapelayer$Layer" "from" "I") ∈ lw_all := lw_g (lw_at lw_m4 73 rfl) rfl
theorem q853 : (Jvm.Cond.fieldLink "Shapelayer$Layer" (17 : Nat) "Shapelayer$Layer" "end" "I") ∈ lw_all := lw_g (lw_at lw_m4 75 rfl) rfl
theorem q862 : (Jvm.Cond.soleField "Shapelayer$Layer" "number") ∈ lw_all := lw_g (lw_at lw_m4 84 rfl) rfl
theorem q864 : (Jvm.Cond.soleField "Shapelayer$Layer" "owner") ∈ lw_all := lw_g (lw_at lw_m4 86 rfl) rfl
theorem q866 : (Jvm.Cond.soleField "Shapelayer$Layer" "values") ∈ lw_all := lw_g (lw_at lw_m4 88 rfl) rfl
theorem q868 : (Jvm.Cond.soleField "Shapelayer$Layer" "parent") ∈ lw_all := lw_g (lw_at lw_m4 90 rfl) rfl
theorem q870 : (Jvm.Cond.soleField "Shapelayer$Layer" "matte") ∈ lw_all := lw_g (lw_at lw_m4 92 rfl) rfl
theorem q872 : (Jvm.Cond.soleField "Shapelayer$Layer" "isInverted") ∈ lw_all := lw_g (lw_at lw_m4 94 rfl) rfl
theorem q874 : (Jvm.Cond.soleField "Shapelayer$Layer" "from") ∈ lw_all := lw_g (lw_at lw_m4 96 rfl) rfl
theorem q876 : (Jvm.Cond.soleField "Shapelayer$Layer" "end") ∈ lw_all := lw_g (lw_at lw_m4 98 rfl) rfl
theorem q1193 : (Jvm.Cond.instanceMethod ({ cls := "Shapelayer$Layer", name := "isOn", desc := "(LShapelayer$Layer;)Z" } : Jvm.MethodName)) ∈ lw_all := lw_g (lw_at lw_m5 175 rfl) rfl
theorem q1194 : (Jvm.Cond.sameMethod "Shapelayer$Layer" "Shapelayer$Layer" "isOn" "(LShapelayer$Layer;)Z") ∈ lw_all := lw_g (lw_at lw_m5 176 rfl) rfl
theorem q1199 : (Jvm.Cond.code ({ cls := "Shapelayer$Layer", name := "isOn", desc := "(LShapelayer$Layer;)Z" } : Jvm.MethodName) prog_12_method_10_code (3 : Nat) (Option.some Jvm.ClassFile.FieldType.boolean)) ∈ lw_all := lw_g (lw_at lw_m5 181 rfl) rfl
theorem q1309 : (Jvm.Cond.instanceMethod ({ cls := "Shapelayer$Layer", name := "value", desc := "(II)I" } : Jvm.MethodName)) ∈ lw_all := lw_g (lw_at lw_m6 51 rfl) rfl
theorem q1310 : (Jvm.Cond.sameMethod "Shapelayer$Layer" "Shapelayer$Layer" "value" "(II)I") ∈ lw_all := lw_g (lw_at lw_m6 52 rfl) rfl
theorem q1315 : (Jvm.Cond.code ({ cls := "Shapelayer$Layer", name := "value", desc := "(II)I" } : Jvm.MethodName) prog_12_method_4_code (3 : Nat) (Option.some Jvm.ClassFile.FieldType.int)) ∈ lw_all := lw_g (lw_at lw_m6 57 rfl) rfl
theorem q1316 : (Jvm.Cond.interfaceEntry "Shapelayer$Layer" (39 : Nat)) ∈ lw_tbl := lw_at lw_m6 58 rfl
theorem q1317 : (Jvm.Cond.methodLink "Shapelayer$Layer" (39 : Nat) ({ cls := "java/util/List", name := "isEmpty", desc := "()Z" } : Jvm.MethodName)) ∈ lw_all := lw_g (lw_at lw_m6 59 rfl) rfl
theorem q1318 : (Jvm.Cond.methodLink "Shapelayer$Layer" (45 : Nat) ({ cls := "Shapelayer$Keyed", name := "at", desc := "(I)I" } : Jvm.MethodName)) ∈ lw_all := lw_g (lw_at lw_m6 60 rfl) rfl
theorem q1371 : (Jvm.Cond.instanceMethod ({ cls := "Shapelayer$Layer", name := "map", desc := "(ILShapelayer$Outer;JJ[J)V" } : Jvm.MethodName)) ∈ lw_all := lw_g (lw_at lw_m6 113 rfl) rfl
theorem q1372 : (Jvm.Cond.sameMethod "Shapelayer$Layer" "Shapelayer$Layer" "map" "(ILShapelayer$Outer;JJ[J)V") ∈ lw_all := lw_g (lw_at lw_m6 114 rfl) rfl
theorem q1377 : (Jvm.Cond.code ({ cls := "Shapelayer$Layer", name := "map", desc := "(ILShapelayer$Outer;JJ[J)V" } : Jvm.MethodName) prog_12_method_9_code (9 : Nat) (Option.none : Option Jvm.ClassFile.FieldType)) ∈ lw_all := lw_g (lw_at lw_m6 119 rfl) rfl
theorem q1378 : (Jvm.Cond.methodLink "Shapelayer$Layer" (79 : Nat) ({ cls := "Shapelayer$Layer", name := "map", desc := "(I[J)V" } : Jvm.MethodName)) ∈ lw_all := lw_g (lw_at lw_m6 120 rfl) rfl
theorem q1379 : (Jvm.Cond.instanceMethod ({ cls := "Shapelayer$Layer", name := "map", desc := "(I[J)V" } : Jvm.MethodName)) ∈ lw_all := lw_g (lw_at lw_m6 121 rfl) rfl
theorem q1380 : (Jvm.Cond.sameMethod "Shapelayer$Layer" "Shapelayer$Layer" "map" "(I[J)V") ∈ lw_all := lw_g (lw_at lw_m6 122 rfl) rfl
theorem q1385 : (Jvm.Cond.code ({ cls := "Shapelayer$Layer", name := "map", desc := "(I[J)V" } : Jvm.MethodName) prog_12_method_8_code (4 : Nat) (Option.none : Option Jvm.ClassFile.FieldType)) ∈ lw_all := lw_g (lw_at lw_m6 127 rfl) rfl
theorem q1386 : (Jvm.Cond.methodLink "Shapelayer$Layer" (71 : Nat) ({ cls := "Shapelayer$Layer", name := "mapOnce", desc := "(I[J)V" } : Jvm.MethodName)) ∈ lw_all := lw_g (lw_at lw_m6 128 rfl) rfl
theorem q1387 : (Jvm.Cond.privateMethod ({ cls := "Shapelayer$Layer", name := "mapOnce", desc := "(I[J)V" } : Jvm.MethodName)) ∈ lw_tbl := lw_at lw_m6 129 rfl
theorem q1388 : (Jvm.Cond.instanceMethod ({ cls := "Shapelayer$Layer", name := "mapOnce", desc := "(I[J)V" } : Jvm.MethodName)) ∈ lw_all := lw_g (lw_at lw_m6 130 rfl) rfl
theorem q1389 : (Jvm.Cond.code ({ cls := "Shapelayer$Layer", name := "mapOnce", desc := "(I[J)V" } : Jvm.MethodName) prog_12_method_7_code (6 : Nat) (Option.none : Option Jvm.ClassFile.FieldType)) ∈ lw_all := lw_g (lw_at lw_m6 131 rfl) rfl
theorem q1390 : (Jvm.Cond.methodLink "Shapelayer$Layer" (56 : Nat) ({ cls := "Shapelayer$Layer", name := "value", desc := "(II)I" } : Jvm.MethodName)) ∈ lw_all := lw_g (lw_at lw_m6 132 rfl) rfl
theorem q1391 : (Jvm.Cond.methodLink "Shapelayer$Layer" (60 : Nat) ({ cls := "java/lang/Math", name := "floorMod", desc := "(II)I" } : Jvm.MethodName)) ∈ lw_all := lw_g (lw_at lw_m6 133 rfl) rfl
theorem q1394 : (Jvm.Cond.constantLong "Shapelayer$Layer" (65 : Nat) (1000 : Int64)) ∈ lw_all := lw_g (lw_at lw_m6 136 rfl) rfl
theorem q1395 : (Jvm.Cond.methodLink "Shapelayer$Layer" (67 : Nat) ({ cls := "java/lang/Math", name := "floorDiv", desc := "(JJ)J" } : Jvm.MethodName)) ∈ lw_all := lw_g (lw_at lw_m6 137 rfl) rfl
theorem q1413 : (Jvm.Cond.declares ({ cls := "Shapelayer$Layer", name := "value", desc := "(II)I" } : Jvm.MethodName)) ∈ lw_tbl := lw_at lw_m6 155 rfl
theorem q1456 : (Jvm.Cond.instanceMethod ({ cls := "Shapelayer$Layer", name := "shows", desc := "(I)Z" } : Jvm.MethodName)) ∈ lw_all := lw_g (lw_at lw_m6 198 rfl) rfl
theorem q1457 : (Jvm.Cond.sameMethod "Shapelayer$Layer" "Shapelayer$Layer" "shows" "(I)Z") ∈ lw_all := lw_g (lw_at lw_m6 199 rfl) rfl
theorem q1462 : (Jvm.Cond.code ({ cls := "Shapelayer$Layer", name := "shows", desc := "(I)Z" } : Jvm.MethodName) prog_12_method_6_code (2 : Nat) (Option.some Jvm.ClassFile.FieldType.boolean)) ∈ lw_all := lw_g (lw_at lw_m6 204 rfl) rfl
theorem q1463 : (Jvm.Cond.methodLinkNest "Shapelayer$Layer" (52 : Nat) ({ cls := "Shapelayer", name := "isBetween", desc := "(III)Z" } : Jvm.MethodName) "Shapelayer") ∈ lw_tbl := lw_at lw_m6 205 rfl
theorem q1465 : (Jvm.Cond.instanceMethod ({ cls := "Shapelayer$Layer", name := "draw", desc := "(ILShapelayer$Outer;LShapelayer$Raster;)V" } : Jvm.MethodName)) ∈ lw_all := lw_g (lw_at lw_m6 207 rfl) rfl
theorem q1466 : (Jvm.Cond.sameMethod "Shapelayer$Layer" "Shapelayer$Layer" "draw" "(ILShapelayer$Outer;LShapelayer$Raster;)V") ∈ lw_all := lw_g (lw_at lw_m6 208 rfl) rfl
theorem q1472 : (Jvm.Cond.declares ({ cls := "Shapelayer$Layer", name := "hasKeys", desc := "(I)Z" } : Jvm.MethodName)) ∈ lw_tbl := lw_at lw_m6 214 rfl
theorem q1474 : (Jvm.Cond.instanceMethod ({ cls := "Shapelayer$Layer", name := "hasKeys", desc := "(I)Z" } : Jvm.MethodName)) ∈ lw_all := lw_g (lw_at lw_m6 216 rfl) rfl
theorem q1475 : (Jvm.Cond.code ({ cls := "Shapelayer$Layer", name := "hasKeys", desc := "(I)Z" } : Jvm.MethodName) prog_12_method_5_code (2 : Nat) (Option.some Jvm.ClassFile.FieldType.boolean)) ∈ lw_all := lw_g (lw_at lw_m6 217 rfl) rfl
theorem q1488 : (Jvm.Cond.fieldLinkNest "Shapelayer$Layer" (82 : Nat) "Shapelayer$Outer" "layer" "LShapelayer$Layer;" "Shapelayer") ∈ lw_tbl := lw_at lw_m6 230 rfl
theorem q1490 : (Jvm.Cond.fieldLinkNest "Shapelayer$Layer" (87 : Nat) "Shapelayer$Outer" "time" "I" "Shapelayer") ∈ lw_tbl := lw_at lw_m6 232 rfl
theorem q1492 : (Jvm.Cond.fieldLinkNest "Shapelayer$Layer" (90 : Nat) "Shapelayer$Outer" "next" "LShapelayer$Outer;" "Shapelayer") ∈ lw_tbl := lw_at lw_m6 234 rfl
theorem q1507 : (Jvm.Cond.declares ({ cls := "Shapelayer$Layer", name := "map", desc := "(ILShapelayer$Outer;JJ[J)V" } : Jvm.MethodName)) ∈ lw_tbl := lw_at lw_m7 9 rfl
theorem q1547 : (Jvm.Cond.code ({ cls := "Shapelayer$Layer", name := "draw", desc := "(ILShapelayer$Outer;LShapelayer$Raster;)V" } : Jvm.MethodName) prog_12_method_3_code (4 : Nat) (Option.none : Option Jvm.ClassFile.FieldType)) ∈ lw_all := lw_g (lw_at lw_m7 49 rfl) rfl
theorem q1684 : (Jvm.Cond.instanceMethod ({ cls := "Shapelayer$Layer", name := "tail", desc := "()Ljava/lang/String;" } : Jvm.MethodName)) ∈ lw_all := lw_g (lw_at lw_m7 186 rfl) rfl
theorem q1685 : (Jvm.Cond.sameMethod "Shapelayer$Layer" "Shapelayer$Layer" "tail" "()Ljava/lang/String;") ∈ lw_all := lw_g (lw_at lw_m7 187 rfl) rfl
theorem q1690 : (Jvm.Cond.code ({ cls := "Shapelayer$Layer", name := "tail", desc := "()Ljava/lang/String;" } : Jvm.MethodName) prog_12_method_13_code (2 : Nat) (Option.some (Jvm.ClassFile.FieldType.object "java/lang/String"))) ∈ lw_all := lw_g (lw_at lw_m7 192 rfl) rfl
theorem q1691 : (Jvm.Cond.stringRef "Shapelayer$Layer" (119 : Nat) "") ∈ lw_tbl := lw_at lw_m7 193 rfl
theorem q1692 : (Jvm.Cond.classLink "Shapelayer$Layer" (98 : Nat) "java/lang/StringBuilder") ∈ lw_all := lw_g (lw_at lw_m7 194 rfl) rfl
theorem q1693 : (Jvm.Cond.methodLink "Shapelayer$Layer" (100 : Nat) ({ cls := "java/lang/StringBuilder", name := "<init>", desc := "()V" } : Jvm.MethodName)) ∈ lw_all := lw_g (lw_at lw_m7 195 rfl) rfl
theorem q1694 : (Jvm.Cond.stringRef "Shapelayer$Layer" (121 : Nat) " in ") ∈ lw_tbl := lw_at lw_m7 196 rfl
theorem q1695 : (Jvm.Cond.methodLink "Shapelayer$Layer" (105 : Nat) ({ cls := "java/lang/StringBuilder", name := "append", desc := "(Ljava/lang/String;)Ljava/lang/StringBuilder;" } : Jvm.MethodName)) ∈ lw_all := lw_g (lw_at lw_m7 197 rfl) rfl
theorem q1696 : (Jvm.Cond.methodLink "Shapelayer$Layer" (111 : Nat) ({ cls := "java/lang/StringBuilder", name := "append", desc := "(I)Ljava/lang/StringBuilder;" } : Jvm.MethodName)) ∈ lw_all := lw_g (lw_at lw_m7 198 rfl) rfl
theorem q1697 : (Jvm.Cond.methodLink "Shapelayer$Layer" (116 : Nat) ({ cls := "java/lang/StringBuilder", name := "toString", desc := "()Ljava/lang/String;" } : Jvm.MethodName)) ∈ lw_all := lw_g (lw_at lw_m7 199 rfl) rfl
theorem q1698 : (Jvm.Cond.stringRef "Shapelayer$Layer" (130 : Nat) " not by ") ∈ lw_tbl := lw_at lw_m7 200 rfl
theorem q1699 : (Jvm.Cond.stringRef "Shapelayer$Layer" (132 : Nat) " by ") ∈ lw_tbl := lw_at lw_m7 201 rfl
theorem q1702 : (Jvm.Cond.instanceMethod ({ cls := "Shapelayer$Layer", name := "toString", desc := "()Ljava/lang/String;" } : Jvm.MethodName)) ∈ lw_all := lw_g (lw_at lw_m7 204 rfl) rfl
theorem q1703 : (Jvm.Cond.sameMethod "Shapelayer$Layer" "Shapelayer$Layer" "toString" "()Ljava/lang/String;") ∈ lw_all := lw_g (lw_at lw_m7 205 rfl) rfl
theorem q1710 : (Jvm.Cond.code ({ cls := "Shapelayer$Layer", name := "toString", desc := "()Ljava/lang/String;" } : Jvm.MethodName) prog_12_method_12_code (1 : Nat) (Option.some (Jvm.ClassFile.FieldType.object "java/lang/String"))) ∈ lw_all := lw_g (lw_at lw_m7 212 rfl) rfl
theorem q1711 : (Jvm.Cond.methodLink "Shapelayer$Layer" (101 : Nat) ({ cls := "Shapelayer$Layer", name := "word", desc := "()Ljava/lang/String;" } : Jvm.MethodName)) ∈ lw_all := lw_g (lw_at lw_m7 213 rfl) rfl
theorem q1712 : (Jvm.Cond.declares ({ cls := "Shapelayer$Layer", name := "word", desc := "()Ljava/lang/String;" } : Jvm.MethodName)) ∈ lw_tbl := lw_at lw_m7 214 rfl
theorem q1713 : (Jvm.Cond.sameMethod "Shapelayer$Layer" "Shapelayer$Layer" "word" "()Ljava/lang/String;") ∈ lw_all := lw_g (lw_at lw_m7 215 rfl) rfl
theorem q1730 : (Jvm.Cond.stringRef "Shapelayer$Layer" (109 : Nat) " ") ∈ lw_tbl := lw_at lw_m7 232 rfl
theorem q1731 : (Jvm.Cond.stringRef "Shapelayer$Layer" (114 : Nat) "-") ∈ lw_tbl := lw_at lw_m7 233 rfl
theorem q2213 : (Jvm.Cond.sameMethod "Shapelayer$Layer" "Shapelayer$Layer" "mapOnce" "(I[J)V") ∈ lw_all := lw_g (lw_at lw_m9 235 rfl) rfl
theorem q2225 : (Jvm.Cond.castable "Shapelayer$Layer" "java/lang/Object") ∈ lw_tbl := lw_at lw_m10 7 rfl

/-! Shapelayer$Coloured -/
set_option maxRecDepth 100000
def RX6 : String := "Shapelayer$Coloured"
abbrev cX6_init : ByteArray := prog_2_method_1_code
def yX6_init : MethodName := ⟨RX6, "<init>", "(ILShapelayer$Composition;I)V"⟩
def dkwX6_init_0 : List UInt8 := [42, 27, 44, 183, 0, 1, 42, 29, 181, 0, 7, 177]
abbrev dktX6_init_0 : List UInt8 := dkwX6_init_0 ++ []
theorem dksX6_init_0 : cX6_init.data.toList.drop 0 = dktX6_init_0 := by decide +kernel
theorem dX6_init_0 : decode cX6_init 0 = .ok (.aload_n 0, 1) := dk_42 (dk_at dksX6_init_0 0 rfl rfl)
theorem dX6_init_1 : decode cX6_init 1 = .ok (.iload_n 1, 1) := dk_27 (dk_at dksX6_init_0 1 rfl rfl)
theorem dX6_init_2 : decode cX6_init 2 = .ok (.aload_n 2, 1) := dk_44 (dk_at dksX6_init_0 2 rfl rfl)
theorem dX6_init_3 : decode cX6_init 3 = .ok (.invokespecial 1, 3) := dk_183 0 1 (dk_at dksX6_init_0 3 rfl rfl)
theorem dX6_init_6 : decode cX6_init 6 = .ok (.aload_n 0, 1) := dk_42 (dk_at dksX6_init_0 6 rfl rfl)
theorem dX6_init_7 : decode cX6_init 7 = .ok (.iload_n 3, 1) := dk_29 (dk_at dksX6_init_0 7 rfl rfl)
theorem dX6_init_8 : decode cX6_init 8 = .ok (.putfield 7, 3) := dk_181 0 7 (dk_at dksX6_init_0 8 rfl rfl)
theorem dX6_init_11 : decode cX6_init 11 = .ok (.return_, 1) := dk_177 (dk_at dksX6_init_0 11 rfl rfl)
abbrev cX6_toString : ByteArray := prog_2_method_2_code
def yX6_toString : MethodName := ⟨RX6, "toString", "()Ljava/lang/String;"⟩
def dkwX6_toString_1 : List UInt8 := [182, 0, 22, 182, 0, 31, 176]
abbrev dktX6_toString_1 : List UInt8 := dkwX6_toString_1 ++ []
def dkwX6_toString_0 : List UInt8 := [187, 0, 13, 89, 183, 0, 15, 42, 183, 0, 18, 182, 0, 22, 18, 26, 182, 0, 22, 42, 182, 0, 28]
abbrev dktX6_toString_0 : List UInt8 := dkwX6_toString_0 ++ dktX6_toString_1
theorem dksX6_toString_0 : cX6_toString.data.toList.drop 0 = dktX6_toString_0 := by decide +kernel
theorem dksX6_toString_1 : cX6_toString.data.toList.drop 23 = dktX6_toString_1 := dk_seg dksX6_toString_0 23 rfl rfl
theorem dX6_toString_0 : decode cX6_toString 0 = .ok (.new 13, 3) := dk_187 0 13 (dk_at dksX6_toString_0 0 rfl rfl)
theorem dX6_toString_3 : decode cX6_toString 3 = .ok (.dup, 1) := dk_89 (dk_at dksX6_toString_0 3 rfl rfl)
theorem dX6_toString_4 : decode cX6_toString 4 = .ok (.invokespecial 15, 3) := dk_183 0 15 (dk_at dksX6_toString_0 4 rfl rfl)
theorem dX6_toString_7 : decode cX6_toString 7 = .ok (.aload_n 0, 1) := dk_42 (dk_at dksX6_toString_0 7 rfl rfl)
theorem dX6_toString_8 : decode cX6_toString 8 = .ok (.invokespecial 18, 3) := dk_183 0 18 (dk_at dksX6_toString_0 8 rfl rfl)
theorem dX6_toString_11 : decode cX6_toString 11 = .ok (.invokevirtual 22, 3) := dk_182 0 22 (dk_at dksX6_toString_0 11 rfl rfl)
theorem dX6_toString_14 : decode cX6_toString 14 = .ok (.ldc 26, 2) := dk_18 26 (dk_at dksX6_toString_0 14 rfl rfl)
theorem dX6_toString_16 : decode cX6_toString 16 = .ok (.invokevirtual 22, 3) := dk_182 0 22 (dk_at dksX6_toString_0 16 rfl rfl)
theorem dX6_toString_19 : decode cX6_toString 19 = .ok (.aload_n 0, 1) := dk_42 (dk_at dksX6_toString_0 19 rfl rfl)
theorem dX6_toString_20 : decode cX6_toString 20 = .ok (.invokevirtual 28, 3) := dk_182 0 28 (dk_at dksX6_toString_0 20 rfl rfl)
theorem dX6_toString_23 : decode cX6_toString 23 = .ok (.invokevirtual 22, 3) := dk_182 0 22 (dk_at dksX6_toString_1 0 rfl rfl)
theorem dX6_toString_26 : decode cX6_toString 26 = .ok (.invokevirtual 31, 3) := dk_182 0 31 (dk_at dksX6_toString_1 3 rfl rfl)
theorem dX6_toString_29 : decode cX6_toString 29 = .ok (.areturn, 1) := dk_176 (dk_at dksX6_toString_1 6 rfl rfl)
theorem q88 : (Jvm.Cond.initialized "Shapelayer$Coloured") ∈ lw_all := lw_g (lw_at lw_m1 30 rfl) rfl
theorem q801 : (Jvm.Cond.instanceMethod ({ cls := "Shapelayer$Coloured", name := "<init>", desc := "(ILShapelayer$Composition;I)V" } : Jvm.MethodName)) ∈ lw_all := lw_g (lw_at lw_m4 23 rfl) rfl
theorem q802 : (Jvm.Cond.code ({ cls := "Shapelayer$Coloured", name := "<init>", desc := "(ILShapelayer$Composition;I)V" } : Jvm.MethodName) prog_2_method_1_code (4 : Nat) (Option.none : Option Jvm.ClassFile.FieldType)) ∈ lw_all := lw_g (lw_at lw_m4 24 rfl) rfl
theorem q803 : (Jvm.Cond.methodLink "Shapelayer$Coloured" (1 : Nat) ({ cls := "Shapelayer$Layer", name := "<init>", desc := "(ILShapelayer$Composition;)V" } : Jvm.MethodName)) ∈ lw_all := lw_g (lw_at lw_m4 25 rfl) rfl
theorem q830 : (Jvm.Cond.fieldLink "Shapelayer$Coloured" (7 : Nat) "Shapelayer$Coloured" "colour" "I") ∈ lw_all := lw_g (lw_at lw_m4 52 rfl) rfl
theorem q860 : (Jvm.Cond.soleField "Shapelayer$Coloured" "colour") ∈ lw_all := lw_g (lw_at lw_m4 82 rfl) rfl
theorem q1738 : (Jvm.Cond.instanceMethod ({ cls := "Shapelayer$Coloured", name := "toString", desc := "()Ljava/lang/String;" } : Jvm.MethodName)) ∈ lw_all := lw_g (lw_at lw_m8 0 rfl) rfl
theorem q1739 : (Jvm.Cond.code ({ cls := "Shapelayer$Coloured", name := "toString", desc := "()Ljava/lang/String;" } : Jvm.MethodName) prog_2_method_2_code (1 : Nat) (Option.some (Jvm.ClassFile.FieldType.object "java/lang/String"))) ∈ lw_all := lw_g (lw_at lw_m8 1 rfl) rfl
theorem q1740 : (Jvm.Cond.classLink "Shapelayer$Coloured" (13 : Nat) "java/lang/StringBuilder") ∈ lw_all := lw_g (lw_at lw_m8 2 rfl) rfl
theorem q1741 : (Jvm.Cond.methodLink "Shapelayer$Coloured" (15 : Nat) ({ cls := "java/lang/StringBuilder", name := "<init>", desc := "()V" } : Jvm.MethodName)) ∈ lw_all := lw_g (lw_at lw_m8 3 rfl) rfl
theorem q1742 : (Jvm.Cond.methodLink "Shapelayer$Coloured" (18 : Nat) ({ cls := "Shapelayer$Layer", name := "toString", desc := "()Ljava/lang/String;" } : Jvm.MethodName)) ∈ lw_all := lw_g (lw_at lw_m8 4 rfl) rfl
theorem q1743 : (Jvm.Cond.superclass "Shapelayer$Coloured" "Shapelayer$Layer") ∈ lw_all := lw_g (lw_at lw_m8 5 rfl) rfl
theorem q1744 : (Jvm.Cond.methodLink "Shapelayer$Coloured" (22 : Nat) ({ cls := "java/lang/StringBuilder", name := "append", desc := "(Ljava/lang/String;)Ljava/lang/StringBuilder;" } : Jvm.MethodName)) ∈ lw_all := lw_g (lw_at lw_m8 6 rfl) rfl
theorem q1745 : (Jvm.Cond.stringRef "Shapelayer$Coloured" (26 : Nat) " ") ∈ lw_tbl := lw_at lw_m8 7 rfl
theorem q1746 : (Jvm.Cond.methodLink "Shapelayer$Coloured" (28 : Nat) ({ cls := "Shapelayer$Coloured", name := "size", desc := "()Ljava/lang/String;" } : Jvm.MethodName)) ∈ lw_all := lw_g (lw_at lw_m8 8 rfl) rfl
theorem q1747 : (Jvm.Cond.declares ({ cls := "Shapelayer$Coloured", name := "size", desc := "()Ljava/lang/String;" } : Jvm.MethodName)) ∈ lw_tbl := lw_at lw_m8 9 rfl
theorem q1748 : (Jvm.Cond.sameMethod "Shapelayer$Coloured" "Shapelayer$Coloured" "size" "()Ljava/lang/String;") ∈ lw_all := lw_g (lw_at lw_m8 10 rfl) rfl
theorem q1772 : (Jvm.Cond.methodLink "Shapelayer$Coloured" (31 : Nat) ({ cls := "java/lang/StringBuilder", name := "toString", desc := "()Ljava/lang/String;" } : Jvm.MethodName)) ∈ lw_all := lw_g (lw_at lw_m8 34 rfl) rfl

/-! Shapelayer$Rect -/
set_option maxRecDepth 100000
def RX7 : String := "Shapelayer$Rect"
def TX7 : u_T := fun k => match k with
  | 0 => ("Shapelayer$Layer", "number", "I", true)
  | 1 => ("Shapelayer$Layer", "owner", "LShapelayer$Composition;", true)
  | 2 => ("Shapelayer$Layer", "values", "[LShapelayer$Keyed;", true)
  | 3 => ("Shapelayer$Layer", "parent", "LShapelayer$Layer;", false)
  | 4 => ("Shapelayer$Layer", "matte", "LShapelayer$Layer;", false)
  | 5 => ("Shapelayer$Layer", "isInverted", "Z", false)
  | 6 => ("Shapelayer$Layer", "from", "I", false)
  | 7 => ("Shapelayer$Layer", "end", "I", false)
  | 8 => ("Shapelayer$Coloured", "colour", "I", true)
  | 9 => ("Shapelayer$Rect", "width", "I", true)
  | _ => ("Shapelayer$Rect", "height", "I", true)
def tyX7 : Nat → FieldType := fun k => match k with
  | 0 => .int
  | 1 => .object "Shapelayer$Composition"
  | 2 => .array (.object "Shapelayer$Keyed")
  | 3 => .object "Shapelayer$Layer"
  | 4 => .object "Shapelayer$Layer"
  | 5 => .boolean
  | 6 => .int
  | 7 => .int
  | 8 => .int
  | 9 => .int
  | _ => .int
abbrev wsX70 : List Cond := u_ws RX7 TX7 11
theorem nmX7 : ∀ a, a < 11 → ∀ b, b < 11 → a ≠ b → (TX7 a).2.1 ≠ (TX7 b).2.1 := by decide +kernel
theorem tyX7_ok : ∀ k, k < 11 → parseFieldDescriptor (TX7 k).2.2.1 = some (tyX7 k) := by decide +kernel
abbrev cX7_init : ByteArray := prog_17_method_1_code
def yX7_init : MethodName := ⟨RX7, "<init>", "(ILShapelayer$Composition;I[I)V"⟩
def dkwX7_init_0 : List UInt8 := [42, 27, 44, 29, 183, 0, 3, 42, 25, 4, 3, 46, 181, 0, 9, 42, 25, 4, 4, 46, 181, 0, 15, 177]
abbrev dktX7_init_0 : List UInt8 := dkwX7_init_0 ++ []
theorem dksX7_init_0 : cX7_init.data.toList.drop 0 = dktX7_init_0 := by decide +kernel
theorem dX7_init_0 : decode cX7_init 0 = .ok (.aload_n 0, 1) := dk_42 (dk_at dksX7_init_0 0 rfl rfl)
theorem dX7_init_1 : decode cX7_init 1 = .ok (.iload_n 1, 1) := dk_27 (dk_at dksX7_init_0 1 rfl rfl)
theorem dX7_init_2 : decode cX7_init 2 = .ok (.aload_n 2, 1) := dk_44 (dk_at dksX7_init_0 2 rfl rfl)
theorem dX7_init_3 : decode cX7_init 3 = .ok (.iload_n 3, 1) := dk_29 (dk_at dksX7_init_0 3 rfl rfl)
theorem dX7_init_4 : decode cX7_init 4 = .ok (.invokespecial 3, 3) := dk_183 0 3 (dk_at dksX7_init_0 4 rfl rfl)
theorem dX7_init_7 : decode cX7_init 7 = .ok (.aload_n 0, 1) := dk_42 (dk_at dksX7_init_0 7 rfl rfl)
theorem dX7_init_8 : decode cX7_init 8 = .ok (.aload 4, 2) := dk_25 4 (dk_at dksX7_init_0 8 rfl rfl)
theorem dX7_init_10 : decode cX7_init 10 = .ok (.iconst 0, 1) := dk_3 (dk_at dksX7_init_0 10 rfl rfl)
theorem dX7_init_11 : decode cX7_init 11 = .ok (.iaload, 1) := dk_46 (dk_at dksX7_init_0 11 rfl rfl)
theorem dX7_init_12 : decode cX7_init 12 = .ok (.putfield 9, 3) := dk_181 0 9 (dk_at dksX7_init_0 12 rfl rfl)
theorem dX7_init_15 : decode cX7_init 15 = .ok (.aload_n 0, 1) := dk_42 (dk_at dksX7_init_0 15 rfl rfl)
theorem dX7_init_16 : decode cX7_init 16 = .ok (.aload 4, 2) := dk_25 4 (dk_at dksX7_init_0 16 rfl rfl)
theorem dX7_init_18 : decode cX7_init 18 = .ok (.iconst 1, 1) := dk_4 (dk_at dksX7_init_0 18 rfl rfl)
theorem dX7_init_19 : decode cX7_init 19 = .ok (.iaload, 1) := dk_46 (dk_at dksX7_init_0 19 rfl rfl)
theorem dX7_init_20 : decode cX7_init 20 = .ok (.putfield 15, 3) := dk_181 0 15 (dk_at dksX7_init_0 20 rfl rfl)
theorem dX7_init_23 : decode cX7_init 23 = .ok (.return_, 1) := dk_177 (dk_at dksX7_init_0 23 rfl rfl)
abbrev cX7_draw : ByteArray := prog_17_method_4_code
def yX7_draw : MethodName := ⟨RX7, "draw", "(ILShapelayer$Outer;LShapelayer$Raster;)V"⟩
def dkwX7_draw_5 : List UInt8 := [132, 6, 1, 167, 255, 186, 177]
abbrev dktX7_draw_5 : List UInt8 := dkwX7_draw_5 ++ []
def dkwX7_draw_4 : List UInt8 := [184, 0, 53, 153, 0, 15, 45, 21, 7, 21, 6, 42, 180, 0, 57, 182, 0, 60, 132, 7, 1, 167, 255, 202]
abbrev dktX7_draw_4 : List UInt8 := dkwX7_draw_4 ++ dktX7_draw_5
def dkwX7_draw_3 : List UInt8 := [3, 47, 25, 5, 3, 47, 184, 0, 53, 153, 0, 31, 21, 6, 25, 4, 4, 47, 25, 5, 4, 47]
abbrev dktX7_draw_3 : List UInt8 := dkwX7_draw_3 ++ dktX7_draw_4
def dkwX7_draw_2 : List UInt8 := [3, 54, 6, 21, 6, 16, 12, 162, 0, 69, 3, 54, 7, 21, 7, 16, 16, 162, 0, 53, 21, 7, 25, 4]
abbrev dktX7_draw_2 : List UInt8 := dkwX7_draw_2 ++ dktX7_draw_3
def dkwX7_draw_1 : List UInt8 := [44, 20, 0, 51, 42, 180, 0, 9, 133, 105, 20, 0, 51, 42, 180, 0, 15, 133, 105, 25, 5, 182, 0, 47]
abbrev dktX7_draw_1 : List UInt8 := dkwX7_draw_1 ++ dktX7_draw_2
def dkwX7_draw_0 : List UInt8 := [45, 180, 0, 38, 58, 4, 45, 180, 0, 44, 58, 5, 42, 27, 44, 9, 9, 25, 4, 182, 0, 47, 42, 27]
abbrev dktX7_draw_0 : List UInt8 := dkwX7_draw_0 ++ dktX7_draw_1
theorem dksX7_draw_0 : cX7_draw.data.toList.drop 0 = dktX7_draw_0 := by decide +kernel
theorem dksX7_draw_1 : cX7_draw.data.toList.drop 24 = dktX7_draw_1 := dk_seg dksX7_draw_0 24 rfl rfl
theorem dksX7_draw_2 : cX7_draw.data.toList.drop 48 = dktX7_draw_2 := dk_seg dksX7_draw_1 24 rfl rfl
theorem dksX7_draw_3 : cX7_draw.data.toList.drop 72 = dktX7_draw_3 := dk_seg dksX7_draw_2 24 rfl rfl
theorem dksX7_draw_4 : cX7_draw.data.toList.drop 94 = dktX7_draw_4 := dk_seg dksX7_draw_3 22 rfl rfl
theorem dksX7_draw_5 : cX7_draw.data.toList.drop 118 = dktX7_draw_5 := dk_seg dksX7_draw_4 24 rfl rfl
theorem dX7_draw_0 : decode cX7_draw 0 = .ok (.aload_n 3, 1) := dk_45 (dk_at dksX7_draw_0 0 rfl rfl)
theorem dX7_draw_1 : decode cX7_draw 1 = .ok (.getfield 38, 3) := dk_180 0 38 (dk_at dksX7_draw_0 1 rfl rfl)
theorem dX7_draw_4 : decode cX7_draw 4 = .ok (.astore 4, 2) := dk_58 4 (dk_at dksX7_draw_0 4 rfl rfl)
theorem dX7_draw_6 : decode cX7_draw 6 = .ok (.aload_n 3, 1) := dk_45 (dk_at dksX7_draw_0 6 rfl rfl)
theorem dX7_draw_7 : decode cX7_draw 7 = .ok (.getfield 44, 3) := dk_180 0 44 (dk_at dksX7_draw_0 7 rfl rfl)
theorem dX7_draw_10 : decode cX7_draw 10 = .ok (.astore 5, 2) := dk_58 5 (dk_at dksX7_draw_0 10 rfl rfl)
theorem dX7_draw_12 : decode cX7_draw 12 = .ok (.aload_n 0, 1) := dk_42 (dk_at dksX7_draw_0 12 rfl rfl)
theorem dX7_draw_13 : decode cX7_draw 13 = .ok (.iload_n 1, 1) := dk_27 (dk_at dksX7_draw_0 13 rfl rfl)
theorem dX7_draw_14 : decode cX7_draw 14 = .ok (.aload_n 2, 1) := dk_44 (dk_at dksX7_draw_0 14 rfl rfl)
theorem dX7_draw_15 : decode cX7_draw 15 = .ok (.lconst 0, 1) := dk_9 (dk_at dksX7_draw_0 15 rfl rfl)
theorem dX7_draw_16 : decode cX7_draw 16 = .ok (.lconst 0, 1) := dk_9 (dk_at dksX7_draw_0 16 rfl rfl)
theorem dX7_draw_17 : decode cX7_draw 17 = .ok (.aload 4, 2) := dk_25 4 (dk_at dksX7_draw_0 17 rfl rfl)
theorem dX7_draw_19 : decode cX7_draw 19 = .ok (.invokevirtual 47, 3) := dk_182 0 47 (dk_at dksX7_draw_0 19 rfl rfl)
theorem dX7_draw_22 : decode cX7_draw 22 = .ok (.aload_n 0, 1) := dk_42 (dk_at dksX7_draw_0 22 rfl rfl)
theorem dX7_draw_23 : decode cX7_draw 23 = .ok (.iload_n 1, 1) := dk_27 (dk_at dksX7_draw_0 23 rfl rfl)
theorem dX7_draw_24 : decode cX7_draw 24 = .ok (.aload_n 2, 1) := dk_44 (dk_at dksX7_draw_1 0 rfl rfl)
theorem dX7_draw_25 : decode cX7_draw 25 = .ok (.ldc2_w 51, 3) := dk_20 0 51 (dk_at dksX7_draw_1 1 rfl rfl)
theorem dX7_draw_28 : decode cX7_draw 28 = .ok (.aload_n 0, 1) := dk_42 (dk_at dksX7_draw_1 4 rfl rfl)
theorem dX7_draw_29 : decode cX7_draw 29 = .ok (.getfield 9, 3) := dk_180 0 9 (dk_at dksX7_draw_1 5 rfl rfl)
theorem dX7_draw_32 : decode cX7_draw 32 = .ok (.i2l, 1) := dk_133 (dk_at dksX7_draw_1 8 rfl rfl)
theorem dX7_draw_33 : decode cX7_draw 33 = .ok (.lmul, 1) := dk_105 (dk_at dksX7_draw_1 9 rfl rfl)
theorem dX7_draw_34 : decode cX7_draw 34 = .ok (.ldc2_w 51, 3) := dk_20 0 51 (dk_at dksX7_draw_1 10 rfl rfl)
theorem dX7_draw_37 : decode cX7_draw 37 = .ok (.aload_n 0, 1) := dk_42 (dk_at dksX7_draw_1 13 rfl rfl)
theorem dX7_draw_38 : decode cX7_draw 38 = .ok (.getfield 15, 3) := dk_180 0 15 (dk_at dksX7_draw_1 14 rfl rfl)
theorem dX7_draw_41 : decode cX7_draw 41 = .ok (.i2l, 1) := dk_133 (dk_at dksX7_draw_1 17 rfl rfl)
theorem dX7_draw_42 : decode cX7_draw 42 = .ok (.lmul, 1) := dk_105 (dk_at dksX7_draw_1 18 rfl rfl)
theorem dX7_draw_43 : decode cX7_draw 43 = .ok (.aload 5, 2) := dk_25 5 (dk_at dksX7_draw_1 19 rfl rfl)
theorem dX7_draw_45 : decode cX7_draw 45 = .ok (.invokevirtual 47, 3) := dk_182 0 47 (dk_at dksX7_draw_1 21 rfl rfl)
theorem dX7_draw_48 : decode cX7_draw 48 = .ok (.iconst 0, 1) := dk_3 (dk_at dksX7_draw_2 0 rfl rfl)
theorem dX7_draw_49 : decode cX7_draw 49 = .ok (.istore 6, 2) := dk_54 6 (dk_at dksX7_draw_2 1 rfl rfl)
theorem dX7_draw_51 : decode cX7_draw 51 = .ok (.iload 6, 2) := dk_21 6 (dk_at dksX7_draw_2 3 rfl rfl)
theorem dX7_draw_53 : decode cX7_draw 53 = .ok (.bipush 12, 2) := dk_16 12 (dk_at dksX7_draw_2 5 rfl rfl)
theorem dX7_draw_55 : decode cX7_draw 55 = .ok (.if_icmp .ge 69, 3) := dk_162 0 69 (dk_at dksX7_draw_2 7 rfl rfl)
theorem dX7_draw_58 : decode cX7_draw 58 = .ok (.iconst 0, 1) := dk_3 (dk_at dksX7_draw_2 10 rfl rfl)
theorem dX7_draw_59 : decode cX7_draw 59 = .ok (.istore 7, 2) := dk_54 7 (dk_at dksX7_draw_2 11 rfl rfl)
theorem dX7_draw_61 : decode cX7_draw 61 = .ok (.iload 7, 2) := dk_21 7 (dk_at dksX7_draw_2 13 rfl rfl)
theorem dX7_draw_63 : decode cX7_draw 63 = .ok (.bipush 16, 2) := dk_16 16 (dk_at dksX7_draw_2 15 rfl rfl)
theorem dX7_draw_65 : decode cX7_draw 65 = .ok (.if_icmp .ge 53, 3) := dk_162 0 53 (dk_at dksX7_draw_2 17 rfl rfl)
theorem dX7_draw_68 : decode cX7_draw 68 = .ok (.iload 7, 2) := dk_21 7 (dk_at dksX7_draw_2 20 rfl rfl)
theorem dX7_draw_70 : decode cX7_draw 70 = .ok (.aload 4, 2) := dk_25 4 (dk_at dksX7_draw_2 22 rfl rfl)
theorem dX7_draw_72 : decode cX7_draw 72 = .ok (.iconst 0, 1) := dk_3 (dk_at dksX7_draw_3 0 rfl rfl)
theorem dX7_draw_73 : decode cX7_draw 73 = .ok (.laload, 1) := dk_47 (dk_at dksX7_draw_3 1 rfl rfl)
theorem dX7_draw_74 : decode cX7_draw 74 = .ok (.aload 5, 2) := dk_25 5 (dk_at dksX7_draw_3 2 rfl rfl)
theorem dX7_draw_76 : decode cX7_draw 76 = .ok (.iconst 0, 1) := dk_3 (dk_at dksX7_draw_3 4 rfl rfl)
theorem dX7_draw_77 : decode cX7_draw 77 = .ok (.laload, 1) := dk_47 (dk_at dksX7_draw_3 5 rfl rfl)
theorem dX7_draw_78 : decode cX7_draw 78 = .ok (.invokestatic 53, 3) := dk_184 0 53 (dk_at dksX7_draw_3 6 rfl rfl)
theorem dX7_draw_81 : decode cX7_draw 81 = .ok (.ifCond .eq 31, 3) := dk_153 0 31 (dk_at dksX7_draw_3 9 rfl rfl)
theorem dX7_draw_84 : decode cX7_draw 84 = .ok (.iload 6, 2) := dk_21 6 (dk_at dksX7_draw_3 12 rfl rfl)
theorem dX7_draw_86 : decode cX7_draw 86 = .ok (.aload 4, 2) := dk_25 4 (dk_at dksX7_draw_3 14 rfl rfl)
theorem dX7_draw_88 : decode cX7_draw 88 = .ok (.iconst 1, 1) := dk_4 (dk_at dksX7_draw_3 16 rfl rfl)
theorem dX7_draw_89 : decode cX7_draw 89 = .ok (.laload, 1) := dk_47 (dk_at dksX7_draw_3 17 rfl rfl)
theorem dX7_draw_90 : decode cX7_draw 90 = .ok (.aload 5, 2) := dk_25 5 (dk_at dksX7_draw_3 18 rfl rfl)
theorem dX7_draw_92 : decode cX7_draw 92 = .ok (.iconst 1, 1) := dk_4 (dk_at dksX7_draw_3 20 rfl rfl)
theorem dX7_draw_93 : decode cX7_draw 93 = .ok (.laload, 1) := dk_47 (dk_at dksX7_draw_3 21 rfl rfl)
theorem dX7_draw_94 : decode cX7_draw 94 = .ok (.invokestatic 53, 3) := dk_184 0 53 (dk_at dksX7_draw_4 0 rfl rfl)
theorem dX7_draw_97 : decode cX7_draw 97 = .ok (.ifCond .eq 15, 3) := dk_153 0 15 (dk_at dksX7_draw_4 3 rfl rfl)
theorem dX7_draw_100 : decode cX7_draw 100 = .ok (.aload_n 3, 1) := dk_45 (dk_at dksX7_draw_4 6 rfl rfl)
theorem dX7_draw_101 : decode cX7_draw 101 = .ok (.iload 7, 2) := dk_21 7 (dk_at dksX7_draw_4 7 rfl rfl)
theorem dX7_draw_103 : decode cX7_draw 103 = .ok (.iload 6, 2) := dk_21 6 (dk_at dksX7_draw_4 9 rfl rfl)
theorem dX7_draw_105 : decode cX7_draw 105 = .ok (.aload_n 0, 1) := dk_42 (dk_at dksX7_draw_4 11 rfl rfl)
theorem dX7_draw_106 : decode cX7_draw 106 = .ok (.getfield 57, 3) := dk_180 0 57 (dk_at dksX7_draw_4 12 rfl rfl)
theorem dX7_draw_109 : decode cX7_draw 109 = .ok (.invokevirtual 60, 3) := dk_182 0 60 (dk_at dksX7_draw_4 15 rfl rfl)
theorem dX7_draw_112 : decode cX7_draw 112 = .ok (.iinc 7 1, 3) := dk_132 7 1 (dk_at dksX7_draw_4 18 rfl rfl)
theorem dX7_draw_115 : decode cX7_draw 115 = .ok (.goto (-54), 3) := dk_167 255 202 (dk_at dksX7_draw_4 21 rfl rfl)
theorem dX7_draw_118 : decode cX7_draw 118 = .ok (.iinc 6 1, 3) := dk_132 6 1 (dk_at dksX7_draw_5 0 rfl rfl)
theorem dX7_draw_121 : decode cX7_draw 121 = .ok (.goto (-70), 3) := dk_167 255 186 (dk_at dksX7_draw_5 3 rfl rfl)
theorem dX7_draw_124 : decode cX7_draw 124 = .ok (.return_, 1) := dk_177 (dk_at dksX7_draw_5 6 rfl rfl)
abbrev cX7_isIn : ByteArray := prog_17_method_5_code
def yX7_isIn : MethodName := ⟨RX7, "isIn", "(IJJ)Z"⟩
def dkwX7_isIn_1 : List UInt8 := [22, 5, 31, 33, 184, 0, 72, 148, 156, 0, 7, 4, 167, 0, 4, 3, 172]
abbrev dktX7_isIn_1 : List UInt8 := dkwX7_isIn_1 ++ []
def dkwX7_isIn_0 : List UInt8 := [20, 0, 51, 26, 133, 105, 20, 0, 64, 97, 55, 5, 22, 5, 31, 33, 184, 0, 66, 148, 155, 0, 18]
abbrev dktX7_isIn_0 : List UInt8 := dkwX7_isIn_0 ++ dktX7_isIn_1
theorem dksX7_isIn_0 : cX7_isIn.data.toList.drop 0 = dktX7_isIn_0 := by decide +kernel
theorem dksX7_isIn_1 : cX7_isIn.data.toList.drop 23 = dktX7_isIn_1 := dk_seg dksX7_isIn_0 23 rfl rfl
theorem dX7_isIn_0 : decode cX7_isIn 0 = .ok (.ldc2_w 51, 3) := dk_20 0 51 (dk_at dksX7_isIn_0 0 rfl rfl)
theorem dX7_isIn_3 : decode cX7_isIn 3 = .ok (.iload_n 0, 1) := dk_26 (dk_at dksX7_isIn_0 3 rfl rfl)
theorem dX7_isIn_4 : decode cX7_isIn 4 = .ok (.i2l, 1) := dk_133 (dk_at dksX7_isIn_0 4 rfl rfl)
theorem dX7_isIn_5 : decode cX7_isIn 5 = .ok (.lmul, 1) := dk_105 (dk_at dksX7_isIn_0 5 rfl rfl)
theorem dX7_isIn_6 : decode cX7_isIn 6 = .ok (.ldc2_w 64, 3) := dk_20 0 64 (dk_at dksX7_isIn_0 6 rfl rfl)
theorem dX7_isIn_9 : decode cX7_isIn 9 = .ok (.ladd, 1) := dk_97 (dk_at dksX7_isIn_0 9 rfl rfl)
theorem dX7_isIn_10 : decode cX7_isIn 10 = .ok (.lstore 5, 2) := dk_55 5 (dk_at dksX7_isIn_0 10 rfl rfl)
theorem dX7_isIn_12 : decode cX7_isIn 12 = .ok (.lload 5, 2) := dk_22 5 (dk_at dksX7_isIn_0 12 rfl rfl)
theorem dX7_isIn_14 : decode cX7_isIn 14 = .ok (.lload_n 1, 1) := dk_31 (dk_at dksX7_isIn_0 14 rfl rfl)
theorem dX7_isIn_15 : decode cX7_isIn 15 = .ok (.lload_n 3, 1) := dk_33 (dk_at dksX7_isIn_0 15 rfl rfl)
theorem dX7_isIn_16 : decode cX7_isIn 16 = .ok (.invokestatic 66, 3) := dk_184 0 66 (dk_at dksX7_isIn_0 16 rfl rfl)
theorem dX7_isIn_19 : decode cX7_isIn 19 = .ok (.lcmp, 1) := dk_148 (dk_at dksX7_isIn_0 19 rfl rfl)
theorem dX7_isIn_20 : decode cX7_isIn 20 = .ok (.ifCond .lt 18, 3) := dk_155 0 18 (dk_at dksX7_isIn_0 20 rfl rfl)
theorem dX7_isIn_23 : decode cX7_isIn 23 = .ok (.lload 5, 2) := dk_22 5 (dk_at dksX7_isIn_1 0 rfl rfl)
theorem dX7_isIn_25 : decode cX7_isIn 25 = .ok (.lload_n 1, 1) := dk_31 (dk_at dksX7_isIn_1 2 rfl rfl)
theorem dX7_isIn_26 : decode cX7_isIn 26 = .ok (.lload_n 3, 1) := dk_33 (dk_at dksX7_isIn_1 3 rfl rfl)
theorem dX7_isIn_27 : decode cX7_isIn 27 = .ok (.invokestatic 72, 3) := dk_184 0 72 (dk_at dksX7_isIn_1 4 rfl rfl)
theorem dX7_isIn_30 : decode cX7_isIn 30 = .ok (.lcmp, 1) := dk_148 (dk_at dksX7_isIn_1 7 rfl rfl)
theorem dX7_isIn_31 : decode cX7_isIn 31 = .ok (.ifCond .ge 7, 3) := dk_156 0 7 (dk_at dksX7_isIn_1 8 rfl rfl)
theorem dX7_isIn_34 : decode cX7_isIn 34 = .ok (.iconst 1, 1) := dk_4 (dk_at dksX7_isIn_1 11 rfl rfl)
theorem dX7_isIn_35 : decode cX7_isIn 35 = .ok (.goto 4, 3) := dk_167 0 4 (dk_at dksX7_isIn_1 12 rfl rfl)
theorem dX7_isIn_38 : decode cX7_isIn 38 = .ok (.iconst 0, 1) := dk_3 (dk_at dksX7_isIn_1 15 rfl rfl)
theorem dX7_isIn_39 : decode cX7_isIn 39 = .ok (.ireturn, 1) := dk_172 (dk_at dksX7_isIn_1 16 rfl rfl)
abbrev cX7_word : ByteArray := prog_17_method_2_code
def yX7_word : MethodName := ⟨RX7, "word", "()Ljava/lang/String;"⟩
theorem dX7_word_0 : decode cX7_word 0 = .ok (.ldc 18, 2) := by decide +kernel
theorem dX7_word_2 : decode cX7_word 2 = .ok (.areturn, 1) := by decide +kernel
abbrev cX7_size : ByteArray := prog_17_method_3_code
def yX7_size : MethodName := ⟨RX7, "size", "()Ljava/lang/String;"⟩
def dkwX7_size_1 : List UInt8 := [182, 0, 25, 182, 0, 34, 176]
abbrev dktX7_size_1 : List UInt8 := dkwX7_size_1 ++ []
def dkwX7_size_0 : List UInt8 := [187, 0, 20, 89, 183, 0, 22, 42, 180, 0, 9, 182, 0, 25, 18, 29, 182, 0, 31, 42, 180, 0, 15]
abbrev dktX7_size_0 : List UInt8 := dkwX7_size_0 ++ dktX7_size_1
theorem dksX7_size_0 : cX7_size.data.toList.drop 0 = dktX7_size_0 := by decide +kernel
theorem dksX7_size_1 : cX7_size.data.toList.drop 23 = dktX7_size_1 := dk_seg dksX7_size_0 23 rfl rfl
theorem dX7_size_0 : decode cX7_size 0 = .ok (.new 20, 3) := dk_187 0 20 (dk_at dksX7_size_0 0 rfl rfl)
theorem dX7_size_3 : decode cX7_size 3 = .ok (.dup, 1) := dk_89 (dk_at dksX7_size_0 3 rfl rfl)
theorem dX7_size_4 : decode cX7_size 4 = .ok (.invokespecial 22, 3) := dk_183 0 22 (dk_at dksX7_size_0 4 rfl rfl)
theorem dX7_size_7 : decode cX7_size 7 = .ok (.aload_n 0, 1) := dk_42 (dk_at dksX7_size_0 7 rfl rfl)
theorem dX7_size_8 : decode cX7_size 8 = .ok (.getfield 9, 3) := dk_180 0 9 (dk_at dksX7_size_0 8 rfl rfl)
theorem dX7_size_11 : decode cX7_size 11 = .ok (.invokevirtual 25, 3) := dk_182 0 25 (dk_at dksX7_size_0 11 rfl rfl)
theorem dX7_size_14 : decode cX7_size 14 = .ok (.ldc 29, 2) := dk_18 29 (dk_at dksX7_size_0 14 rfl rfl)
theorem dX7_size_16 : decode cX7_size 16 = .ok (.invokevirtual 31, 3) := dk_182 0 31 (dk_at dksX7_size_0 16 rfl rfl)
theorem dX7_size_19 : decode cX7_size 19 = .ok (.aload_n 0, 1) := dk_42 (dk_at dksX7_size_0 19 rfl rfl)
theorem dX7_size_20 : decode cX7_size 20 = .ok (.getfield 15, 3) := dk_180 0 15 (dk_at dksX7_size_0 20 rfl rfl)
theorem dX7_size_23 : decode cX7_size 23 = .ok (.invokevirtual 25, 3) := dk_182 0 25 (dk_at dksX7_size_1 0 rfl rfl)
theorem dX7_size_26 : decode cX7_size 26 = .ok (.invokevirtual 34, 3) := dk_182 0 34 (dk_at dksX7_size_1 3 rfl rfl)
theorem dX7_size_29 : decode cX7_size 29 = .ok (.areturn, 1) := dk_176 (dk_at dksX7_size_1 6 rfl rfl)
theorem q89 : (Jvm.Cond.initialized "Shapelayer$Rect") ∈ lw_all := lw_g (lw_at lw_m1 31 rfl) rfl
theorem q182 : (Jvm.Cond.fieldLinkNest "Shapelayer$Rect" (38 : Nat) "Shapelayer$Raster" "one" "[J" "Shapelayer") ∈ lw_tbl := lw_at lw_m1 124 rfl
theorem q185 : (Jvm.Cond.fieldLinkNest "Shapelayer$Rect" (44 : Nat) "Shapelayer$Raster" "other" "[J" "Shapelayer") ∈ lw_tbl := lw_at lw_m1 127 rfl
theorem q620 : (Jvm.Cond.selects "Shapelayer$Rect" ({ cls := "Shapelayer$Layer", name := "keys", desc := "()I" } : Jvm.MethodName) ({ cls := "Shapelayer$Layer", name := "keys", desc := "()I" } : Jvm.MethodName)) ∈ lw_all := lw_g (lw_at lw_m3 82 rfl) rfl
theorem q716 : (Jvm.Cond.selects "Shapelayer$Rect" ({ cls := "java/lang/Object", name := "getClass", desc := "()Ljava/lang/Class;" } : Jvm.MethodName) ({ cls := "java/lang/Object", name := "getClass", desc := "()Ljava/lang/Class;" } : Jvm.MethodName)) ∈ lw_all := lw_g (lw_at lw_m3 178 rfl) rfl
theorem q796 : (Jvm.Cond.instantiable "Shapelayer$Rect" (11 : Nat)) ∈ lw_all := lw_g (lw_at lw_m4 18 rfl) rfl
theorem q798 : (Jvm.Cond.instanceMethod ({ cls := "Shapelayer$Rect", name := "<init>", desc := "(ILShapelayer$Composition;I[I)V" } : Jvm.MethodName)) ∈ lw_all := lw_g (lw_at lw_m4 20 rfl) rfl
theorem q799 : (Jvm.Cond.code ({ cls := "Shapelayer$Rect", name := "<init>", desc := "(ILShapelayer$Composition;I[I)V" } : Jvm.MethodName) prog_17_method_1_code (5 : Nat) (Option.none : Option Jvm.ClassFile.FieldType)) ∈ lw_all := lw_g (lw_at lw_m4 21 rfl) rfl
theorem q800 : (Jvm.Cond.methodLink "Shapelayer$Rect" (3 : Nat) ({ cls := "Shapelayer$Coloured", name := "<init>", desc := "(ILShapelayer$Composition;I)V" } : Jvm.MethodName)) ∈ lw_all := lw_g (lw_at lw_m4 22 rfl) rfl
theorem q828 : (Jvm.Cond.fieldLink "Shapelayer$Rect" (9 : Nat) "Shapelayer$Rect" "width" "I") ∈ lw_all := lw_g (lw_at lw_m4 50 rfl) rfl
theorem q829 : (Jvm.Cond.fieldLink "Shapelayer$Rect" (15 : Nat) "Shapelayer$Rect" "height" "I") ∈ lw_all := lw_g (lw_at lw_m4 51 rfl) rfl
theorem q831 : (Jvm.Cond.fieldLink "Shapelayer$Rect" (57 : Nat) "Shapelayer$Rect" "colour" "I") ∈ lw_all := lw_g (lw_at lw_m4 53 rfl) rfl
theorem q832 : (Jvm.Cond.sameField "Shapelayer$Rect" "Shapelayer$Coloured" "colour" "I") ∈ lw_all := lw_g (lw_at lw_m4 54 rfl) rfl
theorem q855 : (Jvm.Cond.laysFinal "Shapelayer$Rect" "Shapelayer$Rect" "width" "I") ∈ lw_all := lw_g (lw_at lw_m4 77 rfl) rfl
theorem q856 : (Jvm.Cond.soleField "Shapelayer$Rect" "width") ∈ lw_all := lw_g (lw_at lw_m4 78 rfl) rfl
theorem q857 : (Jvm.Cond.laysFinal "Shapelayer$Rect" "Shapelayer$Rect" "height" "I") ∈ lw_all := lw_g (lw_at lw_m4 79 rfl) rfl
theorem q858 : (Jvm.Cond.soleField "Shapelayer$Rect" "height") ∈ lw_all := lw_g (lw_at lw_m4 80 rfl) rfl
theorem q859 : (Jvm.Cond.laysFinal "Shapelayer$Rect" "Shapelayer$Coloured" "colour" "I") ∈ lw_all := lw_g (lw_at lw_m4 81 rfl) rfl
theorem q861 : (Jvm.Cond.laysFinal "Shapelayer$Rect" "Shapelayer$Layer" "number" "I") ∈ lw_all := lw_g (lw_at lw_m4 83 rfl) rfl
theorem q863 : (Jvm.Cond.laysFinal "Shapelayer$Rect" "Shapelayer$Layer" "owner" "LShapelayer$Composition;") ∈ lw_all := lw_g (lw_at lw_m4 85 rfl) rfl
theorem q865 : (Jvm.Cond.laysFinal "Shapelayer$Rect" "Shapelayer$Layer" "values" "[LShapelayer$Keyed;") ∈ lw_all := lw_g (lw_at lw_m4 87 rfl) rfl
theorem q867 : (Jvm.Cond.lays "Shapelayer$Rect" "Shapelayer$Layer" "parent" "LShapelayer$Layer;") ∈ lw_all := lw_g (lw_at lw_m4 89 rfl) rfl
theorem q869 : (Jvm.Cond.lays "Shapelayer$Rect" "Shapelayer$Layer" "matte" "LShapelayer$Layer;") ∈ lw_all := lw_g (lw_at lw_m4 91 rfl) rfl
theorem q871 : (Jvm.Cond.lays "Shapelayer$Rect" "Shapelayer$Layer" "isInverted" "Z") ∈ lw_all := lw_g (lw_at lw_m4 93 rfl) rfl
theorem q873 : (Jvm.Cond.lays "Shapelayer$Rect" "Shapelayer$Layer" "from" "I") ∈ lw_all := lw_g (lw_at lw_m4 95 rfl) rfl
theorem q875 : (Jvm.Cond.lays "Shapelayer$Rect" "Shapelayer$Layer" "end" "I") ∈ lw_all := lw_g (lw_at lw_m4 97 rfl) rfl
theorem q877 : (Jvm.Cond.superclass "Shapelayer$Rect" "Shapelayer$Coloured") ∈ lw_all := lw_g (lw_at lw_m4 99 rfl) rfl
theorem q1103 : (Jvm.Cond.selects "Shapelayer$Rect" ({ cls := "java/lang/Object", name := "equals", desc := "(Ljava/lang/Object;)Z" } : Jvm.MethodName) ({ cls := "java/lang/Object", name := "equals", desc := "(Ljava/lang/Object;)Z" } : Jvm.MethodName)) ∈ lw_all := lw_g (lw_at lw_m5 85 rfl) rfl
theorem q1197 : (Jvm.Cond.selects "Shapelayer$Rect" ({ cls := "Shapelayer$Layer", name := "isOn", desc := "(LShapelayer$Layer;)Z" } : Jvm.MethodName) ({ cls := "Shapelayer$Layer", name := "isOn", desc := "(LShapelayer$Layer;)Z" } : Jvm.MethodName)) ∈ lw_all := lw_g (lw_at lw_m5 179 rfl) rfl
theorem q1313 : (Jvm.Cond.selects "Shapelayer$Rect" ({ cls := "Shapelayer$Layer", name := "value", desc := "(II)I" } : Jvm.MethodName) ({ cls := "Shapelayer$Layer", name := "value", desc := "(II)I" } : Jvm.MethodName)) ∈ lw_all := lw_g (lw_at lw_m6 55 rfl) rfl
theorem q1375 : (Jvm.Cond.selects "Shapelayer$Rect" ({ cls := "Shapelayer$Layer", name := "map", desc := "(ILShapelayer$Outer;JJ[J)V" } : Jvm.MethodName) ({ cls := "Shapelayer$Layer", name := "map", desc := "(ILShapelayer$Outer;JJ[J)V" } : Jvm.MethodName)) ∈ lw_all := lw_g (lw_at lw_m6 117 rfl) rfl
theorem q1383 : (Jvm.Cond.selects "Shapelayer$Rect" ({ cls := "Shapelayer$Layer", name := "map", desc := "(I[J)V" } : Jvm.MethodName) ({ cls := "Shapelayer$Layer", name := "map", desc := "(I[J)V" } : Jvm.MethodName)) ∈ lw_all := lw_g (lw_at lw_m6 125 rfl) rfl
theorem q1460 : (Jvm.Cond.selects "Shapelayer$Rect" ({ cls := "Shapelayer$Layer", name := "shows", desc := "(I)Z" } : Jvm.MethodName) ({ cls := "Shapelayer$Layer", name := "shows", desc := "(I)Z" } : Jvm.MethodName)) ∈ lw_all := lw_g (lw_at lw_m6 202 rfl) rfl
theorem q1502 : (Jvm.Cond.selects "Shapelayer$Rect" ({ cls := "Shapelayer$Layer", name := "draw", desc := "(ILShapelayer$Outer;LShapelayer$Raster;)V" } : Jvm.MethodName) ({ cls := "Shapelayer$Rect", name := "draw", desc := "(ILShapelayer$Outer;LShapelayer$Raster;)V" } : Jvm.MethodName)) ∈ lw_all := lw_g (lw_at lw_m7 4 rfl) rfl
theorem q1503 : (Jvm.Cond.instanceMethod ({ cls := "Shapelayer$Rect", name := "draw", desc := "(ILShapelayer$Outer;LShapelayer$Raster;)V" } : Jvm.MethodName)) ∈ lw_all := lw_g (lw_at lw_m7 5 rfl) rfl
theorem q1504 : (Jvm.Cond.code ({ cls := "Shapelayer$Rect", name := "draw", desc := "(ILShapelayer$Outer;LShapelayer$Raster;)V" } : Jvm.MethodName) prog_17_method_4_code (8 : Nat) (Option.none : Option Jvm.ClassFile.FieldType)) ∈ lw_all := lw_g (lw_at lw_m7 6 rfl) rfl
theorem q1505 : (Jvm.Cond.methodLink "Shapelayer$Rect" (47 : Nat) ({ cls := "Shapelayer$Rect", name := "map", desc := "(ILShapelayer$Outer;JJ[J)V" } : Jvm.MethodName)) ∈ lw_all := lw_g (lw_at lw_m7 7 rfl) rfl
theorem q1506 : (Jvm.Cond.sameMethod "Shapelayer$Rect" "Shapelayer$Layer" "map" "(ILShapelayer$Outer;JJ[J)V") ∈ lw_all := lw_g (lw_at lw_m7 8 rfl) rfl
theorem q1508 : (Jvm.Cond.selects "Shapelayer$Rect" ({ cls := "Shapelayer$Rect", name := "map", desc := "(ILShapelayer$Outer;JJ[J)V" } : Jvm.MethodName) ({ cls := "Shapelayer$Layer", name := "map", desc := "(ILShapelayer$Outer;JJ[J)V" } : Jvm.MethodName)) ∈ lw_all := lw_g (lw_at lw_m7 10 rfl) rfl
theorem q1509 : (Jvm.Cond.constantLong "Shapelayer$Rect" (51 : Nat) (1000 : Int64)) ∈ lw_all := lw_g (lw_at lw_m7 11 rfl) rfl
theorem q1510 : (Jvm.Cond.methodLink "Shapelayer$Rect" (53 : Nat) ({ cls := "Shapelayer$Rect", name := "isIn", desc := "(IJJ)Z" } : Jvm.MethodName)) ∈ lw_all := lw_g (lw_at lw_m7 12 rfl) rfl
theorem q1511 : (Jvm.Cond.static ({ cls := "Shapelayer$Rect", name := "isIn", desc := "(IJJ)Z" } : Jvm.MethodName)) ∈ lw_all := lw_g (lw_at lw_m7 13 rfl) rfl
theorem q1512 : (Jvm.Cond.code ({ cls := "Shapelayer$Rect", name := "isIn", desc := "(IJJ)Z" } : Jvm.MethodName) prog_17_method_5_code (7 : Nat) (Option.some Jvm.ClassFile.FieldType.boolean)) ∈ lw_all := lw_g (lw_at lw_m7 14 rfl) rfl
theorem q1513 : (Jvm.Cond.constantLong "Shapelayer$Rect" (64 : Nat) (500 : Int64)) ∈ lw_all := lw_g (lw_at lw_m7 15 rfl) rfl
theorem q1514 : (Jvm.Cond.methodLink "Shapelayer$Rect" (66 : Nat) ({ cls := "java/lang/Math", name := "min", desc := "(JJ)J" } : Jvm.MethodName)) ∈ lw_all := lw_g (lw_at lw_m7 16 rfl) rfl
theorem q1515 : (Jvm.Cond.methodLink "Shapelayer$Rect" (72 : Nat) ({ cls := "java/lang/Math", name := "max", desc := "(JJ)J" } : Jvm.MethodName)) ∈ lw_all := lw_g (lw_at lw_m7 17 rfl) rfl
theorem q1516 : (Jvm.Cond.methodLink "Shapelayer$Rect" (60 : Nat) ({ cls := "Shapelayer$Raster", name := "put", desc := "(III)V" } : Jvm.MethodName)) ∈ lw_all := lw_g (lw_at lw_m7 18 rfl) rfl
theorem q1688 : (Jvm.Cond.selects "Shapelayer$Rect" ({ cls := "Shapelayer$Layer", name := "tail", desc := "()Ljava/lang/String;" } : Jvm.MethodName) ({ cls := "Shapelayer$Layer", name := "tail", desc := "()Ljava/lang/String;" } : Jvm.MethodName)) ∈ lw_all := lw_g (lw_at lw_m7 190 rfl) rfl
theorem q1722 : (Jvm.Cond.selects "Shapelayer$Rect" ({ cls := "Shapelayer$Layer", name := "word", desc := "()Ljava/lang/String;" } : Jvm.MethodName) ({ cls := "Shapelayer$Rect", name := "word", desc := "()Ljava/lang/String;" } : Jvm.MethodName)) ∈ lw_all := lw_g (lw_at lw_m7 224 rfl) rfl
theorem q1723 : (Jvm.Cond.instanceMethod ({ cls := "Shapelayer$Rect", name := "word", desc := "()Ljava/lang/String;" } : Jvm.MethodName)) ∈ lw_all := lw_g (lw_at lw_m7 225 rfl) rfl
theorem q1724 : (Jvm.Cond.code ({ cls := "Shapelayer$Rect", name := "word", desc := "()Ljava/lang/String;" } : Jvm.MethodName) prog_17_method_2_code (1 : Nat) (Option.some (Jvm.ClassFile.FieldType.object "java/lang/String"))) ∈ lw_all := lw_g (lw_at lw_m7 226 rfl) rfl
theorem q1725 : (Jvm.Cond.stringRef "Shapelayer$Rect" (18 : Nat) "rect") ∈ lw_tbl := lw_at lw_m7 227 rfl
theorem q1737 : (Jvm.Cond.selects "Shapelayer$Rect" ({ cls := "Shapelayer$Layer", name := "toString", desc := "()Ljava/lang/String;" } : Jvm.MethodName) ({ cls := "Shapelayer$Coloured", name := "toString", desc := "()Ljava/lang/String;" } : Jvm.MethodName)) ∈ lw_all := lw_g (lw_at lw_m7 239 rfl) rfl
theorem q1749 : (Jvm.Cond.selects "Shapelayer$Rect" ({ cls := "Shapelayer$Coloured", name := "size", desc := "()Ljava/lang/String;" } : Jvm.MethodName) ({ cls := "Shapelayer$Rect", name := "size", desc := "()Ljava/lang/String;" } : Jvm.MethodName)) ∈ lw_all := lw_g (lw_at lw_m8 11 rfl) rfl
theorem q1750 : (Jvm.Cond.instanceMethod ({ cls := "Shapelayer$Rect", name := "size", desc := "()Ljava/lang/String;" } : Jvm.MethodName)) ∈ lw_all := lw_g (lw_at lw_m8 12 rfl) rfl
theorem q1751 : (Jvm.Cond.code ({ cls := "Shapelayer$Rect", name := "size", desc := "()Ljava/lang/String;" } : Jvm.MethodName) prog_17_method_3_code (1 : Nat) (Option.some (Jvm.ClassFile.FieldType.object "java/lang/String"))) ∈ lw_all := lw_g (lw_at lw_m8 13 rfl) rfl
theorem q1752 : (Jvm.Cond.classLink "Shapelayer$Rect" (20 : Nat) "java/lang/StringBuilder") ∈ lw_all := lw_g (lw_at lw_m8 14 rfl) rfl
theorem q1753 : (Jvm.Cond.methodLink "Shapelayer$Rect" (22 : Nat) ({ cls := "java/lang/StringBuilder", name := "<init>", desc := "()V" } : Jvm.MethodName)) ∈ lw_all := lw_g (lw_at lw_m8 15 rfl) rfl
theorem q1754 : (Jvm.Cond.methodLink "Shapelayer$Rect" (25 : Nat) ({ cls := "java/lang/StringBuilder", name := "append", desc := "(I)Ljava/lang/StringBuilder;" } : Jvm.MethodName)) ∈ lw_all := lw_g (lw_at lw_m8 16 rfl) rfl
theorem q1755 : (Jvm.Cond.stringRef "Shapelayer$Rect" (29 : Nat) "x") ∈ lw_tbl := lw_at lw_m8 17 rfl
theorem q1756 : (Jvm.Cond.methodLink "Shapelayer$Rect" (31 : Nat) ({ cls := "java/lang/StringBuilder", name := "append", desc := "(Ljava/lang/String;)Ljava/lang/StringBuilder;" } : Jvm.MethodName)) ∈ lw_all := lw_g (lw_at lw_m8 18 rfl) rfl
theorem q1757 : (Jvm.Cond.methodLink "Shapelayer$Rect" (34 : Nat) ({ cls := "java/lang/StringBuilder", name := "toString", desc := "()Ljava/lang/String;" } : Jvm.MethodName)) ∈ lw_all := lw_g (lw_at lw_m8 19 rfl) rfl
theorem q2223 : (Jvm.Cond.castable "Shapelayer$Rect" "Shapelayer$Layer") ∈ lw_tbl := lw_at lw_m10 5 rfl
theorem q2239 : (Jvm.Cond.castable "Shapelayer$Rect" "java/lang/Object") ∈ lw_tbl := lw_at lw_m10 21 rfl
theorem in_X7 : ∀ w ∈ wsX70, w ∈ lw_all := lw_in wsX70 [861, 863, 865, 867, 869, 871, 873, 875, 859, 855, 857] (by decide +kernel) (by decide +kernel)

/-! Shapelayer$Keyed -/
set_option maxRecDepth 100000
def RX8 : String := "Shapelayer$Keyed"
def TX8 : u_T := fun k => match k with
  | 0 => ("Shapelayer$Keyed", "first", "I", true)
  | _ => ("Shapelayer$Keyed", "keys", "Ljava/util/List;", true)
def tyX8 : Nat → FieldType := fun k => match k with
  | 0 => .int
  | _ => .object "java/util/List"
abbrev wsX80 : List Cond := u_ws RX8 TX8 2
theorem nmX8 : ∀ a, a < 2 → ∀ b, b < 2 → a ≠ b → (TX8 a).2.1 ≠ (TX8 b).2.1 := by decide +kernel
theorem tyX8_ok : ∀ k, k < 2 → parseFieldDescriptor (TX8 k).2.2.1 = some (tyX8 k) := by decide +kernel
abbrev cX8_init : ByteArray := prog_11_method_1_code
def yX8_init : MethodName := ⟨RX8, "<init>", "(I)V"⟩
def dkwX8_init_0 : List UInt8 := [42, 183, 0, 1, 42, 187, 0, 7, 89, 183, 0, 9, 181, 0, 10, 42, 27, 181, 0, 16, 177]
abbrev dktX8_init_0 : List UInt8 := dkwX8_init_0 ++ []
theorem dksX8_init_0 : cX8_init.data.toList.drop 0 = dktX8_init_0 := by decide +kernel
theorem dX8_init_0 : decode cX8_init 0 = .ok (.aload_n 0, 1) := dk_42 (dk_at dksX8_init_0 0 rfl rfl)
theorem dX8_init_1 : decode cX8_init 1 = .ok (.invokespecial 1, 3) := dk_183 0 1 (dk_at dksX8_init_0 1 rfl rfl)
theorem dX8_init_4 : decode cX8_init 4 = .ok (.aload_n 0, 1) := dk_42 (dk_at dksX8_init_0 4 rfl rfl)
theorem dX8_init_5 : decode cX8_init 5 = .ok (.new 7, 3) := dk_187 0 7 (dk_at dksX8_init_0 5 rfl rfl)
theorem dX8_init_8 : decode cX8_init 8 = .ok (.dup, 1) := dk_89 (dk_at dksX8_init_0 8 rfl rfl)
theorem dX8_init_9 : decode cX8_init 9 = .ok (.invokespecial 9, 3) := dk_183 0 9 (dk_at dksX8_init_0 9 rfl rfl)
theorem dX8_init_12 : decode cX8_init 12 = .ok (.putfield 10, 3) := dk_181 0 10 (dk_at dksX8_init_0 12 rfl rfl)
theorem dX8_init_15 : decode cX8_init 15 = .ok (.aload_n 0, 1) := dk_42 (dk_at dksX8_init_0 15 rfl rfl)
theorem dX8_init_16 : decode cX8_init 16 = .ok (.iload_n 1, 1) := dk_27 (dk_at dksX8_init_0 16 rfl rfl)
theorem dX8_init_17 : decode cX8_init 17 = .ok (.putfield 16, 3) := dk_181 0 16 (dk_at dksX8_init_0 17 rfl rfl)
theorem dX8_init_20 : decode cX8_init 20 = .ok (.return_, 1) := dk_177 (dk_at dksX8_init_0 20 rfl rfl)
abbrev cX8_has : ByteArray := prog_11_method_3_code
def yX8_has : MethodName := ⟨RX8, "has", "(I)Z"⟩
def dkwX8_has_1 : List UInt8 := [185, 0, 26, 2, 0, 192, 0, 30, 180, 0, 32, 27, 160, 0, 7, 4, 167, 0, 4, 3, 172]
abbrev dktX8_has_1 : List UInt8 := dkwX8_has_1 ++ []
def dkwX8_has_0 : List UInt8 := [42, 27, 182, 0, 35, 61, 28, 42, 180, 0, 10, 185, 0, 20, 1, 0, 162, 0, 27, 42, 180, 0, 10, 28]
abbrev dktX8_has_0 : List UInt8 := dkwX8_has_0 ++ dktX8_has_1
theorem dksX8_has_0 : cX8_has.data.toList.drop 0 = dktX8_has_0 := by decide +kernel
theorem dksX8_has_1 : cX8_has.data.toList.drop 24 = dktX8_has_1 := dk_seg dksX8_has_0 24 rfl rfl
theorem dX8_has_0 : decode cX8_has 0 = .ok (.aload_n 0, 1) := dk_42 (dk_at dksX8_has_0 0 rfl rfl)
theorem dX8_has_1 : decode cX8_has 1 = .ok (.iload_n 1, 1) := dk_27 (dk_at dksX8_has_0 1 rfl rfl)
theorem dX8_has_2 : decode cX8_has 2 = .ok (.invokevirtual 35, 3) := dk_182 0 35 (dk_at dksX8_has_0 2 rfl rfl)
theorem dX8_has_5 : decode cX8_has 5 = .ok (.istore_n 2, 1) := dk_61 (dk_at dksX8_has_0 5 rfl rfl)
theorem dX8_has_6 : decode cX8_has 6 = .ok (.iload_n 2, 1) := dk_28 (dk_at dksX8_has_0 6 rfl rfl)
theorem dX8_has_7 : decode cX8_has 7 = .ok (.aload_n 0, 1) := dk_42 (dk_at dksX8_has_0 7 rfl rfl)
theorem dX8_has_8 : decode cX8_has 8 = .ok (.getfield 10, 3) := dk_180 0 10 (dk_at dksX8_has_0 8 rfl rfl)
theorem dX8_has_11 : decode cX8_has 11 = .ok (.invokeinterface 20 1, 5) := by decide +kernel
theorem dX8_has_16 : decode cX8_has 16 = .ok (.if_icmp .ge 27, 3) := dk_162 0 27 (dk_at dksX8_has_0 16 rfl rfl)
theorem dX8_has_19 : decode cX8_has 19 = .ok (.aload_n 0, 1) := dk_42 (dk_at dksX8_has_0 19 rfl rfl)
theorem dX8_has_20 : decode cX8_has 20 = .ok (.getfield 10, 3) := dk_180 0 10 (dk_at dksX8_has_0 20 rfl rfl)
theorem dX8_has_23 : decode cX8_has 23 = .ok (.iload_n 2, 1) := dk_28 (dk_at dksX8_has_0 23 rfl rfl)
theorem dX8_has_24 : decode cX8_has 24 = .ok (.invokeinterface 26 2, 5) := by decide +kernel
theorem dX8_has_29 : decode cX8_has 29 = .ok (.checkcast 30, 3) := dk_192 0 30 (dk_at dksX8_has_1 5 rfl rfl)
theorem dX8_has_32 : decode cX8_has 32 = .ok (.getfield 32, 3) := dk_180 0 32 (dk_at dksX8_has_1 8 rfl rfl)
theorem dX8_has_35 : decode cX8_has 35 = .ok (.iload_n 1, 1) := dk_27 (dk_at dksX8_has_1 11 rfl rfl)
theorem dX8_has_36 : decode cX8_has 36 = .ok (.if_icmp .ne 7, 3) := dk_160 0 7 (dk_at dksX8_has_1 12 rfl rfl)
theorem dX8_has_39 : decode cX8_has 39 = .ok (.iconst 1, 1) := dk_4 (dk_at dksX8_has_1 15 rfl rfl)
theorem dX8_has_40 : decode cX8_has 40 = .ok (.goto 4, 3) := dk_167 0 4 (dk_at dksX8_has_1 16 rfl rfl)
theorem dX8_has_43 : decode cX8_has 43 = .ok (.iconst 0, 1) := dk_3 (dk_at dksX8_has_1 19 rfl rfl)
theorem dX8_has_44 : decode cX8_has 44 = .ok (.ireturn, 1) := dk_172 (dk_at dksX8_has_1 20 rfl rfl)
abbrev cX8_placeOf : ByteArray := prog_11_method_2_code
def yX8_placeOf : MethodName := ⟨RX8, "placeOf", "(I)I"⟩
def dkwX8_placeOf_1 : List UInt8 := [185, 0, 26, 2, 0, 192, 0, 30, 180, 0, 32, 27, 162, 0, 9, 132, 2, 1, 167, 255, 220, 28, 172]
abbrev dktX8_placeOf_1 : List UInt8 := dkwX8_placeOf_1 ++ []
def dkwX8_placeOf_0 : List UInt8 := [3, 61, 28, 42, 180, 0, 10, 185, 0, 20, 1, 0, 162, 0, 29, 42, 180, 0, 10, 28]
abbrev dktX8_placeOf_0 : List UInt8 := dkwX8_placeOf_0 ++ dktX8_placeOf_1
theorem dksX8_placeOf_0 : cX8_placeOf.data.toList.drop 0 = dktX8_placeOf_0 := by decide +kernel
theorem dksX8_placeOf_1 : cX8_placeOf.data.toList.drop 20 = dktX8_placeOf_1 := dk_seg dksX8_placeOf_0 20 rfl rfl
theorem dX8_placeOf_0 : decode cX8_placeOf 0 = .ok (.iconst 0, 1) := dk_3 (dk_at dksX8_placeOf_0 0 rfl rfl)
theorem dX8_placeOf_1 : decode cX8_placeOf 1 = .ok (.istore_n 2, 1) := dk_61 (dk_at dksX8_placeOf_0 1 rfl rfl)
theorem dX8_placeOf_2 : decode cX8_placeOf 2 = .ok (.iload_n 2, 1) := dk_28 (dk_at dksX8_placeOf_0 2 rfl rfl)
theorem dX8_placeOf_3 : decode cX8_placeOf 3 = .ok (.aload_n 0, 1) := dk_42 (dk_at dksX8_placeOf_0 3 rfl rfl)
theorem dX8_placeOf_4 : decode cX8_placeOf 4 = .ok (.getfield 10, 3) := dk_180 0 10 (dk_at dksX8_placeOf_0 4 rfl rfl)
theorem dX8_placeOf_7 : decode cX8_placeOf 7 = .ok (.invokeinterface 20 1, 5) := by decide +kernel
theorem dX8_placeOf_12 : decode cX8_placeOf 12 = .ok (.if_icmp .ge 29, 3) := dk_162 0 29 (dk_at dksX8_placeOf_0 12 rfl rfl)
theorem dX8_placeOf_15 : decode cX8_placeOf 15 = .ok (.aload_n 0, 1) := dk_42 (dk_at dksX8_placeOf_0 15 rfl rfl)
theorem dX8_placeOf_16 : decode cX8_placeOf 16 = .ok (.getfield 10, 3) := dk_180 0 10 (dk_at dksX8_placeOf_0 16 rfl rfl)
theorem dX8_placeOf_19 : decode cX8_placeOf 19 = .ok (.iload_n 2, 1) := dk_28 (dk_at dksX8_placeOf_0 19 rfl rfl)
theorem dX8_placeOf_20 : decode cX8_placeOf 20 = .ok (.invokeinterface 26 2, 5) := by decide +kernel
theorem dX8_placeOf_25 : decode cX8_placeOf 25 = .ok (.checkcast 30, 3) := dk_192 0 30 (dk_at dksX8_placeOf_1 5 rfl rfl)
theorem dX8_placeOf_28 : decode cX8_placeOf 28 = .ok (.getfield 32, 3) := dk_180 0 32 (dk_at dksX8_placeOf_1 8 rfl rfl)
theorem dX8_placeOf_31 : decode cX8_placeOf 31 = .ok (.iload_n 1, 1) := dk_27 (dk_at dksX8_placeOf_1 11 rfl rfl)
theorem dX8_placeOf_32 : decode cX8_placeOf 32 = .ok (.if_icmp .ge 9, 3) := dk_162 0 9 (dk_at dksX8_placeOf_1 12 rfl rfl)
theorem dX8_placeOf_35 : decode cX8_placeOf 35 = .ok (.iinc 2 1, 3) := dk_132 2 1 (dk_at dksX8_placeOf_1 15 rfl rfl)
theorem dX8_placeOf_38 : decode cX8_placeOf 38 = .ok (.goto (-36), 3) := dk_167 255 220 (dk_at dksX8_placeOf_1 18 rfl rfl)
theorem dX8_placeOf_41 : decode cX8_placeOf 41 = .ok (.iload_n 2, 1) := dk_28 (dk_at dksX8_placeOf_1 21 rfl rfl)
theorem dX8_placeOf_42 : decode cX8_placeOf 42 = .ok (.ireturn, 1) := dk_172 (dk_at dksX8_placeOf_1 22 rfl rfl)
abbrev cX8_at : ByteArray := prog_11_method_4_code
def yX8_at : MethodName := ⟨RX8, "at", "(I)I"⟩
def dkwX8_at_5 : List UInt8 := [27, 25, 4, 180, 0, 32, 100, 45, 180, 0, 32, 25, 4, 180, 0, 32, 100, 185, 0, 50, 5, 0, 172]
abbrev dktX8_at_5 : List UInt8 := dkwX8_at_5 ++ []
def dkwX8_at_4 : List UInt8 := [185, 0, 26, 2, 0, 192, 0, 30, 58, 4, 25, 4, 180, 0, 46, 25, 4, 180, 0, 43, 45, 180, 0, 43]
abbrev dktX8_at_4 : List UInt8 := dkwX8_at_4 ++ dktX8_at_5
def dkwX8_at_3 : List UInt8 := [153, 0, 11, 45, 180, 0, 32, 27, 160, 0, 8, 45, 180, 0, 43, 172, 42, 180, 0, 10, 28, 4, 100]
abbrev dktX8_at_3 : List UInt8 := dkwX8_at_3 ++ dktX8_at_4
def dkwX8_at_2 : List UInt8 := [192, 0, 30, 180, 0, 43, 172, 42, 180, 0, 10, 28, 185, 0, 26, 2, 0, 192, 0, 30, 78, 28]
abbrev dktX8_at_2 : List UInt8 := dkwX8_at_2 ++ dktX8_at_3
def dkwX8_at_1 : List UInt8 := [42, 180, 0, 10, 185, 0, 20, 1, 0, 160, 0, 22, 42, 180, 0, 10, 28, 4, 100, 185, 0, 26, 2, 0]
abbrev dktX8_at_1 : List UInt8 := dkwX8_at_1 ++ dktX8_at_2
def dkwX8_at_0 : List UInt8 := [42, 180, 0, 10, 185, 0, 39, 1, 0, 153, 0, 8, 42, 180, 0, 16, 172, 42, 27, 182, 0, 35, 61, 28]
abbrev dktX8_at_0 : List UInt8 := dkwX8_at_0 ++ dktX8_at_1
theorem dksX8_at_0 : cX8_at.data.toList.drop 0 = dktX8_at_0 := by decide +kernel
theorem dksX8_at_1 : cX8_at.data.toList.drop 24 = dktX8_at_1 := dk_seg dksX8_at_0 24 rfl rfl
theorem dksX8_at_2 : cX8_at.data.toList.drop 48 = dktX8_at_2 := dk_seg dksX8_at_1 24 rfl rfl
theorem dksX8_at_3 : cX8_at.data.toList.drop 70 = dktX8_at_3 := dk_seg dksX8_at_2 22 rfl rfl
theorem dksX8_at_4 : cX8_at.data.toList.drop 93 = dktX8_at_4 := dk_seg dksX8_at_3 23 rfl rfl
theorem dksX8_at_5 : cX8_at.data.toList.drop 117 = dktX8_at_5 := dk_seg dksX8_at_4 24 rfl rfl
theorem dX8_at_0 : decode cX8_at 0 = .ok (.aload_n 0, 1) := dk_42 (dk_at dksX8_at_0 0 rfl rfl)
theorem dX8_at_1 : decode cX8_at 1 = .ok (.getfield 10, 3) := dk_180 0 10 (dk_at dksX8_at_0 1 rfl rfl)
theorem dX8_at_4 : decode cX8_at 4 = .ok (.invokeinterface 39 1, 5) := by decide +kernel
theorem dX8_at_9 : decode cX8_at 9 = .ok (.ifCond .eq 8, 3) := dk_153 0 8 (dk_at dksX8_at_0 9 rfl rfl)
theorem dX8_at_12 : decode cX8_at 12 = .ok (.aload_n 0, 1) := dk_42 (dk_at dksX8_at_0 12 rfl rfl)
theorem dX8_at_13 : decode cX8_at 13 = .ok (.getfield 16, 3) := dk_180 0 16 (dk_at dksX8_at_0 13 rfl rfl)
theorem dX8_at_16 : decode cX8_at 16 = .ok (.ireturn, 1) := dk_172 (dk_at dksX8_at_0 16 rfl rfl)
theorem dX8_at_17 : decode cX8_at 17 = .ok (.aload_n 0, 1) := dk_42 (dk_at dksX8_at_0 17 rfl rfl)
theorem dX8_at_18 : decode cX8_at 18 = .ok (.iload_n 1, 1) := dk_27 (dk_at dksX8_at_0 18 rfl rfl)
theorem dX8_at_19 : decode cX8_at 19 = .ok (.invokevirtual 35, 3) := dk_182 0 35 (dk_at dksX8_at_0 19 rfl rfl)
theorem dX8_at_22 : decode cX8_at 22 = .ok (.istore_n 2, 1) := dk_61 (dk_at dksX8_at_0 22 rfl rfl)
theorem dX8_at_23 : decode cX8_at 23 = .ok (.iload_n 2, 1) := dk_28 (dk_at dksX8_at_0 23 rfl rfl)
theorem dX8_at_24 : decode cX8_at 24 = .ok (.aload_n 0, 1) := dk_42 (dk_at dksX8_at_1 0 rfl rfl)
theorem dX8_at_25 : decode cX8_at 25 = .ok (.getfield 10, 3) := dk_180 0 10 (dk_at dksX8_at_1 1 rfl rfl)
theorem dX8_at_28 : decode cX8_at 28 = .ok (.invokeinterface 20 1, 5) := by decide +kernel
theorem dX8_at_33 : decode cX8_at 33 = .ok (.if_icmp .ne 22, 3) := dk_160 0 22 (dk_at dksX8_at_1 9 rfl rfl)
theorem dX8_at_36 : decode cX8_at 36 = .ok (.aload_n 0, 1) := dk_42 (dk_at dksX8_at_1 12 rfl rfl)
theorem dX8_at_37 : decode cX8_at 37 = .ok (.getfield 10, 3) := dk_180 0 10 (dk_at dksX8_at_1 13 rfl rfl)
theorem dX8_at_40 : decode cX8_at 40 = .ok (.iload_n 2, 1) := dk_28 (dk_at dksX8_at_1 16 rfl rfl)
theorem dX8_at_41 : decode cX8_at 41 = .ok (.iconst 1, 1) := dk_4 (dk_at dksX8_at_1 17 rfl rfl)
theorem dX8_at_42 : decode cX8_at 42 = .ok (.isub, 1) := dk_100 (dk_at dksX8_at_1 18 rfl rfl)
theorem dX8_at_43 : decode cX8_at 43 = .ok (.invokeinterface 26 2, 5) := by decide +kernel
theorem dX8_at_48 : decode cX8_at 48 = .ok (.checkcast 30, 3) := dk_192 0 30 (dk_at dksX8_at_2 0 rfl rfl)
theorem dX8_at_51 : decode cX8_at 51 = .ok (.getfield 43, 3) := dk_180 0 43 (dk_at dksX8_at_2 3 rfl rfl)
theorem dX8_at_54 : decode cX8_at 54 = .ok (.ireturn, 1) := dk_172 (dk_at dksX8_at_2 6 rfl rfl)
theorem dX8_at_55 : decode cX8_at 55 = .ok (.aload_n 0, 1) := dk_42 (dk_at dksX8_at_2 7 rfl rfl)
theorem dX8_at_56 : decode cX8_at 56 = .ok (.getfield 10, 3) := dk_180 0 10 (dk_at dksX8_at_2 8 rfl rfl)
theorem dX8_at_59 : decode cX8_at 59 = .ok (.iload_n 2, 1) := dk_28 (dk_at dksX8_at_2 11 rfl rfl)
theorem dX8_at_60 : decode cX8_at 60 = .ok (.invokeinterface 26 2, 5) := by decide +kernel
theorem dX8_at_65 : decode cX8_at 65 = .ok (.checkcast 30, 3) := dk_192 0 30 (dk_at dksX8_at_2 17 rfl rfl)
theorem dX8_at_68 : decode cX8_at 68 = .ok (.astore_n 3, 1) := dk_78 (dk_at dksX8_at_2 20 rfl rfl)
theorem dX8_at_69 : decode cX8_at 69 = .ok (.iload_n 2, 1) := dk_28 (dk_at dksX8_at_2 21 rfl rfl)
theorem dX8_at_70 : decode cX8_at 70 = .ok (.ifCond .eq 11, 3) := dk_153 0 11 (dk_at dksX8_at_3 0 rfl rfl)
theorem dX8_at_73 : decode cX8_at 73 = .ok (.aload_n 3, 1) := dk_45 (dk_at dksX8_at_3 3 rfl rfl)
theorem dX8_at_74 : decode cX8_at 74 = .ok (.getfield 32, 3) := dk_180 0 32 (dk_at dksX8_at_3 4 rfl rfl)
theorem dX8_at_77 : decode cX8_at 77 = .ok (.iload_n 1, 1) := dk_27 (dk_at dksX8_at_3 7 rfl rfl)
theorem dX8_at_78 : decode cX8_at 78 = .ok (.if_icmp .ne 8, 3) := dk_160 0 8 (dk_at dksX8_at_3 8 rfl rfl)
theorem dX8_at_81 : decode cX8_at 81 = .ok (.aload_n 3, 1) := dk_45 (dk_at dksX8_at_3 11 rfl rfl)
theorem dX8_at_82 : decode cX8_at 82 = .ok (.getfield 43, 3) := dk_180 0 43 (dk_at dksX8_at_3 12 rfl rfl)
theorem dX8_at_85 : decode cX8_at 85 = .ok (.ireturn, 1) := dk_172 (dk_at dksX8_at_3 15 rfl rfl)
theorem dX8_at_86 : decode cX8_at 86 = .ok (.aload_n 0, 1) := dk_42 (dk_at dksX8_at_3 16 rfl rfl)
theorem dX8_at_87 : decode cX8_at 87 = .ok (.getfield 10, 3) := dk_180 0 10 (dk_at dksX8_at_3 17 rfl rfl)
theorem dX8_at_90 : decode cX8_at 90 = .ok (.iload_n 2, 1) := dk_28 (dk_at dksX8_at_3 20 rfl rfl)
theorem dX8_at_91 : decode cX8_at 91 = .ok (.iconst 1, 1) := dk_4 (dk_at dksX8_at_3 21 rfl rfl)
theorem dX8_at_92 : decode cX8_at 92 = .ok (.isub, 1) := dk_100 (dk_at dksX8_at_3 22 rfl rfl)
theorem dX8_at_93 : decode cX8_at 93 = .ok (.invokeinterface 26 2, 5) := by decide +kernel
theorem dX8_at_98 : decode cX8_at 98 = .ok (.checkcast 30, 3) := dk_192 0 30 (dk_at dksX8_at_4 5 rfl rfl)
theorem dX8_at_101 : decode cX8_at 101 = .ok (.astore 4, 2) := dk_58 4 (dk_at dksX8_at_4 8 rfl rfl)
theorem dX8_at_103 : decode cX8_at 103 = .ok (.aload 4, 2) := dk_25 4 (dk_at dksX8_at_4 10 rfl rfl)
theorem dX8_at_105 : decode cX8_at 105 = .ok (.getfield 46, 3) := dk_180 0 46 (dk_at dksX8_at_4 12 rfl rfl)
theorem dX8_at_108 : decode cX8_at 108 = .ok (.aload 4, 2) := dk_25 4 (dk_at dksX8_at_4 15 rfl rfl)
theorem dX8_at_110 : decode cX8_at 110 = .ok (.getfield 43, 3) := dk_180 0 43 (dk_at dksX8_at_4 17 rfl rfl)
theorem dX8_at_113 : decode cX8_at 113 = .ok (.aload_n 3, 1) := dk_45 (dk_at dksX8_at_4 20 rfl rfl)
theorem dX8_at_114 : decode cX8_at 114 = .ok (.getfield 43, 3) := dk_180 0 43 (dk_at dksX8_at_4 21 rfl rfl)
theorem dX8_at_117 : decode cX8_at 117 = .ok (.iload_n 1, 1) := dk_27 (dk_at dksX8_at_5 0 rfl rfl)
theorem dX8_at_118 : decode cX8_at 118 = .ok (.aload 4, 2) := dk_25 4 (dk_at dksX8_at_5 1 rfl rfl)
theorem dX8_at_120 : decode cX8_at 120 = .ok (.getfield 32, 3) := dk_180 0 32 (dk_at dksX8_at_5 3 rfl rfl)
theorem dX8_at_123 : decode cX8_at 123 = .ok (.isub, 1) := dk_100 (dk_at dksX8_at_5 6 rfl rfl)
theorem dX8_at_124 : decode cX8_at 124 = .ok (.aload_n 3, 1) := dk_45 (dk_at dksX8_at_5 7 rfl rfl)
theorem dX8_at_125 : decode cX8_at 125 = .ok (.getfield 32, 3) := dk_180 0 32 (dk_at dksX8_at_5 8 rfl rfl)
theorem dX8_at_128 : decode cX8_at 128 = .ok (.aload 4, 2) := dk_25 4 (dk_at dksX8_at_5 11 rfl rfl)
theorem dX8_at_130 : decode cX8_at 130 = .ok (.getfield 32, 3) := dk_180 0 32 (dk_at dksX8_at_5 13 rfl rfl)
theorem dX8_at_133 : decode cX8_at 133 = .ok (.isub, 1) := dk_100 (dk_at dksX8_at_5 16 rfl rfl)
theorem dX8_at_134 : decode cX8_at 134 = .ok (.invokeinterface 50 5, 5) := by decide +kernel
theorem dX8_at_139 : decode cX8_at 139 = .ok (.ireturn, 1) := dk_172 (dk_at dksX8_at_5 22 rfl rfl)
theorem q90 : (Jvm.Cond.initialized "Shapelayer$Keyed") ∈ lw_all := lw_g (lw_at lw_m1 32 rfl) rfl
theorem q711 : (Jvm.Cond.selects "Shapelayer$Keyed" ({ cls := "java/lang/Object", name := "getClass", desc := "()Ljava/lang/Class;" } : Jvm.MethodName) ({ cls := "java/lang/Object", name := "getClass", desc := "()Ljava/lang/Class;" } : Jvm.MethodName)) ∈ lw_all := lw_g (lw_at lw_m3 173 rfl) rfl
theorem q809 : (Jvm.Cond.instantiable "Shapelayer$Keyed" (2 : Nat)) ∈ lw_all := lw_g (lw_at lw_m4 31 rfl) rfl
theorem q813 : (Jvm.Cond.instanceMethod ({ cls := "Shapelayer$Keyed", name := "<init>", desc := "(I)V" } : Jvm.MethodName)) ∈ lw_all := lw_g (lw_at lw_m4 35 rfl) rfl
theorem q814 : (Jvm.Cond.code ({ cls := "Shapelayer$Keyed", name := "<init>", desc := "(I)V" } : Jvm.MethodName) prog_11_method_1_code (2 : Nat) (Option.none : Option Jvm.ClassFile.FieldType)) ∈ lw_all := lw_g (lw_at lw_m4 36 rfl) rfl
theorem q815 : (Jvm.Cond.methodLink "Shapelayer$Keyed" (1 : Nat) ({ cls := "java/lang/Object", name := "<init>", desc := "()V" } : Jvm.MethodName)) ∈ lw_all := lw_g (lw_at lw_m4 37 rfl) rfl
theorem q816 : (Jvm.Cond.classLink "Shapelayer$Keyed" (7 : Nat) "java/util/ArrayList") ∈ lw_all := lw_g (lw_at lw_m4 38 rfl) rfl
theorem q817 : (Jvm.Cond.methodLink "Shapelayer$Keyed" (9 : Nat) ({ cls := "java/util/ArrayList", name := "<init>", desc := "()V" } : Jvm.MethodName)) ∈ lw_all := lw_g (lw_at lw_m4 39 rfl) rfl
theorem q818 : (Jvm.Cond.fieldLink "Shapelayer$Keyed" (16 : Nat) "Shapelayer$Keyed" "first" "I") ∈ lw_all := lw_g (lw_at lw_m4 40 rfl) rfl
theorem q819 : (Jvm.Cond.fieldLink "Shapelayer$Keyed" (10 : Nat) "Shapelayer$Keyed" "keys" "Ljava/util/List;") ∈ lw_all := lw_g (lw_at lw_m4 41 rfl) rfl
theorem q822 : (Jvm.Cond.laysFinal "Shapelayer$Keyed" "Shapelayer$Keyed" "first" "I") ∈ lw_all := lw_g (lw_at lw_m4 44 rfl) rfl
theorem q823 : (Jvm.Cond.soleField "Shapelayer$Keyed" "first") ∈ lw_all := lw_g (lw_at lw_m4 45 rfl) rfl
theorem q824 : (Jvm.Cond.laysFinal "Shapelayer$Keyed" "Shapelayer$Keyed" "keys" "Ljava/util/List;") ∈ lw_all := lw_g (lw_at lw_m4 46 rfl) rfl
theorem q825 : (Jvm.Cond.soleField "Shapelayer$Keyed" "keys") ∈ lw_all := lw_g (lw_at lw_m4 47 rfl) rfl
theorem q826 : (Jvm.Cond.superclass "Shapelayer$Keyed" "java/lang/Object") ∈ lw_all := lw_g (lw_at lw_m4 48 rfl) rfl
theorem q1098 : (Jvm.Cond.selects "Shapelayer$Keyed" ({ cls := "java/lang/Object", name := "equals", desc := "(Ljava/lang/Object;)Z" } : Jvm.MethodName) ({ cls := "java/lang/Object", name := "equals", desc := "(Ljava/lang/Object;)Z" } : Jvm.MethodName)) ∈ lw_all := lw_g (lw_at lw_m5 80 rfl) rfl
theorem q1234 : (Jvm.Cond.instanceMethod ({ cls := "Shapelayer$Keyed", name := "has", desc := "(I)Z" } : Jvm.MethodName)) ∈ lw_all := lw_g (lw_at lw_m5 216 rfl) rfl
theorem q1235 : (Jvm.Cond.selects "Shapelayer$Keyed" ({ cls := "Shapelayer$Keyed", name := "has", desc := "(I)Z" } : Jvm.MethodName) ({ cls := "Shapelayer$Keyed", name := "has", desc := "(I)Z" } : Jvm.MethodName)) ∈ lw_all := lw_g (lw_at lw_m5 217 rfl) rfl
theorem q1236 : (Jvm.Cond.code ({ cls := "Shapelayer$Keyed", name := "has", desc := "(I)Z" } : Jvm.MethodName) prog_11_method_3_code (3 : Nat) (Option.some Jvm.ClassFile.FieldType.boolean)) ∈ lw_all := lw_g (lw_at lw_m5 218 rfl) rfl
theorem q1237 : (Jvm.Cond.methodLink "Shapelayer$Keyed" (35 : Nat) ({ cls := "Shapelayer$Keyed", name := "placeOf", desc := "(I)I" } : Jvm.MethodName)) ∈ lw_all := lw_g (lw_at lw_m5 219 rfl) rfl
theorem q1238 : (Jvm.Cond.instanceMethod ({ cls := "Shapelayer$Keyed", name := "placeOf", desc := "(I)I" } : Jvm.MethodName)) ∈ lw_all := lw_g (lw_at lw_m5 220 rfl) rfl
theorem q1239 : (Jvm.Cond.selects "Shapelayer$Keyed" ({ cls := "Shapelayer$Keyed", name := "placeOf", desc := "(I)I" } : Jvm.MethodName) ({ cls := "Shapelayer$Keyed", name := "placeOf", desc := "(I)I" } : Jvm.MethodName)) ∈ lw_all := lw_g (lw_at lw_m5 221 rfl) rfl
theorem q1240 : (Jvm.Cond.code ({ cls := "Shapelayer$Keyed", name := "placeOf", desc := "(I)I" } : Jvm.MethodName) prog_11_method_2_code (3 : Nat) (Option.some Jvm.ClassFile.FieldType.int)) ∈ lw_all := lw_g (lw_at lw_m5 222 rfl) rfl
theorem q1241 : (Jvm.Cond.interfaceEntry "Shapelayer$Keyed" (20 : Nat)) ∈ lw_tbl := lw_at lw_m5 223 rfl
theorem q1242 : (Jvm.Cond.methodLink "Shapelayer$Keyed" (20 : Nat) ({ cls := "java/util/List", name := "size", desc := "()I" } : Jvm.MethodName)) ∈ lw_all := lw_g (lw_at lw_m5 224 rfl) rfl
theorem q1243 : (Jvm.Cond.interfaceEntry "Shapelayer$Keyed" (26 : Nat)) ∈ lw_tbl := lw_at lw_m5 225 rfl
theorem q1244 : (Jvm.Cond.methodLink "Shapelayer$Keyed" (26 : Nat) ({ cls := "java/util/List", name := "get", desc := "(I)Ljava/lang/Object;" } : Jvm.MethodName)) ∈ lw_all := lw_g (lw_at lw_m5 226 rfl) rfl
theorem q1245 : (Jvm.Cond.classLink "Shapelayer$Keyed" (30 : Nat) "Shapelayer$Key") ∈ lw_all := lw_g (lw_at lw_m5 227 rfl) rfl
theorem q1278 : (Jvm.Cond.fieldLinkNest "Shapelayer$Keyed" (32 : Nat) "Shapelayer$Key" "time" "I" "Shapelayer") ∈ lw_tbl := lw_at lw_m6 20 rfl
theorem q1280 : (Jvm.Cond.fieldLinkNest "Shapelayer$Keyed" (43 : Nat) "Shapelayer$Key" "number" "I" "Shapelayer") ∈ lw_tbl := lw_at lw_m6 22 rfl
theorem q1283 : (Jvm.Cond.fieldLinkNest "Shapelayer$Keyed" (46 : Nat) "Shapelayer$Key" "easing" "LShapelayer$Easing;" "Shapelayer") ∈ lw_tbl := lw_at lw_m6 25 rfl
theorem q1319 : (Jvm.Cond.instanceMethod ({ cls := "Shapelayer$Keyed", name := "at", desc := "(I)I" } : Jvm.MethodName)) ∈ lw_all := lw_g (lw_at lw_m6 61 rfl) rfl
theorem q1320 : (Jvm.Cond.selects "Shapelayer$Keyed" ({ cls := "Shapelayer$Keyed", name := "at", desc := "(I)I" } : Jvm.MethodName) ({ cls := "Shapelayer$Keyed", name := "at", desc := "(I)I" } : Jvm.MethodName)) ∈ lw_all := lw_g (lw_at lw_m6 62 rfl) rfl
theorem q1321 : (Jvm.Cond.code ({ cls := "Shapelayer$Keyed", name := "at", desc := "(I)I" } : Jvm.MethodName) prog_11_method_4_code (5 : Nat) (Option.some Jvm.ClassFile.FieldType.int)) ∈ lw_all := lw_g (lw_at lw_m6 63 rfl) rfl
theorem q1322 : (Jvm.Cond.interfaceEntry "Shapelayer$Keyed" (39 : Nat)) ∈ lw_tbl := lw_at lw_m6 64 rfl
theorem q1323 : (Jvm.Cond.methodLink "Shapelayer$Keyed" (39 : Nat) ({ cls := "java/util/List", name := "isEmpty", desc := "()Z" } : Jvm.MethodName)) ∈ lw_all := lw_g (lw_at lw_m6 65 rfl) rfl
theorem q1324 : (Jvm.Cond.interfaceEntry "Shapelayer$Keyed" (50 : Nat)) ∈ lw_tbl := lw_at lw_m6 66 rfl
theorem q1325 : (Jvm.Cond.methodLink "Shapelayer$Keyed" (50 : Nat) ({ cls := "Shapelayer$Easing", name := "between", desc := "(IIII)I" } : Jvm.MethodName)) ∈ lw_all := lw_g (lw_at lw_m6 67 rfl) rfl
theorem q2226 : (Jvm.Cond.castable "Shapelayer$Keyed" "java/lang/Object") ∈ lw_tbl := lw_at lw_m10 8 rfl
theorem in_X8 : ∀ w ∈ wsX80, w ∈ lw_all := lw_in wsX80 [822, 824] (by decide +kernel) (by decide +kernel)

/-! Shapelayer$Stroke -/
set_option maxRecDepth 100000
def RX9 : String := "Shapelayer$Stroke"
def TX9 : u_T := fun k => match k with
  | 0 => ("Shapelayer$Layer", "number", "I", true)
  | 1 => ("Shapelayer$Layer", "owner", "LShapelayer$Composition;", true)
  | 2 => ("Shapelayer$Layer", "values", "[LShapelayer$Keyed;", true)
  | 3 => ("Shapelayer$Layer", "parent", "LShapelayer$Layer;", false)
  | 4 => ("Shapelayer$Layer", "matte", "LShapelayer$Layer;", false)
  | 5 => ("Shapelayer$Layer", "isInverted", "Z", false)
  | 6 => ("Shapelayer$Layer", "from", "I", false)
  | 7 => ("Shapelayer$Layer", "end", "I", false)
  | 8 => ("Shapelayer$Coloured", "colour", "I", true)
  | 9 => ("Shapelayer$Stroke", "points", "Ljava/util/List;", true)
  | _ => ("Shapelayer$Stroke", "length", "J", false)
def tyX9 : Nat → FieldType := fun k => match k with
  | 0 => .int
  | 1 => .object "Shapelayer$Composition"
  | 2 => .array (.object "Shapelayer$Keyed")
  | 3 => .object "Shapelayer$Layer"
  | 4 => .object "Shapelayer$Layer"
  | 5 => .boolean
  | 6 => .int
  | 7 => .int
  | 8 => .int
  | 9 => .object "java/util/List"
  | _ => .long
abbrev wsX90 : List Cond := u_ws RX9 TX9 11
theorem nmX9 : ∀ a, a < 11 → ∀ b, b < 11 → a ≠ b → (TX9 a).2.1 ≠ (TX9 b).2.1 := by decide +kernel
theorem tyX9_ok : ∀ k, k < 11 → parseFieldDescriptor (TX9 k).2.2.1 = some (tyX9 k) := by decide +kernel
abbrev cX9_init : ByteArray := prog_18_method_1_code
def yX9_init : MethodName := ⟨RX9, "<init>", "(ILShapelayer$Composition;I)V"⟩
def dkwX9_init_0 : List UInt8 := [42, 27, 44, 29, 183, 0, 3, 42, 187, 0, 9, 89, 183, 0, 11, 181, 0, 14, 177]
abbrev dktX9_init_0 : List UInt8 := dkwX9_init_0 ++ []
theorem dksX9_init_0 : cX9_init.data.toList.drop 0 = dktX9_init_0 := by decide +kernel
theorem dX9_init_0 : decode cX9_init 0 = .ok (.aload_n 0, 1) := dk_42 (dk_at dksX9_init_0 0 rfl rfl)
theorem dX9_init_1 : decode cX9_init 1 = .ok (.iload_n 1, 1) := dk_27 (dk_at dksX9_init_0 1 rfl rfl)
theorem dX9_init_2 : decode cX9_init 2 = .ok (.aload_n 2, 1) := dk_44 (dk_at dksX9_init_0 2 rfl rfl)
theorem dX9_init_3 : decode cX9_init 3 = .ok (.iload_n 3, 1) := dk_29 (dk_at dksX9_init_0 3 rfl rfl)
theorem dX9_init_4 : decode cX9_init 4 = .ok (.invokespecial 3, 3) := dk_183 0 3 (dk_at dksX9_init_0 4 rfl rfl)
theorem dX9_init_7 : decode cX9_init 7 = .ok (.aload_n 0, 1) := dk_42 (dk_at dksX9_init_0 7 rfl rfl)
theorem dX9_init_8 : decode cX9_init 8 = .ok (.new 9, 3) := dk_187 0 9 (dk_at dksX9_init_0 8 rfl rfl)
theorem dX9_init_11 : decode cX9_init 11 = .ok (.dup, 1) := dk_89 (dk_at dksX9_init_0 11 rfl rfl)
theorem dX9_init_12 : decode cX9_init 12 = .ok (.invokespecial 11, 3) := dk_183 0 11 (dk_at dksX9_init_0 12 rfl rfl)
theorem dX9_init_15 : decode cX9_init 15 = .ok (.putfield 14, 3) := dk_181 0 14 (dk_at dksX9_init_0 15 rfl rfl)
theorem dX9_init_18 : decode cX9_init 18 = .ok (.return_, 1) := dk_177 (dk_at dksX9_init_0 18 rfl rfl)
abbrev cX9_add : ByteArray := prog_18_method_4_code
def yX9_add : MethodName := ⟨RX9, "add", "(II)I"⟩
def dkwX9_add_2 : List UInt8 := [185, 0, 22, 1, 0, 4, 100, 182, 0, 42, 97, 181, 0, 38, 42, 180, 0, 14, 185, 0, 22, 1, 0, 172]
abbrev dktX9_add_2 : List UInt8 := dkwX9_add_2 ++ []
def dkwX9_add_1 : List UInt8 := [180, 0, 14, 185, 0, 22, 1, 0, 4, 164, 0, 27, 42, 89, 180, 0, 38, 42, 42, 180, 0, 14]
abbrev dktX9_add_1 : List UInt8 := dkwX9_add_1 ++ dktX9_add_2
def dkwX9_add_0 : List UInt8 := [42, 180, 0, 14, 5, 188, 10, 89, 3, 27, 79, 89, 4, 28, 79, 185, 0, 34, 2, 0, 87, 42]
abbrev dktX9_add_0 : List UInt8 := dkwX9_add_0 ++ dktX9_add_1
theorem dksX9_add_0 : cX9_add.data.toList.drop 0 = dktX9_add_0 := by decide +kernel
theorem dksX9_add_1 : cX9_add.data.toList.drop 22 = dktX9_add_1 := dk_seg dksX9_add_0 22 rfl rfl
theorem dksX9_add_2 : cX9_add.data.toList.drop 44 = dktX9_add_2 := dk_seg dksX9_add_1 22 rfl rfl
theorem dX9_add_0 : decode cX9_add 0 = .ok (.aload_n 0, 1) := dk_42 (dk_at dksX9_add_0 0 rfl rfl)
theorem dX9_add_1 : decode cX9_add 1 = .ok (.getfield 14, 3) := dk_180 0 14 (dk_at dksX9_add_0 1 rfl rfl)
theorem dX9_add_4 : decode cX9_add 4 = .ok (.iconst 2, 1) := dk_5 (dk_at dksX9_add_0 4 rfl rfl)
theorem dX9_add_5 : decode cX9_add 5 = .ok (.newarray .int, 2) := dk_188_10 (dk_at dksX9_add_0 5 rfl rfl)
theorem dX9_add_7 : decode cX9_add 7 = .ok (.dup, 1) := dk_89 (dk_at dksX9_add_0 7 rfl rfl)
theorem dX9_add_8 : decode cX9_add 8 = .ok (.iconst 0, 1) := dk_3 (dk_at dksX9_add_0 8 rfl rfl)
theorem dX9_add_9 : decode cX9_add 9 = .ok (.iload_n 1, 1) := dk_27 (dk_at dksX9_add_0 9 rfl rfl)
theorem dX9_add_10 : decode cX9_add 10 = .ok (.iastore, 1) := dk_79 (dk_at dksX9_add_0 10 rfl rfl)
theorem dX9_add_11 : decode cX9_add 11 = .ok (.dup, 1) := dk_89 (dk_at dksX9_add_0 11 rfl rfl)
theorem dX9_add_12 : decode cX9_add 12 = .ok (.iconst 1, 1) := dk_4 (dk_at dksX9_add_0 12 rfl rfl)
theorem dX9_add_13 : decode cX9_add 13 = .ok (.iload_n 2, 1) := dk_28 (dk_at dksX9_add_0 13 rfl rfl)
theorem dX9_add_14 : decode cX9_add 14 = .ok (.iastore, 1) := dk_79 (dk_at dksX9_add_0 14 rfl rfl)
theorem dX9_add_15 : decode cX9_add 15 = .ok (.invokeinterface 34 2, 5) := by decide +kernel
theorem dX9_add_20 : decode cX9_add 20 = .ok (.pop, 1) := dk_87 (dk_at dksX9_add_0 20 rfl rfl)
theorem dX9_add_21 : decode cX9_add 21 = .ok (.aload_n 0, 1) := dk_42 (dk_at dksX9_add_0 21 rfl rfl)
theorem dX9_add_22 : decode cX9_add 22 = .ok (.getfield 14, 3) := dk_180 0 14 (dk_at dksX9_add_1 0 rfl rfl)
theorem dX9_add_25 : decode cX9_add 25 = .ok (.invokeinterface 22 1, 5) := by decide +kernel
theorem dX9_add_30 : decode cX9_add 30 = .ok (.iconst 1, 1) := dk_4 (dk_at dksX9_add_1 8 rfl rfl)
theorem dX9_add_31 : decode cX9_add 31 = .ok (.if_icmp .le 27, 3) := dk_164 0 27 (dk_at dksX9_add_1 9 rfl rfl)
theorem dX9_add_34 : decode cX9_add 34 = .ok (.aload_n 0, 1) := dk_42 (dk_at dksX9_add_1 12 rfl rfl)
theorem dX9_add_35 : decode cX9_add 35 = .ok (.dup, 1) := dk_89 (dk_at dksX9_add_1 13 rfl rfl)
theorem dX9_add_36 : decode cX9_add 36 = .ok (.getfield 38, 3) := dk_180 0 38 (dk_at dksX9_add_1 14 rfl rfl)
theorem dX9_add_39 : decode cX9_add 39 = .ok (.aload_n 0, 1) := dk_42 (dk_at dksX9_add_1 17 rfl rfl)
theorem dX9_add_40 : decode cX9_add 40 = .ok (.aload_n 0, 1) := dk_42 (dk_at dksX9_add_1 18 rfl rfl)
theorem dX9_add_41 : decode cX9_add 41 = .ok (.getfield 14, 3) := dk_180 0 14 (dk_at dksX9_add_1 19 rfl rfl)
theorem dX9_add_44 : decode cX9_add 44 = .ok (.invokeinterface 22 1, 5) := by decide +kernel
theorem dX9_add_49 : decode cX9_add 49 = .ok (.iconst 1, 1) := dk_4 (dk_at dksX9_add_2 5 rfl rfl)
theorem dX9_add_50 : decode cX9_add 50 = .ok (.isub, 1) := dk_100 (dk_at dksX9_add_2 6 rfl rfl)
theorem dX9_add_51 : decode cX9_add 51 = .ok (.invokevirtual 42, 3) := dk_182 0 42 (dk_at dksX9_add_2 7 rfl rfl)
theorem dX9_add_54 : decode cX9_add 54 = .ok (.ladd, 1) := dk_97 (dk_at dksX9_add_2 10 rfl rfl)
theorem dX9_add_55 : decode cX9_add 55 = .ok (.putfield 38, 3) := dk_181 0 38 (dk_at dksX9_add_2 11 rfl rfl)
theorem dX9_add_58 : decode cX9_add 58 = .ok (.aload_n 0, 1) := dk_42 (dk_at dksX9_add_2 14 rfl rfl)
theorem dX9_add_59 : decode cX9_add 59 = .ok (.getfield 14, 3) := dk_180 0 14 (dk_at dksX9_add_2 15 rfl rfl)
theorem dX9_add_62 : decode cX9_add 62 = .ok (.invokeinterface 22 1, 5) := by decide +kernel
theorem dX9_add_67 : decode cX9_add 67 = .ok (.ireturn, 1) := dk_172 (dk_at dksX9_add_2 23 rfl rfl)
abbrev cX9_lengthOf : ByteArray := prog_18_method_5_code
def yX9_lengthOf : MethodName := ⟨RX9, "lengthOf", "(I)J"⟩
def dkwX9_lengthOf_2 : List UInt8 := [46, 44, 4, 46, 100, 184, 0, 54, 96, 133, 105, 173]
abbrev dktX9_lengthOf_2 : List UInt8 := dkwX9_lengthOf_2 ++ []
def dkwX9_lengthOf_1 : List UInt8 := [185, 0, 46, 2, 0, 192, 0, 50, 78, 20, 0, 52, 45, 3, 46, 44, 3, 46, 100, 184, 0, 54, 45, 4]
abbrev dktX9_lengthOf_1 : List UInt8 := dkwX9_lengthOf_1 ++ dktX9_lengthOf_2
def dkwX9_lengthOf_0 : List UInt8 := [42, 180, 0, 14, 27, 4, 100, 185, 0, 46, 2, 0, 192, 0, 50, 77, 42, 180, 0, 14, 27]
abbrev dktX9_lengthOf_0 : List UInt8 := dkwX9_lengthOf_0 ++ dktX9_lengthOf_1
theorem dksX9_lengthOf_0 : cX9_lengthOf.data.toList.drop 0 = dktX9_lengthOf_0 := by decide +kernel
theorem dksX9_lengthOf_1 : cX9_lengthOf.data.toList.drop 21 = dktX9_lengthOf_1 := dk_seg dksX9_lengthOf_0 21 rfl rfl
theorem dksX9_lengthOf_2 : cX9_lengthOf.data.toList.drop 45 = dktX9_lengthOf_2 := dk_seg dksX9_lengthOf_1 24 rfl rfl
theorem dX9_lengthOf_0 : decode cX9_lengthOf 0 = .ok (.aload_n 0, 1) := dk_42 (dk_at dksX9_lengthOf_0 0 rfl rfl)
theorem dX9_lengthOf_1 : decode cX9_lengthOf 1 = .ok (.getfield 14, 3) := dk_180 0 14 (dk_at dksX9_lengthOf_0 1 rfl rfl)
theorem dX9_lengthOf_4 : decode cX9_lengthOf 4 = .ok (.iload_n 1, 1) := dk_27 (dk_at dksX9_lengthOf_0 4 rfl rfl)
theorem dX9_lengthOf_5 : decode cX9_lengthOf 5 = .ok (.iconst 1, 1) := dk_4 (dk_at dksX9_lengthOf_0 5 rfl rfl)
theorem dX9_lengthOf_6 : decode cX9_lengthOf 6 = .ok (.isub, 1) := dk_100 (dk_at dksX9_lengthOf_0 6 rfl rfl)
theorem dX9_lengthOf_7 : decode cX9_lengthOf 7 = .ok (.invokeinterface 46 2, 5) := by decide +kernel
theorem dX9_lengthOf_12 : decode cX9_lengthOf 12 = .ok (.checkcast 50, 3) := dk_192 0 50 (dk_at dksX9_lengthOf_0 12 rfl rfl)
theorem dX9_lengthOf_15 : decode cX9_lengthOf 15 = .ok (.astore_n 2, 1) := dk_77 (dk_at dksX9_lengthOf_0 15 rfl rfl)
theorem dX9_lengthOf_16 : decode cX9_lengthOf 16 = .ok (.aload_n 0, 1) := dk_42 (dk_at dksX9_lengthOf_0 16 rfl rfl)
theorem dX9_lengthOf_17 : decode cX9_lengthOf 17 = .ok (.getfield 14, 3) := dk_180 0 14 (dk_at dksX9_lengthOf_0 17 rfl rfl)
theorem dX9_lengthOf_20 : decode cX9_lengthOf 20 = .ok (.iload_n 1, 1) := dk_27 (dk_at dksX9_lengthOf_0 20 rfl rfl)
theorem dX9_lengthOf_21 : decode cX9_lengthOf 21 = .ok (.invokeinterface 46 2, 5) := by decide +kernel
theorem dX9_lengthOf_26 : decode cX9_lengthOf 26 = .ok (.checkcast 50, 3) := dk_192 0 50 (dk_at dksX9_lengthOf_1 5 rfl rfl)
theorem dX9_lengthOf_29 : decode cX9_lengthOf 29 = .ok (.astore_n 3, 1) := dk_78 (dk_at dksX9_lengthOf_1 8 rfl rfl)
theorem dX9_lengthOf_30 : decode cX9_lengthOf 30 = .ok (.ldc2_w 52, 3) := dk_20 0 52 (dk_at dksX9_lengthOf_1 9 rfl rfl)
theorem dX9_lengthOf_33 : decode cX9_lengthOf 33 = .ok (.aload_n 3, 1) := dk_45 (dk_at dksX9_lengthOf_1 12 rfl rfl)
theorem dX9_lengthOf_34 : decode cX9_lengthOf 34 = .ok (.iconst 0, 1) := dk_3 (dk_at dksX9_lengthOf_1 13 rfl rfl)
theorem dX9_lengthOf_35 : decode cX9_lengthOf 35 = .ok (.iaload, 1) := dk_46 (dk_at dksX9_lengthOf_1 14 rfl rfl)
theorem dX9_lengthOf_36 : decode cX9_lengthOf 36 = .ok (.aload_n 2, 1) := dk_44 (dk_at dksX9_lengthOf_1 15 rfl rfl)
theorem dX9_lengthOf_37 : decode cX9_lengthOf 37 = .ok (.iconst 0, 1) := dk_3 (dk_at dksX9_lengthOf_1 16 rfl rfl)
theorem dX9_lengthOf_38 : decode cX9_lengthOf 38 = .ok (.iaload, 1) := dk_46 (dk_at dksX9_lengthOf_1 17 rfl rfl)
theorem dX9_lengthOf_39 : decode cX9_lengthOf 39 = .ok (.isub, 1) := dk_100 (dk_at dksX9_lengthOf_1 18 rfl rfl)
theorem dX9_lengthOf_40 : decode cX9_lengthOf 40 = .ok (.invokestatic 54, 3) := dk_184 0 54 (dk_at dksX9_lengthOf_1 19 rfl rfl)
theorem dX9_lengthOf_43 : decode cX9_lengthOf 43 = .ok (.aload_n 3, 1) := dk_45 (dk_at dksX9_lengthOf_1 22 rfl rfl)
theorem dX9_lengthOf_44 : decode cX9_lengthOf 44 = .ok (.iconst 1, 1) := dk_4 (dk_at dksX9_lengthOf_1 23 rfl rfl)
theorem dX9_lengthOf_45 : decode cX9_lengthOf 45 = .ok (.iaload, 1) := dk_46 (dk_at dksX9_lengthOf_2 0 rfl rfl)
theorem dX9_lengthOf_46 : decode cX9_lengthOf 46 = .ok (.aload_n 2, 1) := dk_44 (dk_at dksX9_lengthOf_2 1 rfl rfl)
theorem dX9_lengthOf_47 : decode cX9_lengthOf 47 = .ok (.iconst 1, 1) := dk_4 (dk_at dksX9_lengthOf_2 2 rfl rfl)
theorem dX9_lengthOf_48 : decode cX9_lengthOf 48 = .ok (.iaload, 1) := dk_46 (dk_at dksX9_lengthOf_2 3 rfl rfl)
theorem dX9_lengthOf_49 : decode cX9_lengthOf 49 = .ok (.isub, 1) := dk_100 (dk_at dksX9_lengthOf_2 4 rfl rfl)
theorem dX9_lengthOf_50 : decode cX9_lengthOf 50 = .ok (.invokestatic 54, 3) := dk_184 0 54 (dk_at dksX9_lengthOf_2 5 rfl rfl)
theorem dX9_lengthOf_53 : decode cX9_lengthOf 53 = .ok (.iadd, 1) := dk_96 (dk_at dksX9_lengthOf_2 8 rfl rfl)
theorem dX9_lengthOf_54 : decode cX9_lengthOf 54 = .ok (.i2l, 1) := dk_133 (dk_at dksX9_lengthOf_2 9 rfl rfl)
theorem dX9_lengthOf_55 : decode cX9_lengthOf 55 = .ok (.lmul, 1) := dk_105 (dk_at dksX9_lengthOf_2 10 rfl rfl)
theorem dX9_lengthOf_56 : decode cX9_lengthOf 56 = .ok (.lreturn, 1) := dk_173 (dk_at dksX9_lengthOf_2 11 rfl rfl)
abbrev cX9_left : ByteArray := prog_18_method_7_code
def yX9_left : MethodName := ⟨RX9, "left", "(I)I"⟩
def dkwX9_left_0 : List UInt8 := [9, 42, 8, 27, 182, 0, 74, 42, 7, 27, 182, 0, 74, 101, 184, 0, 71, 136, 172]
abbrev dktX9_left_0 : List UInt8 := dkwX9_left_0 ++ []
theorem dksX9_left_0 : cX9_left.data.toList.drop 0 = dktX9_left_0 := by decide +kernel
theorem dX9_left_0 : decode cX9_left 0 = .ok (.lconst 0, 1) := dk_9 (dk_at dksX9_left_0 0 rfl rfl)
theorem dX9_left_1 : decode cX9_left 1 = .ok (.aload_n 0, 1) := dk_42 (dk_at dksX9_left_0 1 rfl rfl)
theorem dX9_left_2 : decode cX9_left 2 = .ok (.iconst 5, 1) := dk_8 (dk_at dksX9_left_0 2 rfl rfl)
theorem dX9_left_3 : decode cX9_left 3 = .ok (.iload_n 1, 1) := dk_27 (dk_at dksX9_left_0 3 rfl rfl)
theorem dX9_left_4 : decode cX9_left 4 = .ok (.invokevirtual 74, 3) := dk_182 0 74 (dk_at dksX9_left_0 4 rfl rfl)
theorem dX9_left_7 : decode cX9_left 7 = .ok (.aload_n 0, 1) := dk_42 (dk_at dksX9_left_0 7 rfl rfl)
theorem dX9_left_8 : decode cX9_left 8 = .ok (.iconst 4, 1) := dk_7 (dk_at dksX9_left_0 8 rfl rfl)
theorem dX9_left_9 : decode cX9_left 9 = .ok (.iload_n 1, 1) := dk_27 (dk_at dksX9_left_0 9 rfl rfl)
theorem dX9_left_10 : decode cX9_left 10 = .ok (.invokevirtual 74, 3) := dk_182 0 74 (dk_at dksX9_left_0 10 rfl rfl)
theorem dX9_left_13 : decode cX9_left 13 = .ok (.lsub, 1) := dk_101 (dk_at dksX9_left_0 13 rfl rfl)
theorem dX9_left_14 : decode cX9_left 14 = .ok (.invokestatic 71, 3) := dk_184 0 71 (dk_at dksX9_left_0 14 rfl rfl)
theorem dX9_left_17 : decode cX9_left 17 = .ok (.l2i, 1) := dk_136 (dk_at dksX9_left_0 17 rfl rfl)
theorem dX9_left_18 : decode cX9_left 18 = .ok (.ireturn, 1) := dk_172 (dk_at dksX9_left_0 18 rfl rfl)
abbrev cX9_cut : ByteArray := prog_18_method_6_code
def yX9_cut : MethodName := ⟨RX9, "cut", "(II)J"⟩
def dkwX9_cut_1 : List UInt8 := [184, 0, 68, 184, 0, 71, 173]
abbrev dktX9_cut_1 : List UInt8 := dkwX9_cut_1 ++ []
def dkwX9_cut_0 : List UInt8 := [9, 42, 180, 0, 38, 42, 180, 0, 38, 42, 27, 28, 182, 0, 60, 133, 105, 20, 0, 52, 184, 0, 64]
abbrev dktX9_cut_0 : List UInt8 := dkwX9_cut_0 ++ dktX9_cut_1
theorem dksX9_cut_0 : cX9_cut.data.toList.drop 0 = dktX9_cut_0 := by decide +kernel
theorem dksX9_cut_1 : cX9_cut.data.toList.drop 23 = dktX9_cut_1 := dk_seg dksX9_cut_0 23 rfl rfl
theorem dX9_cut_0 : decode cX9_cut 0 = .ok (.lconst 0, 1) := dk_9 (dk_at dksX9_cut_0 0 rfl rfl)
theorem dX9_cut_1 : decode cX9_cut 1 = .ok (.aload_n 0, 1) := dk_42 (dk_at dksX9_cut_0 1 rfl rfl)
theorem dX9_cut_2 : decode cX9_cut 2 = .ok (.getfield 38, 3) := dk_180 0 38 (dk_at dksX9_cut_0 2 rfl rfl)
theorem dX9_cut_5 : decode cX9_cut 5 = .ok (.aload_n 0, 1) := dk_42 (dk_at dksX9_cut_0 5 rfl rfl)
theorem dX9_cut_6 : decode cX9_cut 6 = .ok (.getfield 38, 3) := dk_180 0 38 (dk_at dksX9_cut_0 6 rfl rfl)
theorem dX9_cut_9 : decode cX9_cut 9 = .ok (.aload_n 0, 1) := dk_42 (dk_at dksX9_cut_0 9 rfl rfl)
theorem dX9_cut_10 : decode cX9_cut 10 = .ok (.iload_n 1, 1) := dk_27 (dk_at dksX9_cut_0 10 rfl rfl)
theorem dX9_cut_11 : decode cX9_cut 11 = .ok (.iload_n 2, 1) := dk_28 (dk_at dksX9_cut_0 11 rfl rfl)
theorem dX9_cut_12 : decode cX9_cut 12 = .ok (.invokevirtual 60, 3) := dk_182 0 60 (dk_at dksX9_cut_0 12 rfl rfl)
theorem dX9_cut_15 : decode cX9_cut 15 = .ok (.i2l, 1) := dk_133 (dk_at dksX9_cut_0 15 rfl rfl)
theorem dX9_cut_16 : decode cX9_cut 16 = .ok (.lmul, 1) := dk_105 (dk_at dksX9_cut_0 16 rfl rfl)
theorem dX9_cut_17 : decode cX9_cut 17 = .ok (.ldc2_w 52, 3) := dk_20 0 52 (dk_at dksX9_cut_0 17 rfl rfl)
theorem dX9_cut_20 : decode cX9_cut 20 = .ok (.invokestatic 64, 3) := dk_184 0 64 (dk_at dksX9_cut_0 20 rfl rfl)
theorem dX9_cut_23 : decode cX9_cut 23 = .ok (.invokestatic 68, 3) := dk_184 0 68 (dk_at dksX9_cut_1 0 rfl rfl)
theorem dX9_cut_26 : decode cX9_cut 26 = .ok (.invokestatic 71, 3) := dk_184 0 71 (dk_at dksX9_cut_1 3 rfl rfl)
theorem dX9_cut_29 : decode cX9_cut 29 = .ok (.lreturn, 1) := dk_173 (dk_at dksX9_cut_1 6 rfl rfl)
abbrev cX9_draw : ByteArray := prog_18_method_8_code
def yX9_draw : MethodName := ⟨RX9, "draw", "(ILShapelayer$Outer;LShapelayer$Raster;)V"⟩
def dkwX9_draw_6 : List UInt8 := [182, 0, 88, 42, 45, 180, 0, 82, 45, 180, 0, 92, 45, 182, 0, 95, 132, 10, 1, 167, 255, 117, 177]
abbrev dktX9_draw_6 : List UInt8 := dkwX9_draw_6 ++ []
def dkwX9_draw_5 : List UInt8 := [44, 42, 21, 10, 3, 22, 15, 182, 0, 78, 42, 21, 10, 4, 22, 15, 182, 0, 78, 45, 180, 0, 92]
abbrev dktX9_draw_5 : List UInt8 := dkwX9_draw_5 ++ dktX9_draw_6
def dkwX9_draw_4 : List UInt8 := [3, 22, 13, 182, 0, 78, 42, 21, 10, 4, 22, 13, 182, 0, 78, 45, 180, 0, 82, 182, 0, 88, 42, 27]
abbrev dktX9_draw_4 : List UInt8 := dkwX9_draw_4 ++ dktX9_draw_5
def dkwX9_draw_3 : List UInt8 := [22, 8, 22, 11, 97, 55, 8, 22, 15, 22, 13, 148, 157, 0, 6, 167, 0, 72, 42, 27, 44, 42, 21, 10]
abbrev dktX9_draw_3 : List UInt8 := dkwX9_draw_3 ++ dktX9_draw_4
def dkwX9_draw_2 : List UInt8 := [184, 0, 71, 22, 8, 101, 55, 13, 22, 6, 22, 8, 22, 11, 97, 184, 0, 68, 22, 8, 101, 55, 15]
abbrev dktX9_draw_2 : List UInt8 := dkwX9_draw_2 ++ dktX9_draw_3
def dkwX9_draw_1 : List UInt8 := [42, 180, 0, 14, 185, 0, 22, 1, 0, 162, 0, 131, 42, 21, 10, 182, 0, 42, 55, 11, 22, 4, 22, 8]
abbrev dktX9_draw_1 : List UInt8 := dkwX9_draw_1 ++ dktX9_draw_2
def dkwX9_draw_0 : List UInt8 := [42, 7, 27, 182, 0, 74, 55, 4, 42, 8, 27, 182, 0, 74, 55, 6, 9, 55, 8, 4, 54, 10, 21, 10]
abbrev dktX9_draw_0 : List UInt8 := dkwX9_draw_0 ++ dktX9_draw_1
theorem dksX9_draw_0 : cX9_draw.data.toList.drop 0 = dktX9_draw_0 := by decide +kernel
theorem dksX9_draw_1 : cX9_draw.data.toList.drop 24 = dktX9_draw_1 := dk_seg dksX9_draw_0 24 rfl rfl
theorem dksX9_draw_2 : cX9_draw.data.toList.drop 48 = dktX9_draw_2 := dk_seg dksX9_draw_1 24 rfl rfl
theorem dksX9_draw_3 : cX9_draw.data.toList.drop 71 = dktX9_draw_3 := dk_seg dksX9_draw_2 23 rfl rfl
theorem dksX9_draw_4 : cX9_draw.data.toList.drop 95 = dktX9_draw_4 := dk_seg dksX9_draw_3 24 rfl rfl
theorem dksX9_draw_5 : cX9_draw.data.toList.drop 119 = dktX9_draw_5 := dk_seg dksX9_draw_4 24 rfl rfl
theorem dksX9_draw_6 : cX9_draw.data.toList.drop 142 = dktX9_draw_6 := dk_seg dksX9_draw_5 23 rfl rfl
theorem dX9_draw_0 : decode cX9_draw 0 = .ok (.aload_n 0, 1) := dk_42 (dk_at dksX9_draw_0 0 rfl rfl)
theorem dX9_draw_1 : decode cX9_draw 1 = .ok (.iconst 4, 1) := dk_7 (dk_at dksX9_draw_0 1 rfl rfl)
theorem dX9_draw_2 : decode cX9_draw 2 = .ok (.iload_n 1, 1) := dk_27 (dk_at dksX9_draw_0 2 rfl rfl)
theorem dX9_draw_3 : decode cX9_draw 3 = .ok (.invokevirtual 74, 3) := dk_182 0 74 (dk_at dksX9_draw_0 3 rfl rfl)
theorem dX9_draw_6 : decode cX9_draw 6 = .ok (.lstore 4, 2) := dk_55 4 (dk_at dksX9_draw_0 6 rfl rfl)
theorem dX9_draw_8 : decode cX9_draw 8 = .ok (.aload_n 0, 1) := dk_42 (dk_at dksX9_draw_0 8 rfl rfl)
theorem dX9_draw_9 : decode cX9_draw 9 = .ok (.iconst 5, 1) := dk_8 (dk_at dksX9_draw_0 9 rfl rfl)
theorem dX9_draw_10 : decode cX9_draw 10 = .ok (.iload_n 1, 1) := dk_27 (dk_at dksX9_draw_0 10 rfl rfl)
theorem dX9_draw_11 : decode cX9_draw 11 = .ok (.invokevirtual 74, 3) := dk_182 0 74 (dk_at dksX9_draw_0 11 rfl rfl)
theorem dX9_draw_14 : decode cX9_draw 14 = .ok (.lstore 6, 2) := dk_55 6 (dk_at dksX9_draw_0 14 rfl rfl)
theorem dX9_draw_16 : decode cX9_draw 16 = .ok (.lconst 0, 1) := dk_9 (dk_at dksX9_draw_0 16 rfl rfl)
theorem dX9_draw_17 : decode cX9_draw 17 = .ok (.lstore 8, 2) := dk_55 8 (dk_at dksX9_draw_0 17 rfl rfl)
theorem dX9_draw_19 : decode cX9_draw 19 = .ok (.iconst 1, 1) := dk_4 (dk_at dksX9_draw_0 19 rfl rfl)
theorem dX9_draw_20 : decode cX9_draw 20 = .ok (.istore 10, 2) := dk_54 10 (dk_at dksX9_draw_0 20 rfl rfl)
theorem dX9_draw_22 : decode cX9_draw 22 = .ok (.iload 10, 2) := dk_21 10 (dk_at dksX9_draw_0 22 rfl rfl)
theorem dX9_draw_24 : decode cX9_draw 24 = .ok (.aload_n 0, 1) := dk_42 (dk_at dksX9_draw_1 0 rfl rfl)
theorem dX9_draw_25 : decode cX9_draw 25 = .ok (.getfield 14, 3) := dk_180 0 14 (dk_at dksX9_draw_1 1 rfl rfl)
theorem dX9_draw_28 : decode cX9_draw 28 = .ok (.invokeinterface 22 1, 5) := by decide +kernel
theorem dX9_draw_33 : decode cX9_draw 33 = .ok (.if_icmp .ge 131, 3) := dk_162 0 131 (dk_at dksX9_draw_1 9 rfl rfl)
theorem dX9_draw_36 : decode cX9_draw 36 = .ok (.aload_n 0, 1) := dk_42 (dk_at dksX9_draw_1 12 rfl rfl)
theorem dX9_draw_37 : decode cX9_draw 37 = .ok (.iload 10, 2) := dk_21 10 (dk_at dksX9_draw_1 13 rfl rfl)
theorem dX9_draw_39 : decode cX9_draw 39 = .ok (.invokevirtual 42, 3) := dk_182 0 42 (dk_at dksX9_draw_1 15 rfl rfl)
theorem dX9_draw_42 : decode cX9_draw 42 = .ok (.lstore 11, 2) := dk_55 11 (dk_at dksX9_draw_1 18 rfl rfl)
theorem dX9_draw_44 : decode cX9_draw 44 = .ok (.lload 4, 2) := dk_22 4 (dk_at dksX9_draw_1 20 rfl rfl)
theorem dX9_draw_46 : decode cX9_draw 46 = .ok (.lload 8, 2) := dk_22 8 (dk_at dksX9_draw_1 22 rfl rfl)
theorem dX9_draw_48 : decode cX9_draw 48 = .ok (.invokestatic 71, 3) := dk_184 0 71 (dk_at dksX9_draw_2 0 rfl rfl)
theorem dX9_draw_51 : decode cX9_draw 51 = .ok (.lload 8, 2) := dk_22 8 (dk_at dksX9_draw_2 3 rfl rfl)
theorem dX9_draw_53 : decode cX9_draw 53 = .ok (.lsub, 1) := dk_101 (dk_at dksX9_draw_2 5 rfl rfl)
theorem dX9_draw_54 : decode cX9_draw 54 = .ok (.lstore 13, 2) := dk_55 13 (dk_at dksX9_draw_2 6 rfl rfl)
theorem dX9_draw_56 : decode cX9_draw 56 = .ok (.lload 6, 2) := dk_22 6 (dk_at dksX9_draw_2 8 rfl rfl)
theorem dX9_draw_58 : decode cX9_draw 58 = .ok (.lload 8, 2) := dk_22 8 (dk_at dksX9_draw_2 10 rfl rfl)
theorem dX9_draw_60 : decode cX9_draw 60 = .ok (.lload 11, 2) := dk_22 11 (dk_at dksX9_draw_2 12 rfl rfl)
theorem dX9_draw_62 : decode cX9_draw 62 = .ok (.ladd, 1) := dk_97 (dk_at dksX9_draw_2 14 rfl rfl)
theorem dX9_draw_63 : decode cX9_draw 63 = .ok (.invokestatic 68, 3) := dk_184 0 68 (dk_at dksX9_draw_2 15 rfl rfl)
theorem dX9_draw_66 : decode cX9_draw 66 = .ok (.lload 8, 2) := dk_22 8 (dk_at dksX9_draw_2 18 rfl rfl)
theorem dX9_draw_68 : decode cX9_draw 68 = .ok (.lsub, 1) := dk_101 (dk_at dksX9_draw_2 20 rfl rfl)
theorem dX9_draw_69 : decode cX9_draw 69 = .ok (.lstore 15, 2) := dk_55 15 (dk_at dksX9_draw_2 21 rfl rfl)
theorem dX9_draw_71 : decode cX9_draw 71 = .ok (.lload 8, 2) := dk_22 8 (dk_at dksX9_draw_3 0 rfl rfl)
theorem dX9_draw_73 : decode cX9_draw 73 = .ok (.lload 11, 2) := dk_22 11 (dk_at dksX9_draw_3 2 rfl rfl)
theorem dX9_draw_75 : decode cX9_draw 75 = .ok (.ladd, 1) := dk_97 (dk_at dksX9_draw_3 4 rfl rfl)
theorem dX9_draw_76 : decode cX9_draw 76 = .ok (.lstore 8, 2) := dk_55 8 (dk_at dksX9_draw_3 5 rfl rfl)
theorem dX9_draw_78 : decode cX9_draw 78 = .ok (.lload 15, 2) := dk_22 15 (dk_at dksX9_draw_3 7 rfl rfl)
theorem dX9_draw_80 : decode cX9_draw 80 = .ok (.lload 13, 2) := dk_22 13 (dk_at dksX9_draw_3 9 rfl rfl)
theorem dX9_draw_82 : decode cX9_draw 82 = .ok (.lcmp, 1) := dk_148 (dk_at dksX9_draw_3 11 rfl rfl)
theorem dX9_draw_83 : decode cX9_draw 83 = .ok (.ifCond .gt 6, 3) := dk_157 0 6 (dk_at dksX9_draw_3 12 rfl rfl)
theorem dX9_draw_86 : decode cX9_draw 86 = .ok (.goto 72, 3) := dk_167 0 72 (dk_at dksX9_draw_3 15 rfl rfl)
theorem dX9_draw_89 : decode cX9_draw 89 = .ok (.aload_n 0, 1) := dk_42 (dk_at dksX9_draw_3 18 rfl rfl)
theorem dX9_draw_90 : decode cX9_draw 90 = .ok (.iload_n 1, 1) := dk_27 (dk_at dksX9_draw_3 19 rfl rfl)
theorem dX9_draw_91 : decode cX9_draw 91 = .ok (.aload_n 2, 1) := dk_44 (dk_at dksX9_draw_3 20 rfl rfl)
theorem dX9_draw_92 : decode cX9_draw 92 = .ok (.aload_n 0, 1) := dk_42 (dk_at dksX9_draw_3 21 rfl rfl)
theorem dX9_draw_93 : decode cX9_draw 93 = .ok (.iload 10, 2) := dk_21 10 (dk_at dksX9_draw_3 22 rfl rfl)
theorem dX9_draw_95 : decode cX9_draw 95 = .ok (.iconst 0, 1) := dk_3 (dk_at dksX9_draw_4 0 rfl rfl)
theorem dX9_draw_96 : decode cX9_draw 96 = .ok (.lload 13, 2) := dk_22 13 (dk_at dksX9_draw_4 1 rfl rfl)
theorem dX9_draw_98 : decode cX9_draw 98 = .ok (.invokevirtual 78, 3) := dk_182 0 78 (dk_at dksX9_draw_4 3 rfl rfl)
theorem dX9_draw_101 : decode cX9_draw 101 = .ok (.aload_n 0, 1) := dk_42 (dk_at dksX9_draw_4 6 rfl rfl)
theorem dX9_draw_102 : decode cX9_draw 102 = .ok (.iload 10, 2) := dk_21 10 (dk_at dksX9_draw_4 7 rfl rfl)
theorem dX9_draw_104 : decode cX9_draw 104 = .ok (.iconst 1, 1) := dk_4 (dk_at dksX9_draw_4 9 rfl rfl)
theorem dX9_draw_105 : decode cX9_draw 105 = .ok (.lload 13, 2) := dk_22 13 (dk_at dksX9_draw_4 10 rfl rfl)
theorem dX9_draw_107 : decode cX9_draw 107 = .ok (.invokevirtual 78, 3) := dk_182 0 78 (dk_at dksX9_draw_4 12 rfl rfl)
theorem dX9_draw_110 : decode cX9_draw 110 = .ok (.aload_n 3, 1) := dk_45 (dk_at dksX9_draw_4 15 rfl rfl)
theorem dX9_draw_111 : decode cX9_draw 111 = .ok (.getfield 82, 3) := dk_180 0 82 (dk_at dksX9_draw_4 16 rfl rfl)
theorem dX9_draw_114 : decode cX9_draw 114 = .ok (.invokevirtual 88, 3) := dk_182 0 88 (dk_at dksX9_draw_4 19 rfl rfl)
theorem dX9_draw_117 : decode cX9_draw 117 = .ok (.aload_n 0, 1) := dk_42 (dk_at dksX9_draw_4 22 rfl rfl)
theorem dX9_draw_118 : decode cX9_draw 118 = .ok (.iload_n 1, 1) := dk_27 (dk_at dksX9_draw_4 23 rfl rfl)
theorem dX9_draw_119 : decode cX9_draw 119 = .ok (.aload_n 2, 1) := dk_44 (dk_at dksX9_draw_5 0 rfl rfl)
theorem dX9_draw_120 : decode cX9_draw 120 = .ok (.aload_n 0, 1) := dk_42 (dk_at dksX9_draw_5 1 rfl rfl)
theorem dX9_draw_121 : decode cX9_draw 121 = .ok (.iload 10, 2) := dk_21 10 (dk_at dksX9_draw_5 2 rfl rfl)
theorem dX9_draw_123 : decode cX9_draw 123 = .ok (.iconst 0, 1) := dk_3 (dk_at dksX9_draw_5 4 rfl rfl)
theorem dX9_draw_124 : decode cX9_draw 124 = .ok (.lload 15, 2) := dk_22 15 (dk_at dksX9_draw_5 5 rfl rfl)
theorem dX9_draw_126 : decode cX9_draw 126 = .ok (.invokevirtual 78, 3) := dk_182 0 78 (dk_at dksX9_draw_5 7 rfl rfl)
theorem dX9_draw_129 : decode cX9_draw 129 = .ok (.aload_n 0, 1) := dk_42 (dk_at dksX9_draw_5 10 rfl rfl)
theorem dX9_draw_130 : decode cX9_draw 130 = .ok (.iload 10, 2) := dk_21 10 (dk_at dksX9_draw_5 11 rfl rfl)
theorem dX9_draw_132 : decode cX9_draw 132 = .ok (.iconst 1, 1) := dk_4 (dk_at dksX9_draw_5 13 rfl rfl)
theorem dX9_draw_133 : decode cX9_draw 133 = .ok (.lload 15, 2) := dk_22 15 (dk_at dksX9_draw_5 14 rfl rfl)
theorem dX9_draw_135 : decode cX9_draw 135 = .ok (.invokevirtual 78, 3) := dk_182 0 78 (dk_at dksX9_draw_5 16 rfl rfl)
theorem dX9_draw_138 : decode cX9_draw 138 = .ok (.aload_n 3, 1) := dk_45 (dk_at dksX9_draw_5 19 rfl rfl)
theorem dX9_draw_139 : decode cX9_draw 139 = .ok (.getfield 92, 3) := dk_180 0 92 (dk_at dksX9_draw_5 20 rfl rfl)
theorem dX9_draw_142 : decode cX9_draw 142 = .ok (.invokevirtual 88, 3) := dk_182 0 88 (dk_at dksX9_draw_6 0 rfl rfl)
theorem dX9_draw_145 : decode cX9_draw 145 = .ok (.aload_n 0, 1) := dk_42 (dk_at dksX9_draw_6 3 rfl rfl)
theorem dX9_draw_146 : decode cX9_draw 146 = .ok (.aload_n 3, 1) := dk_45 (dk_at dksX9_draw_6 4 rfl rfl)
theorem dX9_draw_147 : decode cX9_draw 147 = .ok (.getfield 82, 3) := dk_180 0 82 (dk_at dksX9_draw_6 5 rfl rfl)
theorem dX9_draw_150 : decode cX9_draw 150 = .ok (.aload_n 3, 1) := dk_45 (dk_at dksX9_draw_6 8 rfl rfl)
theorem dX9_draw_151 : decode cX9_draw 151 = .ok (.getfield 92, 3) := dk_180 0 92 (dk_at dksX9_draw_6 9 rfl rfl)
theorem dX9_draw_154 : decode cX9_draw 154 = .ok (.aload_n 3, 1) := dk_45 (dk_at dksX9_draw_6 12 rfl rfl)
theorem dX9_draw_155 : decode cX9_draw 155 = .ok (.invokevirtual 95, 3) := dk_182 0 95 (dk_at dksX9_draw_6 13 rfl rfl)
theorem dX9_draw_158 : decode cX9_draw 158 = .ok (.iinc 10 1, 3) := dk_132 10 1 (dk_at dksX9_draw_6 16 rfl rfl)
theorem dX9_draw_161 : decode cX9_draw 161 = .ok (.goto (-139), 3) := dk_167 255 117 (dk_at dksX9_draw_6 19 rfl rfl)
theorem dX9_draw_164 : decode cX9_draw 164 = .ok (.return_, 1) := dk_177 (dk_at dksX9_draw_6 22 rfl rfl)
abbrev cX9_along : ByteArray := prog_18_method_9_code
def yX9_along : MethodName := ⟨RX9, "along", "(IIJ)J"⟩
def dkwX9_along_2 : List UInt8 := [33, 105, 97, 173]
abbrev dktX9_along_2 : List UInt8 := dkwX9_along_2 ++ []
def dkwX9_along_1 : List UInt8 := [133, 105, 42, 180, 0, 14, 27, 185, 0, 46, 2, 0, 192, 0, 50, 28, 46, 21, 5, 100, 184, 0, 99, 133]
abbrev dktX9_along_1 : List UInt8 := dkwX9_along_1 ++ dktX9_along_2
def dkwX9_along_0 : List UInt8 := [42, 180, 0, 14, 27, 4, 100, 185, 0, 46, 2, 0, 192, 0, 50, 28, 46, 54, 5, 20, 0, 52, 21, 5]
abbrev dktX9_along_0 : List UInt8 := dkwX9_along_0 ++ dktX9_along_1
theorem dksX9_along_0 : cX9_along.data.toList.drop 0 = dktX9_along_0 := by decide +kernel
theorem dksX9_along_1 : cX9_along.data.toList.drop 24 = dktX9_along_1 := dk_seg dksX9_along_0 24 rfl rfl
theorem dksX9_along_2 : cX9_along.data.toList.drop 48 = dktX9_along_2 := dk_seg dksX9_along_1 24 rfl rfl
theorem dX9_along_0 : decode cX9_along 0 = .ok (.aload_n 0, 1) := dk_42 (dk_at dksX9_along_0 0 rfl rfl)
theorem dX9_along_1 : decode cX9_along 1 = .ok (.getfield 14, 3) := dk_180 0 14 (dk_at dksX9_along_0 1 rfl rfl)
theorem dX9_along_4 : decode cX9_along 4 = .ok (.iload_n 1, 1) := dk_27 (dk_at dksX9_along_0 4 rfl rfl)
theorem dX9_along_5 : decode cX9_along 5 = .ok (.iconst 1, 1) := dk_4 (dk_at dksX9_along_0 5 rfl rfl)
theorem dX9_along_6 : decode cX9_along 6 = .ok (.isub, 1) := dk_100 (dk_at dksX9_along_0 6 rfl rfl)
theorem dX9_along_7 : decode cX9_along 7 = .ok (.invokeinterface 46 2, 5) := by decide +kernel
theorem dX9_along_12 : decode cX9_along 12 = .ok (.checkcast 50, 3) := dk_192 0 50 (dk_at dksX9_along_0 12 rfl rfl)
theorem dX9_along_15 : decode cX9_along 15 = .ok (.iload_n 2, 1) := dk_28 (dk_at dksX9_along_0 15 rfl rfl)
theorem dX9_along_16 : decode cX9_along 16 = .ok (.iaload, 1) := dk_46 (dk_at dksX9_along_0 16 rfl rfl)
theorem dX9_along_17 : decode cX9_along 17 = .ok (.istore 5, 2) := dk_54 5 (dk_at dksX9_along_0 17 rfl rfl)
theorem dX9_along_19 : decode cX9_along 19 = .ok (.ldc2_w 52, 3) := dk_20 0 52 (dk_at dksX9_along_0 19 rfl rfl)
theorem dX9_along_22 : decode cX9_along 22 = .ok (.iload 5, 2) := dk_21 5 (dk_at dksX9_along_0 22 rfl rfl)
theorem dX9_along_24 : decode cX9_along 24 = .ok (.i2l, 1) := dk_133 (dk_at dksX9_along_1 0 rfl rfl)
theorem dX9_along_25 : decode cX9_along 25 = .ok (.lmul, 1) := dk_105 (dk_at dksX9_along_1 1 rfl rfl)
theorem dX9_along_26 : decode cX9_along 26 = .ok (.aload_n 0, 1) := dk_42 (dk_at dksX9_along_1 2 rfl rfl)
theorem dX9_along_27 : decode cX9_along 27 = .ok (.getfield 14, 3) := dk_180 0 14 (dk_at dksX9_along_1 3 rfl rfl)
theorem dX9_along_30 : decode cX9_along 30 = .ok (.iload_n 1, 1) := dk_27 (dk_at dksX9_along_1 6 rfl rfl)
theorem dX9_along_31 : decode cX9_along 31 = .ok (.invokeinterface 46 2, 5) := by decide +kernel
theorem dX9_along_36 : decode cX9_along 36 = .ok (.checkcast 50, 3) := dk_192 0 50 (dk_at dksX9_along_1 12 rfl rfl)
theorem dX9_along_39 : decode cX9_along 39 = .ok (.iload_n 2, 1) := dk_28 (dk_at dksX9_along_1 15 rfl rfl)
theorem dX9_along_40 : decode cX9_along 40 = .ok (.iaload, 1) := dk_46 (dk_at dksX9_along_1 16 rfl rfl)
theorem dX9_along_41 : decode cX9_along 41 = .ok (.iload 5, 2) := dk_21 5 (dk_at dksX9_along_1 17 rfl rfl)
theorem dX9_along_43 : decode cX9_along 43 = .ok (.isub, 1) := dk_100 (dk_at dksX9_along_1 19 rfl rfl)
theorem dX9_along_44 : decode cX9_along 44 = .ok (.invokestatic 99, 3) := dk_184 0 99 (dk_at dksX9_along_1 20 rfl rfl)
theorem dX9_along_47 : decode cX9_along 47 = .ok (.i2l, 1) := dk_133 (dk_at dksX9_along_1 23 rfl rfl)
theorem dX9_along_48 : decode cX9_along 48 = .ok (.lload_n 3, 1) := dk_33 (dk_at dksX9_along_2 0 rfl rfl)
theorem dX9_along_49 : decode cX9_along 49 = .ok (.lmul, 1) := dk_105 (dk_at dksX9_along_2 1 rfl rfl)
theorem dX9_along_50 : decode cX9_along 50 = .ok (.ladd, 1) := dk_97 (dk_at dksX9_along_2 2 rfl rfl)
theorem dX9_along_51 : decode cX9_along 51 = .ok (.lreturn, 1) := dk_173 (dk_at dksX9_along_2 3 rfl rfl)
abbrev cX9_fill : ByteArray := prog_18_method_10_code
def yX9_fill : MethodName := ⟨RX9, "fill", "([J[JLShapelayer$Raster;)V"⟩
def dkwX9_fill_1 : List UInt8 := [20, 0, 52, 184, 0, 64, 44, 4, 47, 20, 0, 52, 184, 0, 64, 42, 180, 0, 102, 182, 0, 106, 177]
abbrev dktX9_fill_1 : List UInt8 := dkwX9_fill_1 ++ []
def dkwX9_fill_0 : List UInt8 := [45, 43, 3, 47, 20, 0, 52, 184, 0, 64, 43, 4, 47, 20, 0, 52, 184, 0, 64, 44, 3, 47]
abbrev dktX9_fill_0 : List UInt8 := dkwX9_fill_0 ++ dktX9_fill_1
theorem dksX9_fill_0 : cX9_fill.data.toList.drop 0 = dktX9_fill_0 := by decide +kernel
theorem dksX9_fill_1 : cX9_fill.data.toList.drop 22 = dktX9_fill_1 := dk_seg dksX9_fill_0 22 rfl rfl
theorem dX9_fill_0 : decode cX9_fill 0 = .ok (.aload_n 3, 1) := dk_45 (dk_at dksX9_fill_0 0 rfl rfl)
theorem dX9_fill_1 : decode cX9_fill 1 = .ok (.aload_n 1, 1) := dk_43 (dk_at dksX9_fill_0 1 rfl rfl)
theorem dX9_fill_2 : decode cX9_fill 2 = .ok (.iconst 0, 1) := dk_3 (dk_at dksX9_fill_0 2 rfl rfl)
theorem dX9_fill_3 : decode cX9_fill 3 = .ok (.laload, 1) := dk_47 (dk_at dksX9_fill_0 3 rfl rfl)
theorem dX9_fill_4 : decode cX9_fill 4 = .ok (.ldc2_w 52, 3) := dk_20 0 52 (dk_at dksX9_fill_0 4 rfl rfl)
theorem dX9_fill_7 : decode cX9_fill 7 = .ok (.invokestatic 64, 3) := dk_184 0 64 (dk_at dksX9_fill_0 7 rfl rfl)
theorem dX9_fill_10 : decode cX9_fill 10 = .ok (.aload_n 1, 1) := dk_43 (dk_at dksX9_fill_0 10 rfl rfl)
theorem dX9_fill_11 : decode cX9_fill 11 = .ok (.iconst 1, 1) := dk_4 (dk_at dksX9_fill_0 11 rfl rfl)
theorem dX9_fill_12 : decode cX9_fill 12 = .ok (.laload, 1) := dk_47 (dk_at dksX9_fill_0 12 rfl rfl)
theorem dX9_fill_13 : decode cX9_fill 13 = .ok (.ldc2_w 52, 3) := dk_20 0 52 (dk_at dksX9_fill_0 13 rfl rfl)
theorem dX9_fill_16 : decode cX9_fill 16 = .ok (.invokestatic 64, 3) := dk_184 0 64 (dk_at dksX9_fill_0 16 rfl rfl)
theorem dX9_fill_19 : decode cX9_fill 19 = .ok (.aload_n 2, 1) := dk_44 (dk_at dksX9_fill_0 19 rfl rfl)
theorem dX9_fill_20 : decode cX9_fill 20 = .ok (.iconst 0, 1) := dk_3 (dk_at dksX9_fill_0 20 rfl rfl)
theorem dX9_fill_21 : decode cX9_fill 21 = .ok (.laload, 1) := dk_47 (dk_at dksX9_fill_0 21 rfl rfl)
theorem dX9_fill_22 : decode cX9_fill 22 = .ok (.ldc2_w 52, 3) := dk_20 0 52 (dk_at dksX9_fill_1 0 rfl rfl)
theorem dX9_fill_25 : decode cX9_fill 25 = .ok (.invokestatic 64, 3) := dk_184 0 64 (dk_at dksX9_fill_1 3 rfl rfl)
theorem dX9_fill_28 : decode cX9_fill 28 = .ok (.aload_n 2, 1) := dk_44 (dk_at dksX9_fill_1 6 rfl rfl)
theorem dX9_fill_29 : decode cX9_fill 29 = .ok (.iconst 1, 1) := dk_4 (dk_at dksX9_fill_1 7 rfl rfl)
theorem dX9_fill_30 : decode cX9_fill 30 = .ok (.laload, 1) := dk_47 (dk_at dksX9_fill_1 8 rfl rfl)
theorem dX9_fill_31 : decode cX9_fill 31 = .ok (.ldc2_w 52, 3) := dk_20 0 52 (dk_at dksX9_fill_1 9 rfl rfl)
theorem dX9_fill_34 : decode cX9_fill 34 = .ok (.invokestatic 64, 3) := dk_184 0 64 (dk_at dksX9_fill_1 12 rfl rfl)
theorem dX9_fill_37 : decode cX9_fill 37 = .ok (.aload_n 0, 1) := dk_42 (dk_at dksX9_fill_1 15 rfl rfl)
theorem dX9_fill_38 : decode cX9_fill 38 = .ok (.getfield 102, 3) := dk_180 0 102 (dk_at dksX9_fill_1 16 rfl rfl)
theorem dX9_fill_41 : decode cX9_fill 41 = .ok (.invokevirtual 106, 3) := dk_182 0 106 (dk_at dksX9_fill_1 19 rfl rfl)
theorem dX9_fill_44 : decode cX9_fill 44 = .ok (.return_, 1) := dk_177 (dk_at dksX9_fill_1 22 rfl rfl)
abbrev cX9_word : ByteArray := prog_18_method_2_code
def yX9_word : MethodName := ⟨RX9, "word", "()Ljava/lang/String;"⟩
theorem dX9_word_0 : decode cX9_word 0 = .ok (.ldc 20, 2) := by decide +kernel
theorem dX9_word_2 : decode cX9_word 2 = .ok (.areturn, 1) := by decide +kernel
abbrev cX9_size : ByteArray := prog_18_method_3_code
def yX9_size : MethodName := ⟨RX9, "size", "()Ljava/lang/String;"⟩
def dkwX9_size_0 : List UInt8 := [42, 180, 0, 14, 185, 0, 22, 1, 0, 184, 0, 28, 176]
abbrev dktX9_size_0 : List UInt8 := dkwX9_size_0 ++ []
theorem dksX9_size_0 : cX9_size.data.toList.drop 0 = dktX9_size_0 := by decide +kernel
theorem dX9_size_0 : decode cX9_size 0 = .ok (.aload_n 0, 1) := dk_42 (dk_at dksX9_size_0 0 rfl rfl)
theorem dX9_size_1 : decode cX9_size 1 = .ok (.getfield 14, 3) := dk_180 0 14 (dk_at dksX9_size_0 1 rfl rfl)
theorem dX9_size_4 : decode cX9_size 4 = .ok (.invokeinterface 22 1, 5) := by decide +kernel
theorem dX9_size_9 : decode cX9_size 9 = .ok (.invokestatic 28, 3) := dk_184 0 28 (dk_at dksX9_size_0 9 rfl rfl)
theorem dX9_size_12 : decode cX9_size 12 = .ok (.areturn, 1) := dk_176 (dk_at dksX9_size_0 12 rfl rfl)
theorem q91 : (Jvm.Cond.initialized "Shapelayer$Stroke") ∈ lw_all := lw_g (lw_at lw_m1 33 rfl) rfl
theorem q183 : (Jvm.Cond.fieldLinkNest "Shapelayer$Stroke" (82 : Nat) "Shapelayer$Raster" "one" "[J" "Shapelayer") ∈ lw_tbl := lw_at lw_m1 125 rfl
theorem q186 : (Jvm.Cond.fieldLinkNest "Shapelayer$Stroke" (92 : Nat) "Shapelayer$Raster" "other" "[J" "Shapelayer") ∈ lw_tbl := lw_at lw_m1 128 rfl
theorem q621 : (Jvm.Cond.selects "Shapelayer$Stroke" ({ cls := "Shapelayer$Layer", name := "keys", desc := "()I" } : Jvm.MethodName) ({ cls := "Shapelayer$Layer", name := "keys", desc := "()I" } : Jvm.MethodName)) ∈ lw_all := lw_g (lw_at lw_m3 83 rfl) rfl
theorem q717 : (Jvm.Cond.selects "Shapelayer$Stroke" ({ cls := "java/lang/Object", name := "getClass", desc := "()Ljava/lang/Class;" } : Jvm.MethodName) ({ cls := "java/lang/Object", name := "getClass", desc := "()Ljava/lang/Class;" } : Jvm.MethodName)) ∈ lw_all := lw_g (lw_at lw_m3 179 rfl) rfl
theorem q833 : (Jvm.Cond.fieldLink "Shapelayer$Stroke" (102 : Nat) "Shapelayer$Stroke" "colour" "I") ∈ lw_all := lw_g (lw_at lw_m4 55 rfl) rfl
theorem q834 : (Jvm.Cond.sameField "Shapelayer$Stroke" "Shapelayer$Coloured" "colour" "I") ∈ lw_all := lw_g (lw_at lw_m4 56 rfl) rfl
theorem q890 : (Jvm.Cond.instantiable "Shapelayer$Stroke" (11 : Nat)) ∈ lw_all := lw_g (lw_at lw_m4 112 rfl) rfl
theorem q892 : (Jvm.Cond.instanceMethod ({ cls := "Shapelayer$Stroke", name := "<init>", desc := "(ILShapelayer$Composition;I)V" } : Jvm.MethodName)) ∈ lw_all := lw_g (lw_at lw_m4 114 rfl) rfl
theorem q893 : (Jvm.Cond.code ({ cls := "Shapelayer$Stroke", name := "<init>", desc := "(ILShapelayer$Composition;I)V" } : Jvm.MethodName) prog_18_method_1_code (4 : Nat) (Option.none : Option Jvm.ClassFile.FieldType)) ∈ lw_all := lw_g (lw_at lw_m4 115 rfl) rfl
theorem q894 : (Jvm.Cond.methodLink "Shapelayer$Stroke" (3 : Nat) ({ cls := "Shapelayer$Coloured", name := "<init>", desc := "(ILShapelayer$Composition;I)V" } : Jvm.MethodName)) ∈ lw_all := lw_g (lw_at lw_m4 116 rfl) rfl
theorem q895 : (Jvm.Cond.classLink "Shapelayer$Stroke" (9 : Nat) "java/util/ArrayList") ∈ lw_all := lw_g (lw_at lw_m4 117 rfl) rfl
theorem q896 : (Jvm.Cond.methodLink "Shapelayer$Stroke" (11 : Nat) ({ cls := "java/util/ArrayList", name := "<init>", desc := "()V" } : Jvm.MethodName)) ∈ lw_all := lw_g (lw_at lw_m4 118 rfl) rfl
theorem q897 : (Jvm.Cond.fieldLink "Shapelayer$Stroke" (14 : Nat) "Shapelayer$Stroke" "points" "Ljava/util/List;") ∈ lw_all := lw_g (lw_at lw_m4 119 rfl) rfl
theorem q899 : (Jvm.Cond.fieldLink "Shapelayer$Stroke" (38 : Nat) "Shapelayer$Stroke" "length" "J") ∈ lw_all := lw_g (lw_at lw_m4 121 rfl) rfl
theorem q900 : (Jvm.Cond.laysFinal "Shapelayer$Stroke" "Shapelayer$Stroke" "points" "Ljava/util/List;") ∈ lw_all := lw_g (lw_at lw_m4 122 rfl) rfl
theorem q901 : (Jvm.Cond.soleField "Shapelayer$Stroke" "points") ∈ lw_all := lw_g (lw_at lw_m4 123 rfl) rfl
theorem q902 : (Jvm.Cond.lays "Shapelayer$Stroke" "Shapelayer$Stroke" "length" "J") ∈ lw_all := lw_g (lw_at lw_m4 124 rfl) rfl
theorem q903 : (Jvm.Cond.soleField "Shapelayer$Stroke" "length") ∈ lw_all := lw_g (lw_at lw_m4 125 rfl) rfl
theorem q904 : (Jvm.Cond.laysFinal "Shapelayer$Stroke" "Shapelayer$Coloured" "colour" "I") ∈ lw_all := lw_g (lw_at lw_m4 126 rfl) rfl
theorem q905 : (Jvm.Cond.laysFinal "Shapelayer$Stroke" "Shapelayer$Layer" "number" "I") ∈ lw_all := lw_g (lw_at lw_m4 127 rfl) rfl
theorem q906 : (Jvm.Cond.laysFinal "Shapelayer$Stroke" "Shapelayer$Layer" "owner" "LShapelayer$Composition;") ∈ lw_all := lw_g (lw_at lw_m4 128 rfl) rfl
theorem q907 : (Jvm.Cond.laysFinal "Shapelayer$Stroke" "Shapelayer$Layer" "values" "[LShapelayer$Keyed;") ∈ lw_all := lw_g (lw_at lw_m4 129 rfl) rfl
theorem q908 : (Jvm.Cond.lays "Shapelayer$Stroke" "Shapelayer$Layer" "parent" "LShapelayer$Layer;") ∈ lw_all := lw_g (lw_at lw_m4 130 rfl) rfl
theorem q909 : (Jvm.Cond.lays "Shapelayer$Stroke" "Shapelayer$Layer" "matte" "LShapelayer$Layer;") ∈ lw_all := lw_g (lw_at lw_m4 131 rfl) rfl
theorem q910 : (Jvm.Cond.lays "Shapelayer$Stroke" "Shapelayer$Layer" "isInverted" "Z") ∈ lw_all := lw_g (lw_at lw_m4 132 rfl) rfl
theorem q911 : (Jvm.Cond.lays "Shapelayer$Stroke" "Shapelayer$Layer" "from" "I") ∈ lw_all := lw_g (lw_at lw_m4 133 rfl) rfl
theorem q912 : (Jvm.Cond.lays "Shapelayer$Stroke" "Shapelayer$Layer" "end" "I") ∈ lw_all := lw_g (lw_at lw_m4 134 rfl) rfl
theorem q913 : (Jvm.Cond.superclass "Shapelayer$Stroke" "Shapelayer$Coloured") ∈ lw_all := lw_g (lw_at lw_m4 135 rfl) rfl
theorem q936 : (Jvm.Cond.instanceMethod ({ cls := "Shapelayer$Stroke", name := "add", desc := "(II)I" } : Jvm.MethodName)) ∈ lw_all := lw_g (lw_at lw_m4 158 rfl) rfl
theorem q937 : (Jvm.Cond.selects "Shapelayer$Stroke" ({ cls := "Shapelayer$Stroke", name := "add", desc := "(II)I" } : Jvm.MethodName) ({ cls := "Shapelayer$Stroke", name := "add", desc := "(II)I" } : Jvm.MethodName)) ∈ lw_all := lw_g (lw_at lw_m4 159 rfl) rfl
theorem q938 : (Jvm.Cond.code ({ cls := "Shapelayer$Stroke", name := "add", desc := "(II)I" } : Jvm.MethodName) prog_18_method_4_code (3 : Nat) (Option.some Jvm.ClassFile.FieldType.int)) ∈ lw_all := lw_g (lw_at lw_m4 160 rfl) rfl
theorem q939 : (Jvm.Cond.interfaceEntry "Shapelayer$Stroke" (34 : Nat)) ∈ lw_tbl := lw_at lw_m4 161 rfl
theorem q940 : (Jvm.Cond.methodLink "Shapelayer$Stroke" (34 : Nat) ({ cls := "java/util/List", name := "add", desc := "(Ljava/lang/Object;)Z" } : Jvm.MethodName)) ∈ lw_all := lw_g (lw_at lw_m4 162 rfl) rfl
theorem q941 : (Jvm.Cond.interfaceEntry "Shapelayer$Stroke" (22 : Nat)) ∈ lw_tbl := lw_at lw_m4 163 rfl
theorem q942 : (Jvm.Cond.methodLink "Shapelayer$Stroke" (22 : Nat) ({ cls := "java/util/List", name := "size", desc := "()I" } : Jvm.MethodName)) ∈ lw_all := lw_g (lw_at lw_m4 164 rfl) rfl
theorem q943 : (Jvm.Cond.methodLink "Shapelayer$Stroke" (42 : Nat) ({ cls := "Shapelayer$Stroke", name := "lengthOf", desc := "(I)J" } : Jvm.MethodName)) ∈ lw_all := lw_g (lw_at lw_m4 165 rfl) rfl
theorem q944 : (Jvm.Cond.privateMethod ({ cls := "Shapelayer$Stroke", name := "lengthOf", desc := "(I)J" } : Jvm.MethodName)) ∈ lw_tbl := lw_at lw_m4 166 rfl
theorem q945 : (Jvm.Cond.instanceMethod ({ cls := "Shapelayer$Stroke", name := "lengthOf", desc := "(I)J" } : Jvm.MethodName)) ∈ lw_all := lw_g (lw_at lw_m4 167 rfl) rfl
theorem q946 : (Jvm.Cond.code ({ cls := "Shapelayer$Stroke", name := "lengthOf", desc := "(I)J" } : Jvm.MethodName) prog_18_method_5_code (4 : Nat) (Option.some Jvm.ClassFile.FieldType.long)) ∈ lw_all := lw_g (lw_at lw_m4 168 rfl) rfl
theorem q947 : (Jvm.Cond.interfaceEntry "Shapelayer$Stroke" (46 : Nat)) ∈ lw_tbl := lw_at lw_m4 169 rfl
theorem q948 : (Jvm.Cond.methodLink "Shapelayer$Stroke" (46 : Nat) ({ cls := "java/util/List", name := "get", desc := "(I)Ljava/lang/Object;" } : Jvm.MethodName)) ∈ lw_all := lw_g (lw_at lw_m4 170 rfl) rfl
theorem q949 : (Jvm.Cond.classLink "Shapelayer$Stroke" (50 : Nat) "[I") ∈ lw_all := lw_g (lw_at lw_m4 171 rfl) rfl
theorem q950 : (Jvm.Cond.constantLong "Shapelayer$Stroke" (52 : Nat) (1000 : Int64)) ∈ lw_all := lw_g (lw_at lw_m4 172 rfl) rfl
theorem q951 : (Jvm.Cond.methodLink "Shapelayer$Stroke" (54 : Nat) ({ cls := "java/lang/Math", name := "abs", desc := "(I)I" } : Jvm.MethodName)) ∈ lw_all := lw_g (lw_at lw_m4 173 rfl) rfl
theorem q1104 : (Jvm.Cond.selects "Shapelayer$Stroke" ({ cls := "java/lang/Object", name := "equals", desc := "(Ljava/lang/Object;)Z" } : Jvm.MethodName) ({ cls := "java/lang/Object", name := "equals", desc := "(Ljava/lang/Object;)Z" } : Jvm.MethodName)) ∈ lw_all := lw_g (lw_at lw_m5 86 rfl) rfl
theorem q1198 : (Jvm.Cond.selects "Shapelayer$Stroke" ({ cls := "Shapelayer$Layer", name := "isOn", desc := "(LShapelayer$Layer;)Z" } : Jvm.MethodName) ({ cls := "Shapelayer$Layer", name := "isOn", desc := "(LShapelayer$Layer;)Z" } : Jvm.MethodName)) ∈ lw_all := lw_g (lw_at lw_m5 180 rfl) rfl
theorem q1314 : (Jvm.Cond.selects "Shapelayer$Stroke" ({ cls := "Shapelayer$Layer", name := "value", desc := "(II)I" } : Jvm.MethodName) ({ cls := "Shapelayer$Layer", name := "value", desc := "(II)I" } : Jvm.MethodName)) ∈ lw_all := lw_g (lw_at lw_m6 56 rfl) rfl
theorem q1376 : (Jvm.Cond.selects "Shapelayer$Stroke" ({ cls := "Shapelayer$Layer", name := "map", desc := "(ILShapelayer$Outer;JJ[J)V" } : Jvm.MethodName) ({ cls := "Shapelayer$Layer", name := "map", desc := "(ILShapelayer$Outer;JJ[J)V" } : Jvm.MethodName)) ∈ lw_all := lw_g (lw_at lw_m6 118 rfl) rfl
theorem q1384 : (Jvm.Cond.selects "Shapelayer$Stroke" ({ cls := "Shapelayer$Layer", name := "map", desc := "(I[J)V" } : Jvm.MethodName) ({ cls := "Shapelayer$Layer", name := "map", desc := "(I[J)V" } : Jvm.MethodName)) ∈ lw_all := lw_g (lw_at lw_m6 126 rfl) rfl
theorem q1404 : (Jvm.Cond.instanceMethod ({ cls := "Shapelayer$Stroke", name := "left", desc := "(I)I" } : Jvm.MethodName)) ∈ lw_all := lw_g (lw_at lw_m6 146 rfl) rfl
theorem q1405 : (Jvm.Cond.selects "Shapelayer$Stroke" ({ cls := "Shapelayer$Stroke", name := "left", desc := "(I)I" } : Jvm.MethodName) ({ cls := "Shapelayer$Stroke", name := "left", desc := "(I)I" } : Jvm.MethodName)) ∈ lw_all := lw_g (lw_at lw_m6 147 rfl) rfl
theorem q1406 : (Jvm.Cond.code ({ cls := "Shapelayer$Stroke", name := "left", desc := "(I)I" } : Jvm.MethodName) prog_18_method_7_code (2 : Nat) (Option.some Jvm.ClassFile.FieldType.int)) ∈ lw_all := lw_g (lw_at lw_m6 148 rfl) rfl
theorem q1407 : (Jvm.Cond.methodLink "Shapelayer$Stroke" (74 : Nat) ({ cls := "Shapelayer$Stroke", name := "cut", desc := "(II)J" } : Jvm.MethodName)) ∈ lw_all := lw_g (lw_at lw_m6 149 rfl) rfl
theorem q1408 : (Jvm.Cond.privateMethod ({ cls := "Shapelayer$Stroke", name := "cut", desc := "(II)J" } : Jvm.MethodName)) ∈ lw_tbl := lw_at lw_m6 150 rfl
theorem q1409 : (Jvm.Cond.instanceMethod ({ cls := "Shapelayer$Stroke", name := "cut", desc := "(II)J" } : Jvm.MethodName)) ∈ lw_all := lw_g (lw_at lw_m6 151 rfl) rfl
theorem q1410 : (Jvm.Cond.code ({ cls := "Shapelayer$Stroke", name := "cut", desc := "(II)J" } : Jvm.MethodName) prog_18_method_6_code (3 : Nat) (Option.some Jvm.ClassFile.FieldType.long)) ∈ lw_all := lw_g (lw_at lw_m6 152 rfl) rfl
theorem q1411 : (Jvm.Cond.methodLink "Shapelayer$Stroke" (60 : Nat) ({ cls := "Shapelayer$Stroke", name := "value", desc := "(II)I" } : Jvm.MethodName)) ∈ lw_all := lw_g (lw_at lw_m6 153 rfl) rfl
theorem q1412 : (Jvm.Cond.sameMethod "Shapelayer$Stroke" "Shapelayer$Layer" "value" "(II)I") ∈ lw_all := lw_g (lw_at lw_m6 154 rfl) rfl
theorem q1414 : (Jvm.Cond.selects "Shapelayer$Stroke" ({ cls := "Shapelayer$Stroke", name := "value", desc := "(II)I" } : Jvm.MethodName) ({ cls := "Shapelayer$Layer", name := "value", desc := "(II)I" } : Jvm.MethodName)) ∈ lw_all := lw_g (lw_at lw_m6 156 rfl) rfl
theorem q1415 : (Jvm.Cond.methodLink "Shapelayer$Stroke" (64 : Nat) ({ cls := "java/lang/Math", name := "floorDiv", desc := "(JJ)J" } : Jvm.MethodName)) ∈ lw_all := lw_g (lw_at lw_m6 157 rfl) rfl
theorem q1416 : (Jvm.Cond.methodLink "Shapelayer$Stroke" (68 : Nat) ({ cls := "java/lang/Math", name := "min", desc := "(JJ)J" } : Jvm.MethodName)) ∈ lw_all := lw_g (lw_at lw_m6 158 rfl) rfl
theorem q1419 : (Jvm.Cond.methodLink "Shapelayer$Stroke" (71 : Nat) ({ cls := "java/lang/Math", name := "max", desc := "(JJ)J" } : Jvm.MethodName)) ∈ lw_all := lw_g (lw_at lw_m6 161 rfl) rfl
theorem q1461 : (Jvm.Cond.selects "Shapelayer$Stroke" ({ cls := "Shapelayer$Layer", name := "shows", desc := "(I)Z" } : Jvm.MethodName) ({ cls := "Shapelayer$Layer", name := "shows", desc := "(I)Z" } : Jvm.MethodName)) ∈ lw_all := lw_g (lw_at lw_m6 203 rfl) rfl
theorem q1520 : (Jvm.Cond.selects "Shapelayer$Stroke" ({ cls := "Shapelayer$Layer", name := "draw", desc := "(ILShapelayer$Outer;LShapelayer$Raster;)V" } : Jvm.MethodName) ({ cls := "Shapelayer$Stroke", name := "draw", desc := "(ILShapelayer$Outer;LShapelayer$Raster;)V" } : Jvm.MethodName)) ∈ lw_all := lw_g (lw_at lw_m7 22 rfl) rfl
theorem q1521 : (Jvm.Cond.instanceMethod ({ cls := "Shapelayer$Stroke", name := "draw", desc := "(ILShapelayer$Outer;LShapelayer$Raster;)V" } : Jvm.MethodName)) ∈ lw_all := lw_g (lw_at lw_m7 23 rfl) rfl
theorem q1522 : (Jvm.Cond.code ({ cls := "Shapelayer$Stroke", name := "draw", desc := "(ILShapelayer$Outer;LShapelayer$Raster;)V" } : Jvm.MethodName) prog_18_method_8_code (17 : Nat) (Option.none : Option Jvm.ClassFile.FieldType)) ∈ lw_all := lw_g (lw_at lw_m7 24 rfl) rfl
theorem q1523 : (Jvm.Cond.methodLink "Shapelayer$Stroke" (78 : Nat) ({ cls := "Shapelayer$Stroke", name := "along", desc := "(IIJ)J" } : Jvm.MethodName)) ∈ lw_all := lw_g (lw_at lw_m7 25 rfl) rfl
theorem q1524 : (Jvm.Cond.privateMethod ({ cls := "Shapelayer$Stroke", name := "along", desc := "(IIJ)J" } : Jvm.MethodName)) ∈ lw_tbl := lw_at lw_m7 26 rfl
theorem q1525 : (Jvm.Cond.instanceMethod ({ cls := "Shapelayer$Stroke", name := "along", desc := "(IIJ)J" } : Jvm.MethodName)) ∈ lw_all := lw_g (lw_at lw_m7 27 rfl) rfl
theorem q1526 : (Jvm.Cond.code ({ cls := "Shapelayer$Stroke", name := "along", desc := "(IIJ)J" } : Jvm.MethodName) prog_18_method_9_code (6 : Nat) (Option.some Jvm.ClassFile.FieldType.long)) ∈ lw_all := lw_g (lw_at lw_m7 28 rfl) rfl
theorem q1527 : (Jvm.Cond.methodLink "Shapelayer$Stroke" (99 : Nat) ({ cls := "java/lang/Integer", name := "signum", desc := "(I)I" } : Jvm.MethodName)) ∈ lw_all := lw_g (lw_at lw_m7 29 rfl) rfl
theorem q1530 : (Jvm.Cond.methodLink "Shapelayer$Stroke" (88 : Nat) ({ cls := "Shapelayer$Stroke", name := "map", desc := "(ILShapelayer$Outer;JJ[J)V" } : Jvm.MethodName)) ∈ lw_all := lw_g (lw_at lw_m7 32 rfl) rfl
theorem q1531 : (Jvm.Cond.sameMethod "Shapelayer$Stroke" "Shapelayer$Layer" "map" "(ILShapelayer$Outer;JJ[J)V") ∈ lw_all := lw_g (lw_at lw_m7 33 rfl) rfl
theorem q1532 : (Jvm.Cond.selects "Shapelayer$Stroke" ({ cls := "Shapelayer$Stroke", name := "map", desc := "(ILShapelayer$Outer;JJ[J)V" } : Jvm.MethodName) ({ cls := "Shapelayer$Layer", name := "map", desc := "(ILShapelayer$Outer;JJ[J)V" } : Jvm.MethodName)) ∈ lw_all := lw_g (lw_at lw_m7 34 rfl) rfl
theorem q1533 : (Jvm.Cond.methodLink "Shapelayer$Stroke" (95 : Nat) ({ cls := "Shapelayer$Stroke", name := "fill", desc := "([J[JLShapelayer$Raster;)V" } : Jvm.MethodName)) ∈ lw_all := lw_g (lw_at lw_m7 35 rfl) rfl
theorem q1534 : (Jvm.Cond.privateMethod ({ cls := "Shapelayer$Stroke", name := "fill", desc := "([J[JLShapelayer$Raster;)V" } : Jvm.MethodName)) ∈ lw_tbl := lw_at lw_m7 36 rfl
theorem q1535 : (Jvm.Cond.instanceMethod ({ cls := "Shapelayer$Stroke", name := "fill", desc := "([J[JLShapelayer$Raster;)V" } : Jvm.MethodName)) ∈ lw_all := lw_g (lw_at lw_m7 37 rfl) rfl
theorem q1536 : (Jvm.Cond.code ({ cls := "Shapelayer$Stroke", name := "fill", desc := "([J[JLShapelayer$Raster;)V" } : Jvm.MethodName) prog_18_method_10_code (4 : Nat) (Option.none : Option Jvm.ClassFile.FieldType)) ∈ lw_all := lw_g (lw_at lw_m7 38 rfl) rfl
theorem q1537 : (Jvm.Cond.methodLink "Shapelayer$Stroke" (106 : Nat) ({ cls := "Shapelayer$Raster", name := "fill", desc := "(JJJJI)V" } : Jvm.MethodName)) ∈ lw_all := lw_g (lw_at lw_m7 39 rfl) rfl
theorem q1689 : (Jvm.Cond.selects "Shapelayer$Stroke" ({ cls := "Shapelayer$Layer", name := "tail", desc := "()Ljava/lang/String;" } : Jvm.MethodName) ({ cls := "Shapelayer$Layer", name := "tail", desc := "()Ljava/lang/String;" } : Jvm.MethodName)) ∈ lw_all := lw_g (lw_at lw_m7 191 rfl) rfl
theorem q1726 : (Jvm.Cond.selects "Shapelayer$Stroke" ({ cls := "Shapelayer$Layer", name := "word", desc := "()Ljava/lang/String;" } : Jvm.MethodName) ({ cls := "Shapelayer$Stroke", name := "word", desc := "()Ljava/lang/String;" } : Jvm.MethodName)) ∈ lw_all := lw_g (lw_at lw_m7 228 rfl) rfl
theorem q1727 : (Jvm.Cond.instanceMethod ({ cls := "Shapelayer$Stroke", name := "word", desc := "()Ljava/lang/String;" } : Jvm.MethodName)) ∈ lw_all := lw_g (lw_at lw_m7 229 rfl) rfl
theorem q1728 : (Jvm.Cond.code ({ cls := "Shapelayer$Stroke", name := "word", desc := "()Ljava/lang/String;" } : Jvm.MethodName) prog_18_method_2_code (1 : Nat) (Option.some (Jvm.ClassFile.FieldType.object "java/lang/String"))) ∈ lw_all := lw_g (lw_at lw_m7 230 rfl) rfl
theorem q1729 : (Jvm.Cond.stringRef "Shapelayer$Stroke" (20 : Nat) "stroke") ∈ lw_tbl := lw_at lw_m7 231 rfl
theorem q1758 : (Jvm.Cond.selects "Shapelayer$Stroke" ({ cls := "Shapelayer$Coloured", name := "size", desc := "()Ljava/lang/String;" } : Jvm.MethodName) ({ cls := "Shapelayer$Stroke", name := "size", desc := "()Ljava/lang/String;" } : Jvm.MethodName)) ∈ lw_all := lw_g (lw_at lw_m8 20 rfl) rfl
theorem q1759 : (Jvm.Cond.instanceMethod ({ cls := "Shapelayer$Stroke", name := "size", desc := "()Ljava/lang/String;" } : Jvm.MethodName)) ∈ lw_all := lw_g (lw_at lw_m8 21 rfl) rfl
theorem q1760 : (Jvm.Cond.code ({ cls := "Shapelayer$Stroke", name := "size", desc := "()Ljava/lang/String;" } : Jvm.MethodName) prog_18_method_3_code (1 : Nat) (Option.some (Jvm.ClassFile.FieldType.object "java/lang/String"))) ∈ lw_all := lw_g (lw_at lw_m8 22 rfl) rfl
theorem q1761 : (Jvm.Cond.methodLink "Shapelayer$Stroke" (28 : Nat) ({ cls := "java/lang/Integer", name := "toString", desc := "(I)Ljava/lang/String;" } : Jvm.MethodName)) ∈ lw_all := lw_g (lw_at lw_m8 23 rfl) rfl
theorem q1773 : (Jvm.Cond.selects "Shapelayer$Stroke" ({ cls := "Shapelayer$Layer", name := "toString", desc := "()Ljava/lang/String;" } : Jvm.MethodName) ({ cls := "Shapelayer$Coloured", name := "toString", desc := "()Ljava/lang/String;" } : Jvm.MethodName)) ∈ lw_all := lw_g (lw_at lw_m8 35 rfl) rfl
theorem q2224 : (Jvm.Cond.castable "Shapelayer$Stroke" "Shapelayer$Layer") ∈ lw_tbl := lw_at lw_m10 6 rfl
theorem q2240 : (Jvm.Cond.castable "Shapelayer$Stroke" "java/lang/Object") ∈ lw_tbl := lw_at lw_m10 22 rfl
theorem in_X9 : ∀ w ∈ wsX90, w ∈ lw_all := lw_in wsX90 [905, 906, 907, 908, 909, 910, 911, 912, 904, 900, 902] (by decide +kernel) (by decide +kernel)

/-! Shapelayer$Composition$1 -/
set_option maxRecDepth 100000
def RX10 : String := "Shapelayer$Composition$1"
def TX10 : u_T := fun k => match k with
  | 0 => ("Shapelayer$Composition$1", "left", "I", false)
  | _ => ("Shapelayer$Composition$1", "this$0", "LShapelayer$Composition;", true)
def tyX10 : Nat → FieldType := fun k => match k with
  | 0 => .int
  | _ => .object "Shapelayer$Composition"
abbrev wsX100 : List Cond := u_ws RX10 TX10 2
theorem nmX10 : ∀ a, a < 2 → ∀ b, b < 2 → a ≠ b → (TX10 a).2.1 ≠ (TX10 b).2.1 := by decide +kernel
theorem tyX10_ok : ∀ k, k < 2 → parseFieldDescriptor (TX10 k).2.2.1 = some (tyX10 k) := by decide +kernel
abbrev cX10_init : ByteArray := prog_4_method_1_code
def yX10_init : MethodName := ⟨RX10, "<init>", "(LShapelayer$Composition;)V"⟩
def dkwX10_init_1 : List UInt8 := [181, 0, 25, 177]
abbrev dktX10_init_1 : List UInt8 := dkwX10_init_1 ++ []
def dkwX10_init_0 : List UInt8 := [42, 43, 181, 0, 1, 42, 183, 0, 7, 42, 42, 180, 0, 1, 180, 0, 13, 185, 0, 19, 1, 0]
abbrev dktX10_init_0 : List UInt8 := dkwX10_init_0 ++ dktX10_init_1
theorem dksX10_init_0 : cX10_init.data.toList.drop 0 = dktX10_init_0 := by decide +kernel
theorem dksX10_init_1 : cX10_init.data.toList.drop 22 = dktX10_init_1 := dk_seg dksX10_init_0 22 rfl rfl
theorem dX10_init_0 : decode cX10_init 0 = .ok (.aload_n 0, 1) := dk_42 (dk_at dksX10_init_0 0 rfl rfl)
theorem dX10_init_1 : decode cX10_init 1 = .ok (.aload_n 1, 1) := dk_43 (dk_at dksX10_init_0 1 rfl rfl)
theorem dX10_init_2 : decode cX10_init 2 = .ok (.putfield 1, 3) := dk_181 0 1 (dk_at dksX10_init_0 2 rfl rfl)
theorem dX10_init_5 : decode cX10_init 5 = .ok (.aload_n 0, 1) := dk_42 (dk_at dksX10_init_0 5 rfl rfl)
theorem dX10_init_6 : decode cX10_init 6 = .ok (.invokespecial 7, 3) := dk_183 0 7 (dk_at dksX10_init_0 6 rfl rfl)
theorem dX10_init_9 : decode cX10_init 9 = .ok (.aload_n 0, 1) := dk_42 (dk_at dksX10_init_0 9 rfl rfl)
theorem dX10_init_10 : decode cX10_init 10 = .ok (.aload_n 0, 1) := dk_42 (dk_at dksX10_init_0 10 rfl rfl)
theorem dX10_init_11 : decode cX10_init 11 = .ok (.getfield 1, 3) := dk_180 0 1 (dk_at dksX10_init_0 11 rfl rfl)
theorem dX10_init_14 : decode cX10_init 14 = .ok (.getfield 13, 3) := dk_180 0 13 (dk_at dksX10_init_0 14 rfl rfl)
theorem dX10_init_17 : decode cX10_init 17 = .ok (.invokeinterface 19 1, 5) := by decide +kernel
theorem dX10_init_22 : decode cX10_init 22 = .ok (.putfield 25, 3) := dk_181 0 25 (dk_at dksX10_init_1 0 rfl rfl)
theorem dX10_init_25 : decode cX10_init 25 = .ok (.return_, 1) := dk_177 (dk_at dksX10_init_1 3 rfl rfl)
abbrev cX10_hasNext : ByteArray := prog_4_method_2_code
def yX10_hasNext : MethodName := ⟨RX10, "hasNext", "()Z"⟩
def dkwX10_hasNext_0 : List UInt8 := [42, 180, 0, 25, 158, 0, 7, 4, 167, 0, 4, 3, 172]
abbrev dktX10_hasNext_0 : List UInt8 := dkwX10_hasNext_0 ++ []
theorem dksX10_hasNext_0 : cX10_hasNext.data.toList.drop 0 = dktX10_hasNext_0 := by decide +kernel
theorem dX10_hasNext_0 : decode cX10_hasNext 0 = .ok (.aload_n 0, 1) := dk_42 (dk_at dksX10_hasNext_0 0 rfl rfl)
theorem dX10_hasNext_1 : decode cX10_hasNext 1 = .ok (.getfield 25, 3) := dk_180 0 25 (dk_at dksX10_hasNext_0 1 rfl rfl)
theorem dX10_hasNext_4 : decode cX10_hasNext 4 = .ok (.ifCond .le 7, 3) := dk_158 0 7 (dk_at dksX10_hasNext_0 4 rfl rfl)
theorem dX10_hasNext_7 : decode cX10_hasNext 7 = .ok (.iconst 1, 1) := dk_4 (dk_at dksX10_hasNext_0 7 rfl rfl)
theorem dX10_hasNext_8 : decode cX10_hasNext 8 = .ok (.goto 4, 3) := dk_167 0 4 (dk_at dksX10_hasNext_0 8 rfl rfl)
theorem dX10_hasNext_11 : decode cX10_hasNext 11 = .ok (.iconst 0, 1) := dk_3 (dk_at dksX10_hasNext_0 11 rfl rfl)
theorem dX10_hasNext_12 : decode cX10_hasNext 12 = .ok (.ireturn, 1) := dk_172 (dk_at dksX10_hasNext_0 12 rfl rfl)
abbrev cX10_next : ByteArray := prog_4_method_4_code
def yX10_next : MethodName := ⟨RX10, "next", "()Ljava/lang/Object;"⟩
theorem dX10_next_0 : decode cX10_next 0 = .ok (.aload_n 0, 1) := by decide +kernel
theorem dX10_next_1 : decode cX10_next 1 = .ok (.invokevirtual 42, 3) := by decide +kernel
theorem dX10_next_4 : decode cX10_next 4 = .ok (.areturn, 1) := by decide +kernel
abbrev cX10_next_2 : ByteArray := prog_4_method_3_code
def yX10_next_2 : MethodName := ⟨RX10, "next", "()LShapelayer$Layer;"⟩
def dkwX10_next_2_1 : List UInt8 := [181, 0, 25, 42, 180, 0, 1, 180, 0, 13, 42, 180, 0, 25, 185, 0, 36, 2, 0, 192, 0, 40, 176]
abbrev dktX10_next_2_1 : List UInt8 := dkwX10_next_2_1 ++ []
def dkwX10_next_2_0 : List UInt8 := [42, 182, 0, 29, 154, 0, 11, 187, 0, 33, 89, 183, 0, 35, 191, 42, 89, 180, 0, 25, 4, 100]
abbrev dktX10_next_2_0 : List UInt8 := dkwX10_next_2_0 ++ dktX10_next_2_1
theorem dksX10_next_2_0 : cX10_next_2.data.toList.drop 0 = dktX10_next_2_0 := by decide +kernel
theorem dksX10_next_2_1 : cX10_next_2.data.toList.drop 22 = dktX10_next_2_1 := dk_seg dksX10_next_2_0 22 rfl rfl
theorem dX10_next_2_0 : decode cX10_next_2 0 = .ok (.aload_n 0, 1) := dk_42 (dk_at dksX10_next_2_0 0 rfl rfl)
theorem dX10_next_2_1 : decode cX10_next_2 1 = .ok (.invokevirtual 29, 3) := dk_182 0 29 (dk_at dksX10_next_2_0 1 rfl rfl)
theorem dX10_next_2_4 : decode cX10_next_2 4 = .ok (.ifCond .ne 11, 3) := dk_154 0 11 (dk_at dksX10_next_2_0 4 rfl rfl)
theorem dX10_next_2_7 : decode cX10_next_2 7 = .ok (.new 33, 3) := dk_187 0 33 (dk_at dksX10_next_2_0 7 rfl rfl)
theorem dX10_next_2_10 : decode cX10_next_2 10 = .ok (.dup, 1) := dk_89 (dk_at dksX10_next_2_0 10 rfl rfl)
theorem dX10_next_2_11 : decode cX10_next_2 11 = .ok (.invokespecial 35, 3) := dk_183 0 35 (dk_at dksX10_next_2_0 11 rfl rfl)
theorem dX10_next_2_14 : decode cX10_next_2 14 = .ok (.athrow, 1) := dk_191 (dk_at dksX10_next_2_0 14 rfl rfl)
theorem dX10_next_2_15 : decode cX10_next_2 15 = .ok (.aload_n 0, 1) := dk_42 (dk_at dksX10_next_2_0 15 rfl rfl)
theorem dX10_next_2_16 : decode cX10_next_2 16 = .ok (.dup, 1) := dk_89 (dk_at dksX10_next_2_0 16 rfl rfl)
theorem dX10_next_2_17 : decode cX10_next_2 17 = .ok (.getfield 25, 3) := dk_180 0 25 (dk_at dksX10_next_2_0 17 rfl rfl)
theorem dX10_next_2_20 : decode cX10_next_2 20 = .ok (.iconst 1, 1) := dk_4 (dk_at dksX10_next_2_0 20 rfl rfl)
theorem dX10_next_2_21 : decode cX10_next_2 21 = .ok (.isub, 1) := dk_100 (dk_at dksX10_next_2_0 21 rfl rfl)
theorem dX10_next_2_22 : decode cX10_next_2 22 = .ok (.putfield 25, 3) := dk_181 0 25 (dk_at dksX10_next_2_1 0 rfl rfl)
theorem dX10_next_2_25 : decode cX10_next_2 25 = .ok (.aload_n 0, 1) := dk_42 (dk_at dksX10_next_2_1 3 rfl rfl)
theorem dX10_next_2_26 : decode cX10_next_2 26 = .ok (.getfield 1, 3) := dk_180 0 1 (dk_at dksX10_next_2_1 4 rfl rfl)
theorem dX10_next_2_29 : decode cX10_next_2 29 = .ok (.getfield 13, 3) := dk_180 0 13 (dk_at dksX10_next_2_1 7 rfl rfl)
theorem dX10_next_2_32 : decode cX10_next_2 32 = .ok (.aload_n 0, 1) := dk_42 (dk_at dksX10_next_2_1 10 rfl rfl)
theorem dX10_next_2_33 : decode cX10_next_2 33 = .ok (.getfield 25, 3) := dk_180 0 25 (dk_at dksX10_next_2_1 11 rfl rfl)
theorem dX10_next_2_36 : decode cX10_next_2 36 = .ok (.invokeinterface 36 2, 5) := by decide +kernel
theorem dX10_next_2_41 : decode cX10_next_2 41 = .ok (.checkcast 40, 3) := dk_192 0 40 (dk_at dksX10_next_2_1 19 rfl rfl)
theorem dX10_next_2_44 : decode cX10_next_2 44 = .ok (.areturn, 1) := dk_176 (dk_at dksX10_next_2_1 22 rfl rfl)
theorem q92 : (Jvm.Cond.initialized "Shapelayer$Composition$1") ∈ lw_all := lw_g (lw_at lw_m1 34 rfl) rfl
theorem q668 : (Jvm.Cond.fieldLinkNest "Shapelayer$Composition$1" (13 : Nat) "Shapelayer$Composition" "layers" "Ljava/util/List;" "Shapelayer") ∈ lw_tbl := lw_at lw_m3 130 rfl
theorem q705 : (Jvm.Cond.selects "Shapelayer$Composition$1" ({ cls := "java/lang/Object", name := "getClass", desc := "()Ljava/lang/Class;" } : Jvm.MethodName) ({ cls := "java/lang/Object", name := "getClass", desc := "()Ljava/lang/Class;" } : Jvm.MethodName)) ∈ lw_all := lw_g (lw_at lw_m3 167 rfl) rfl
theorem q970 : (Jvm.Cond.instantiable "Shapelayer$Composition$1" (2 : Nat)) ∈ lw_all := lw_g (lw_at lw_m4 192 rfl) rfl
theorem q972 : (Jvm.Cond.instanceMethod ({ cls := "Shapelayer$Composition$1", name := "<init>", desc := "(LShapelayer$Composition;)V" } : Jvm.MethodName)) ∈ lw_all := lw_g (lw_at lw_m4 194 rfl) rfl
theorem q973 : (Jvm.Cond.code ({ cls := "Shapelayer$Composition$1", name := "<init>", desc := "(LShapelayer$Composition;)V" } : Jvm.MethodName) prog_4_method_1_code (2 : Nat) (Option.none : Option Jvm.ClassFile.FieldType)) ∈ lw_all := lw_g (lw_at lw_m4 195 rfl) rfl
theorem q974 : (Jvm.Cond.methodLink "Shapelayer$Composition$1" (7 : Nat) ({ cls := "java/lang/Object", name := "<init>", desc := "()V" } : Jvm.MethodName)) ∈ lw_all := lw_g (lw_at lw_m4 196 rfl) rfl
theorem q975 : (Jvm.Cond.interfaceEntry "Shapelayer$Composition$1" (19 : Nat)) ∈ lw_tbl := lw_at lw_m4 197 rfl
theorem q976 : (Jvm.Cond.methodLink "Shapelayer$Composition$1" (19 : Nat) ({ cls := "java/util/List", name := "size", desc := "()I" } : Jvm.MethodName)) ∈ lw_all := lw_g (lw_at lw_m4 198 rfl) rfl
theorem q977 : (Jvm.Cond.fieldLink "Shapelayer$Composition$1" (25 : Nat) "Shapelayer$Composition$1" "left" "I") ∈ lw_all := lw_g (lw_at lw_m4 199 rfl) rfl
theorem q978 : (Jvm.Cond.fieldLink "Shapelayer$Composition$1" (1 : Nat) "Shapelayer$Composition$1" "this$0" "LShapelayer$Composition;") ∈ lw_all := lw_g (lw_at lw_m4 200 rfl) rfl
theorem q979 : (Jvm.Cond.lays "Shapelayer$Composition$1" "Shapelayer$Composition$1" "left" "I") ∈ lw_all := lw_g (lw_at lw_m4 201 rfl) rfl
theorem q980 : (Jvm.Cond.soleField "Shapelayer$Composition$1" "left") ∈ lw_all := lw_g (lw_at lw_m4 202 rfl) rfl
theorem q981 : (Jvm.Cond.laysFinal "Shapelayer$Composition$1" "Shapelayer$Composition$1" "this$0" "LShapelayer$Composition;") ∈ lw_all := lw_g (lw_at lw_m4 203 rfl) rfl
theorem q982 : (Jvm.Cond.soleField "Shapelayer$Composition$1" "this$0") ∈ lw_all := lw_g (lw_at lw_m4 204 rfl) rfl
theorem q983 : (Jvm.Cond.superclass "Shapelayer$Composition$1" "java/lang/Object") ∈ lw_all := lw_g (lw_at lw_m4 205 rfl) rfl
theorem q988 : (Jvm.Cond.castable "Shapelayer$Composition$1" "java/util/Iterator") ∈ lw_tbl := lw_at lw_m4 210 rfl
theorem q989 : (Jvm.Cond.selects "Shapelayer$Composition$1" ({ cls := "java/util/Iterator", name := "hasNext", desc := "()Z" } : Jvm.MethodName) ({ cls := "Shapelayer$Composition$1", name := "hasNext", desc := "()Z" } : Jvm.MethodName)) ∈ lw_all := lw_g (lw_at lw_m4 211 rfl) rfl
theorem q990 : (Jvm.Cond.unhidden "Shapelayer$Composition$1" "hasNext" "()Z") ∈ lw_tbl := lw_at lw_m4 212 rfl
theorem q991 : (Jvm.Cond.instanceMethod ({ cls := "Shapelayer$Composition$1", name := "hasNext", desc := "()Z" } : Jvm.MethodName)) ∈ lw_all := lw_g (lw_at lw_m4 213 rfl) rfl
theorem q992 : (Jvm.Cond.publicMethod ({ cls := "Shapelayer$Composition$1", name := "hasNext", desc := "()Z" } : Jvm.MethodName)) ∈ lw_tbl := lw_at lw_m4 214 rfl
theorem q993 : (Jvm.Cond.code ({ cls := "Shapelayer$Composition$1", name := "hasNext", desc := "()Z" } : Jvm.MethodName) prog_4_method_2_code (1 : Nat) (Option.some Jvm.ClassFile.FieldType.boolean)) ∈ lw_all := lw_g (lw_at lw_m4 215 rfl) rfl
theorem q998 : (Jvm.Cond.selects "Shapelayer$Composition$1" ({ cls := "java/util/Iterator", name := "next", desc := "()Ljava/lang/Object;" } : Jvm.MethodName) ({ cls := "Shapelayer$Composition$1", name := "next", desc := "()Ljava/lang/Object;" } : Jvm.MethodName)) ∈ lw_all := lw_g (lw_at lw_m4 220 rfl) rfl
theorem q999 : (Jvm.Cond.unhidden "Shapelayer$Composition$1" "next" "()Ljava/lang/Object;") ∈ lw_tbl := lw_at lw_m4 221 rfl
theorem q1000 : (Jvm.Cond.instanceMethod ({ cls := "Shapelayer$Composition$1", name := "next", desc := "()Ljava/lang/Object;" } : Jvm.MethodName)) ∈ lw_all := lw_g (lw_at lw_m4 222 rfl) rfl
theorem q1001 : (Jvm.Cond.publicMethod ({ cls := "Shapelayer$Composition$1", name := "next", desc := "()Ljava/lang/Object;" } : Jvm.MethodName)) ∈ lw_tbl := lw_at lw_m4 223 rfl
theorem q1002 : (Jvm.Cond.code ({ cls := "Shapelayer$Composition$1", name := "next", desc := "()Ljava/lang/Object;" } : Jvm.MethodName) prog_4_method_4_code (1 : Nat) (Option.some (Jvm.ClassFile.FieldType.object "java/lang/Object"))) ∈ lw_all := lw_g (lw_at lw_m4 224 rfl) rfl
theorem q1003 : (Jvm.Cond.methodLink "Shapelayer$Composition$1" (42 : Nat) ({ cls := "Shapelayer$Composition$1", name := "next", desc := "()LShapelayer$Layer;" } : Jvm.MethodName)) ∈ lw_all := lw_g (lw_at lw_m4 225 rfl) rfl
theorem q1004 : (Jvm.Cond.instanceMethod ({ cls := "Shapelayer$Composition$1", name := "next", desc := "()LShapelayer$Layer;" } : Jvm.MethodName)) ∈ lw_all := lw_g (lw_at lw_m4 226 rfl) rfl
theorem q1005 : (Jvm.Cond.selects "Shapelayer$Composition$1" ({ cls := "Shapelayer$Composition$1", name := "next", desc := "()LShapelayer$Layer;" } : Jvm.MethodName) ({ cls := "Shapelayer$Composition$1", name := "next", desc := "()LShapelayer$Layer;" } : Jvm.MethodName)) ∈ lw_all := lw_g (lw_at lw_m4 227 rfl) rfl
theorem q1006 : (Jvm.Cond.code ({ cls := "Shapelayer$Composition$1", name := "next", desc := "()LShapelayer$Layer;" } : Jvm.MethodName) prog_4_method_3_code (1 : Nat) (Option.some (Jvm.ClassFile.FieldType.object "Shapelayer$Layer"))) ∈ lw_all := lw_g (lw_at lw_m4 228 rfl) rfl
theorem q1007 : (Jvm.Cond.methodLink "Shapelayer$Composition$1" (29 : Nat) ({ cls := "Shapelayer$Composition$1", name := "hasNext", desc := "()Z" } : Jvm.MethodName)) ∈ lw_all := lw_g (lw_at lw_m4 229 rfl) rfl
theorem q1008 : (Jvm.Cond.classLink "Shapelayer$Composition$1" (33 : Nat) "java/util/NoSuchElementException") ∈ lw_all := lw_g (lw_at lw_m4 230 rfl) rfl
theorem q1017 : (Jvm.Cond.methodLink "Shapelayer$Composition$1" (35 : Nat) ({ cls := "java/util/NoSuchElementException", name := "<init>", desc := "()V" } : Jvm.MethodName)) ∈ lw_all := lw_g (lw_at lw_m4 239 rfl) rfl
theorem q1023 : (Jvm.Cond.interfaceEntry "Shapelayer$Composition$1" (36 : Nat)) ∈ lw_tbl := lw_at lw_m5 5 rfl
theorem q1024 : (Jvm.Cond.methodLink "Shapelayer$Composition$1" (36 : Nat) ({ cls := "java/util/List", name := "get", desc := "(I)Ljava/lang/Object;" } : Jvm.MethodName)) ∈ lw_all := lw_g (lw_at lw_m5 6 rfl) rfl
theorem q1025 : (Jvm.Cond.classLink "Shapelayer$Composition$1" (40 : Nat) "Shapelayer$Layer") ∈ lw_all := lw_g (lw_at lw_m5 7 rfl) rfl
theorem q1092 : (Jvm.Cond.selects "Shapelayer$Composition$1" ({ cls := "java/lang/Object", name := "equals", desc := "(Ljava/lang/Object;)Z" } : Jvm.MethodName) ({ cls := "java/lang/Object", name := "equals", desc := "(Ljava/lang/Object;)Z" } : Jvm.MethodName)) ∈ lw_all := lw_g (lw_at lw_m5 74 rfl) rfl
theorem q2212 : (Jvm.Cond.selects "Shapelayer$Composition$1" ({ cls := "Shapelayer$Composition$1", name := "hasNext", desc := "()Z" } : Jvm.MethodName) ({ cls := "Shapelayer$Composition$1", name := "hasNext", desc := "()Z" } : Jvm.MethodName)) ∈ lw_all := lw_g (lw_at lw_m9 234 rfl) rfl
theorem q2241 : (Jvm.Cond.castable "Shapelayer$Composition$1" "java/lang/Object") ∈ lw_tbl := lw_at lw_m10 23 rfl
theorem in_X10 : ∀ w ∈ wsX100, w ∈ lw_all := lw_in wsX100 [979, 981] (by decide +kernel) (by decide +kernel)

/-! Shapelayer$Nested -/
set_option maxRecDepth 100000
def RX11 : String := "Shapelayer$Nested"
def TX11 : u_T := fun k => match k with
  | 0 => ("Shapelayer$Layer", "number", "I", true)
  | 1 => ("Shapelayer$Layer", "owner", "LShapelayer$Composition;", true)
  | 2 => ("Shapelayer$Layer", "values", "[LShapelayer$Keyed;", true)
  | 3 => ("Shapelayer$Layer", "parent", "LShapelayer$Layer;", false)
  | 4 => ("Shapelayer$Layer", "matte", "LShapelayer$Layer;", false)
  | 5 => ("Shapelayer$Layer", "isInverted", "Z", false)
  | 6 => ("Shapelayer$Layer", "from", "I", false)
  | 7 => ("Shapelayer$Layer", "end", "I", false)
  | _ => ("Shapelayer$Nested", "shown", "LShapelayer$Composition;", true)
def tyX11 : Nat → FieldType := fun k => match k with
  | 0 => .int
  | 1 => .object "Shapelayer$Composition"
  | 2 => .array (.object "Shapelayer$Keyed")
  | 3 => .object "Shapelayer$Layer"
  | 4 => .object "Shapelayer$Layer"
  | 5 => .boolean
  | 6 => .int
  | 7 => .int
  | _ => .object "Shapelayer$Composition"
abbrev wsX110 : List Cond := u_ws RX11 TX11 9
theorem nmX11 : ∀ a, a < 9 → ∀ b, b < 9 → a ≠ b → (TX11 a).2.1 ≠ (TX11 b).2.1 := by decide +kernel
theorem tyX11_ok : ∀ k, k < 9 → parseFieldDescriptor (TX11 k).2.2.1 = some (tyX11 k) := by decide +kernel
abbrev cX11_init : ByteArray := prog_13_method_1_code
def yX11_init : MethodName := ⟨RX11, "<init>", "(ILShapelayer$Composition;LShapelayer$Composition;)V"⟩
def dkwX11_init_0 : List UInt8 := [42, 27, 44, 183, 0, 3, 42, 45, 181, 0, 9, 177]
abbrev dktX11_init_0 : List UInt8 := dkwX11_init_0 ++ []
theorem dksX11_init_0 : cX11_init.data.toList.drop 0 = dktX11_init_0 := by decide +kernel
theorem dX11_init_0 : decode cX11_init 0 = .ok (.aload_n 0, 1) := dk_42 (dk_at dksX11_init_0 0 rfl rfl)
theorem dX11_init_1 : decode cX11_init 1 = .ok (.iload_n 1, 1) := dk_27 (dk_at dksX11_init_0 1 rfl rfl)
theorem dX11_init_2 : decode cX11_init 2 = .ok (.aload_n 2, 1) := dk_44 (dk_at dksX11_init_0 2 rfl rfl)
theorem dX11_init_3 : decode cX11_init 3 = .ok (.invokespecial 3, 3) := dk_183 0 3 (dk_at dksX11_init_0 3 rfl rfl)
theorem dX11_init_6 : decode cX11_init 6 = .ok (.aload_n 0, 1) := dk_42 (dk_at dksX11_init_0 6 rfl rfl)
theorem dX11_init_7 : decode cX11_init 7 = .ok (.aload_n 3, 1) := dk_45 (dk_at dksX11_init_0 7 rfl rfl)
theorem dX11_init_8 : decode cX11_init 8 = .ok (.putfield 9, 3) := dk_181 0 9 (dk_at dksX11_init_0 8 rfl rfl)
theorem dX11_init_11 : decode cX11_init 11 = .ok (.return_, 1) := dk_177 (dk_at dksX11_init_0 11 rfl rfl)
abbrev cX11_draw : ByteArray := prog_13_method_4_code
def yX11_draw : MethodName := ⟨RX11, "draw", "(ILShapelayer$Outer;LShapelayer$Raster;)V"⟩
def dkwX11_draw_2 : List UInt8 := [42, 27, 44, 183, 0, 63, 45, 182, 0, 66, 177]
abbrev dktX11_draw_2 : List UInt8 := dkwX11_draw_2 ++ []
def dkwX11_draw_1 : List UInt8 := [184, 0, 55, 167, 0, 9, 27, 42, 180, 0, 58, 100, 54, 4, 42, 180, 0, 9, 21, 4, 187, 0, 61, 89]
abbrev dktX11_draw_1 : List UInt8 := dkwX11_draw_1 ++ dktX11_draw_2
def dkwX11_draw_0 : List UInt8 := [42, 16, 6, 182, 0, 42, 153, 0, 23, 3, 17, 3, 231, 42, 16, 6, 27, 182, 0, 46, 184, 0, 50]
abbrev dktX11_draw_0 : List UInt8 := dkwX11_draw_0 ++ dktX11_draw_1
theorem dksX11_draw_0 : cX11_draw.data.toList.drop 0 = dktX11_draw_0 := by decide +kernel
theorem dksX11_draw_1 : cX11_draw.data.toList.drop 23 = dktX11_draw_1 := dk_seg dksX11_draw_0 23 rfl rfl
theorem dksX11_draw_2 : cX11_draw.data.toList.drop 47 = dktX11_draw_2 := dk_seg dksX11_draw_1 24 rfl rfl
theorem dX11_draw_0 : decode cX11_draw 0 = .ok (.aload_n 0, 1) := dk_42 (dk_at dksX11_draw_0 0 rfl rfl)
theorem dX11_draw_1 : decode cX11_draw 1 = .ok (.bipush 6, 2) := dk_16 6 (dk_at dksX11_draw_0 1 rfl rfl)
theorem dX11_draw_3 : decode cX11_draw 3 = .ok (.invokevirtual 42, 3) := dk_182 0 42 (dk_at dksX11_draw_0 3 rfl rfl)
theorem dX11_draw_6 : decode cX11_draw 6 = .ok (.ifCond .eq 23, 3) := dk_153 0 23 (dk_at dksX11_draw_0 6 rfl rfl)
theorem dX11_draw_9 : decode cX11_draw 9 = .ok (.iconst 0, 1) := dk_3 (dk_at dksX11_draw_0 9 rfl rfl)
theorem dX11_draw_10 : decode cX11_draw 10 = .ok (.sipush 999, 3) := dk_17 3 231 (dk_at dksX11_draw_0 10 rfl rfl)
theorem dX11_draw_13 : decode cX11_draw 13 = .ok (.aload_n 0, 1) := dk_42 (dk_at dksX11_draw_0 13 rfl rfl)
theorem dX11_draw_14 : decode cX11_draw 14 = .ok (.bipush 6, 2) := dk_16 6 (dk_at dksX11_draw_0 14 rfl rfl)
theorem dX11_draw_16 : decode cX11_draw 16 = .ok (.iload_n 1, 1) := dk_27 (dk_at dksX11_draw_0 16 rfl rfl)
theorem dX11_draw_17 : decode cX11_draw 17 = .ok (.invokevirtual 46, 3) := dk_182 0 46 (dk_at dksX11_draw_0 17 rfl rfl)
theorem dX11_draw_20 : decode cX11_draw 20 = .ok (.invokestatic 50, 3) := dk_184 0 50 (dk_at dksX11_draw_0 20 rfl rfl)
theorem dX11_draw_23 : decode cX11_draw 23 = .ok (.invokestatic 55, 3) := dk_184 0 55 (dk_at dksX11_draw_1 0 rfl rfl)
theorem dX11_draw_26 : decode cX11_draw 26 = .ok (.goto 9, 3) := dk_167 0 9 (dk_at dksX11_draw_1 3 rfl rfl)
theorem dX11_draw_29 : decode cX11_draw 29 = .ok (.iload_n 1, 1) := dk_27 (dk_at dksX11_draw_1 6 rfl rfl)
theorem dX11_draw_30 : decode cX11_draw 30 = .ok (.aload_n 0, 1) := dk_42 (dk_at dksX11_draw_1 7 rfl rfl)
theorem dX11_draw_31 : decode cX11_draw 31 = .ok (.getfield 58, 3) := dk_180 0 58 (dk_at dksX11_draw_1 8 rfl rfl)
theorem dX11_draw_34 : decode cX11_draw 34 = .ok (.isub, 1) := dk_100 (dk_at dksX11_draw_1 11 rfl rfl)
theorem dX11_draw_35 : decode cX11_draw 35 = .ok (.istore 4, 2) := dk_54 4 (dk_at dksX11_draw_1 12 rfl rfl)
theorem dX11_draw_37 : decode cX11_draw 37 = .ok (.aload_n 0, 1) := dk_42 (dk_at dksX11_draw_1 14 rfl rfl)
theorem dX11_draw_38 : decode cX11_draw 38 = .ok (.getfield 9, 3) := dk_180 0 9 (dk_at dksX11_draw_1 15 rfl rfl)
theorem dX11_draw_41 : decode cX11_draw 41 = .ok (.iload 4, 2) := dk_21 4 (dk_at dksX11_draw_1 18 rfl rfl)
theorem dX11_draw_43 : decode cX11_draw 43 = .ok (.new 61, 3) := dk_187 0 61 (dk_at dksX11_draw_1 20 rfl rfl)
theorem dX11_draw_46 : decode cX11_draw 46 = .ok (.dup, 1) := dk_89 (dk_at dksX11_draw_1 23 rfl rfl)
theorem dX11_draw_47 : decode cX11_draw 47 = .ok (.aload_n 0, 1) := dk_42 (dk_at dksX11_draw_2 0 rfl rfl)
theorem dX11_draw_48 : decode cX11_draw 48 = .ok (.iload_n 1, 1) := dk_27 (dk_at dksX11_draw_2 1 rfl rfl)
theorem dX11_draw_49 : decode cX11_draw 49 = .ok (.aload_n 2, 1) := dk_44 (dk_at dksX11_draw_2 2 rfl rfl)
theorem dX11_draw_50 : decode cX11_draw 50 = .ok (.invokespecial 63, 3) := dk_183 0 63 (dk_at dksX11_draw_2 3 rfl rfl)
theorem dX11_draw_53 : decode cX11_draw 53 = .ok (.aload_n 3, 1) := dk_45 (dk_at dksX11_draw_2 6 rfl rfl)
theorem dX11_draw_54 : decode cX11_draw 54 = .ok (.invokevirtual 66, 3) := dk_182 0 66 (dk_at dksX11_draw_2 7 rfl rfl)
theorem dX11_draw_57 : decode cX11_draw 57 = .ok (.return_, 1) := dk_177 (dk_at dksX11_draw_2 10 rfl rfl)
abbrev cX11_toString : ByteArray := prog_13_method_3_code
def yX11_toString : MethodName := ⟨RX11, "toString", "()Ljava/lang/String;"⟩
def dkwX11_toString_1 : List UInt8 := [180, 0, 32, 182, 0, 38, 182, 0, 41, 176]
abbrev dktX11_toString_1 : List UInt8 := dkwX11_toString_1 ++ []
def dkwX11_toString_0 : List UInt8 := [187, 0, 17, 89, 183, 0, 19, 42, 183, 0, 22, 182, 0, 26, 18, 30, 182, 0, 26, 42, 180, 0, 9]
abbrev dktX11_toString_0 : List UInt8 := dkwX11_toString_0 ++ dktX11_toString_1
theorem dksX11_toString_0 : cX11_toString.data.toList.drop 0 = dktX11_toString_0 := by decide +kernel
theorem dksX11_toString_1 : cX11_toString.data.toList.drop 23 = dktX11_toString_1 := dk_seg dksX11_toString_0 23 rfl rfl
theorem dX11_toString_0 : decode cX11_toString 0 = .ok (.new 17, 3) := dk_187 0 17 (dk_at dksX11_toString_0 0 rfl rfl)
theorem dX11_toString_3 : decode cX11_toString 3 = .ok (.dup, 1) := dk_89 (dk_at dksX11_toString_0 3 rfl rfl)
theorem dX11_toString_4 : decode cX11_toString 4 = .ok (.invokespecial 19, 3) := dk_183 0 19 (dk_at dksX11_toString_0 4 rfl rfl)
theorem dX11_toString_7 : decode cX11_toString 7 = .ok (.aload_n 0, 1) := dk_42 (dk_at dksX11_toString_0 7 rfl rfl)
theorem dX11_toString_8 : decode cX11_toString 8 = .ok (.invokespecial 22, 3) := dk_183 0 22 (dk_at dksX11_toString_0 8 rfl rfl)
theorem dX11_toString_11 : decode cX11_toString 11 = .ok (.invokevirtual 26, 3) := dk_182 0 26 (dk_at dksX11_toString_0 11 rfl rfl)
theorem dX11_toString_14 : decode cX11_toString 14 = .ok (.ldc 30, 2) := dk_18 30 (dk_at dksX11_toString_0 14 rfl rfl)
theorem dX11_toString_16 : decode cX11_toString 16 = .ok (.invokevirtual 26, 3) := dk_182 0 26 (dk_at dksX11_toString_0 16 rfl rfl)
theorem dX11_toString_19 : decode cX11_toString 19 = .ok (.aload_n 0, 1) := dk_42 (dk_at dksX11_toString_0 19 rfl rfl)
theorem dX11_toString_20 : decode cX11_toString 20 = .ok (.getfield 9, 3) := dk_180 0 9 (dk_at dksX11_toString_0 20 rfl rfl)
theorem dX11_toString_23 : decode cX11_toString 23 = .ok (.getfield 32, 3) := dk_180 0 32 (dk_at dksX11_toString_1 0 rfl rfl)
theorem dX11_toString_26 : decode cX11_toString 26 = .ok (.invokevirtual 38, 3) := dk_182 0 38 (dk_at dksX11_toString_1 3 rfl rfl)
theorem dX11_toString_29 : decode cX11_toString 29 = .ok (.invokevirtual 41, 3) := dk_182 0 41 (dk_at dksX11_toString_1 6 rfl rfl)
theorem dX11_toString_32 : decode cX11_toString 32 = .ok (.areturn, 1) := dk_176 (dk_at dksX11_toString_1 9 rfl rfl)
abbrev cX11_word : ByteArray := prog_13_method_2_code
def yX11_word : MethodName := ⟨RX11, "word", "()Ljava/lang/String;"⟩
theorem dX11_word_0 : decode cX11_word 0 = .ok (.ldc 15, 2) := by decide +kernel
theorem dX11_word_2 : decode cX11_word 2 = .ok (.areturn, 1) := by decide +kernel
theorem q94 : (Jvm.Cond.initialized "Shapelayer$Nested") ∈ lw_all := lw_g (lw_at lw_m1 36 rfl) rfl
theorem q618 : (Jvm.Cond.selects "Shapelayer$Nested" ({ cls := "Shapelayer$Layer", name := "keys", desc := "()I" } : Jvm.MethodName) ({ cls := "Shapelayer$Layer", name := "keys", desc := "()I" } : Jvm.MethodName)) ∈ lw_all := lw_g (lw_at lw_m3 80 rfl) rfl
theorem q666 : (Jvm.Cond.fieldLinkNest "Shapelayer$Nested" (32 : Nat) "Shapelayer$Composition" "number" "I" "Shapelayer") ∈ lw_tbl := lw_at lw_m3 128 rfl
theorem q712 : (Jvm.Cond.selects "Shapelayer$Nested" ({ cls := "java/lang/Object", name := "getClass", desc := "()Ljava/lang/Class;" } : Jvm.MethodName) ({ cls := "java/lang/Object", name := "getClass", desc := "()Ljava/lang/Class;" } : Jvm.MethodName)) ∈ lw_all := lw_g (lw_at lw_m3 174 rfl) rfl
theorem q849 : (Jvm.Cond.fieldLink "Shapelayer$Nested" (58 : Nat) "Shapelayer$Nested" "from" "I") ∈ lw_all := lw_g (lw_at lw_m4 71 rfl) rfl
theorem q850 : (Jvm.Cond.sameField "Shapelayer$Nested" "Shapelayer$Layer" "from" "I") ∈ lw_all := lw_g (lw_at lw_m4 72 rfl) rfl
theorem q1030 : (Jvm.Cond.instantiable "Shapelayer$Nested" (9 : Nat)) ∈ lw_all := lw_g (lw_at lw_m5 12 rfl) rfl
theorem q1032 : (Jvm.Cond.instanceMethod ({ cls := "Shapelayer$Nested", name := "<init>", desc := "(ILShapelayer$Composition;LShapelayer$Composition;)V" } : Jvm.MethodName)) ∈ lw_all := lw_g (lw_at lw_m5 14 rfl) rfl
theorem q1033 : (Jvm.Cond.code ({ cls := "Shapelayer$Nested", name := "<init>", desc := "(ILShapelayer$Composition;LShapelayer$Composition;)V" } : Jvm.MethodName) prog_13_method_1_code (4 : Nat) (Option.none : Option Jvm.ClassFile.FieldType)) ∈ lw_all := lw_g (lw_at lw_m5 15 rfl) rfl
theorem q1034 : (Jvm.Cond.methodLink "Shapelayer$Nested" (3 : Nat) ({ cls := "Shapelayer$Layer", name := "<init>", desc := "(ILShapelayer$Composition;)V" } : Jvm.MethodName)) ∈ lw_all := lw_g (lw_at lw_m5 16 rfl) rfl
theorem q1035 : (Jvm.Cond.fieldLink "Shapelayer$Nested" (9 : Nat) "Shapelayer$Nested" "shown" "LShapelayer$Composition;") ∈ lw_all := lw_g (lw_at lw_m5 17 rfl) rfl
theorem q1037 : (Jvm.Cond.laysFinal "Shapelayer$Nested" "Shapelayer$Nested" "shown" "LShapelayer$Composition;") ∈ lw_all := lw_g (lw_at lw_m5 19 rfl) rfl
theorem q1038 : (Jvm.Cond.soleField "Shapelayer$Nested" "shown") ∈ lw_all := lw_g (lw_at lw_m5 20 rfl) rfl
theorem q1039 : (Jvm.Cond.laysFinal "Shapelayer$Nested" "Shapelayer$Layer" "number" "I") ∈ lw_all := lw_g (lw_at lw_m5 21 rfl) rfl
theorem q1040 : (Jvm.Cond.laysFinal "Shapelayer$Nested" "Shapelayer$Layer" "owner" "LShapelayer$Composition;") ∈ lw_all := lw_g (lw_at lw_m5 22 rfl) rfl
theorem q1041 : (Jvm.Cond.laysFinal "Shapelayer$Nested" "Shapelayer$Layer" "values" "[LShapelayer$Keyed;") ∈ lw_all := lw_g (lw_at lw_m5 23 rfl) rfl
theorem q1042 : (Jvm.Cond.lays "Shapelayer$Nested" "Shapelayer$Layer" "parent" "LShapelayer$Layer;") ∈ lw_all := lw_g (lw_at lw_m5 24 rfl) rfl
theorem q1043 : (Jvm.Cond.lays "Shapelayer$Nested" "Shapelayer$Layer" "matte" "LShapelayer$Layer;") ∈ lw_all := lw_g (lw_at lw_m5 25 rfl) rfl
theorem q1044 : (Jvm.Cond.lays "Shapelayer$Nested" "Shapelayer$Layer" "isInverted" "Z") ∈ lw_all := lw_g (lw_at lw_m5 26 rfl) rfl
theorem q1045 : (Jvm.Cond.lays "Shapelayer$Nested" "Shapelayer$Layer" "from" "I") ∈ lw_all := lw_g (lw_at lw_m5 27 rfl) rfl
theorem q1046 : (Jvm.Cond.lays "Shapelayer$Nested" "Shapelayer$Layer" "end" "I") ∈ lw_all := lw_g (lw_at lw_m5 28 rfl) rfl
theorem q1047 : (Jvm.Cond.superclass "Shapelayer$Nested" "Shapelayer$Layer") ∈ lw_all := lw_g (lw_at lw_m5 29 rfl) rfl
theorem q1099 : (Jvm.Cond.selects "Shapelayer$Nested" ({ cls := "java/lang/Object", name := "equals", desc := "(Ljava/lang/Object;)Z" } : Jvm.MethodName) ({ cls := "java/lang/Object", name := "equals", desc := "(Ljava/lang/Object;)Z" } : Jvm.MethodName)) ∈ lw_all := lw_g (lw_at lw_m5 81 rfl) rfl
theorem q1195 : (Jvm.Cond.selects "Shapelayer$Nested" ({ cls := "Shapelayer$Layer", name := "isOn", desc := "(LShapelayer$Layer;)Z" } : Jvm.MethodName) ({ cls := "Shapelayer$Layer", name := "isOn", desc := "(LShapelayer$Layer;)Z" } : Jvm.MethodName)) ∈ lw_all := lw_g (lw_at lw_m5 177 rfl) rfl
theorem q1311 : (Jvm.Cond.selects "Shapelayer$Nested" ({ cls := "Shapelayer$Layer", name := "value", desc := "(II)I" } : Jvm.MethodName) ({ cls := "Shapelayer$Layer", name := "value", desc := "(II)I" } : Jvm.MethodName)) ∈ lw_all := lw_g (lw_at lw_m6 53 rfl) rfl
theorem q1373 : (Jvm.Cond.selects "Shapelayer$Nested" ({ cls := "Shapelayer$Layer", name := "map", desc := "(ILShapelayer$Outer;JJ[J)V" } : Jvm.MethodName) ({ cls := "Shapelayer$Layer", name := "map", desc := "(ILShapelayer$Outer;JJ[J)V" } : Jvm.MethodName)) ∈ lw_all := lw_g (lw_at lw_m6 115 rfl) rfl
theorem q1381 : (Jvm.Cond.selects "Shapelayer$Nested" ({ cls := "Shapelayer$Layer", name := "map", desc := "(I[J)V" } : Jvm.MethodName) ({ cls := "Shapelayer$Layer", name := "map", desc := "(I[J)V" } : Jvm.MethodName)) ∈ lw_all := lw_g (lw_at lw_m6 123 rfl) rfl
theorem q1458 : (Jvm.Cond.selects "Shapelayer$Nested" ({ cls := "Shapelayer$Layer", name := "shows", desc := "(I)Z" } : Jvm.MethodName) ({ cls := "Shapelayer$Layer", name := "shows", desc := "(I)Z" } : Jvm.MethodName)) ∈ lw_all := lw_g (lw_at lw_m6 200 rfl) rfl
theorem q1467 : (Jvm.Cond.selects "Shapelayer$Nested" ({ cls := "Shapelayer$Layer", name := "draw", desc := "(ILShapelayer$Outer;LShapelayer$Raster;)V" } : Jvm.MethodName) ({ cls := "Shapelayer$Nested", name := "draw", desc := "(ILShapelayer$Outer;LShapelayer$Raster;)V" } : Jvm.MethodName)) ∈ lw_all := lw_g (lw_at lw_m6 209 rfl) rfl
theorem q1468 : (Jvm.Cond.instanceMethod ({ cls := "Shapelayer$Nested", name := "draw", desc := "(ILShapelayer$Outer;LShapelayer$Raster;)V" } : Jvm.MethodName)) ∈ lw_all := lw_g (lw_at lw_m6 210 rfl) rfl
theorem q1469 : (Jvm.Cond.code ({ cls := "Shapelayer$Nested", name := "draw", desc := "(ILShapelayer$Outer;LShapelayer$Raster;)V" } : Jvm.MethodName) prog_13_method_4_code (5 : Nat) (Option.none : Option Jvm.ClassFile.FieldType)) ∈ lw_all := lw_g (lw_at lw_m6 211 rfl) rfl
theorem q1470 : (Jvm.Cond.methodLink "Shapelayer$Nested" (42 : Nat) ({ cls := "Shapelayer$Nested", name := "hasKeys", desc := "(I)Z" } : Jvm.MethodName)) ∈ lw_all := lw_g (lw_at lw_m6 212 rfl) rfl
theorem q1471 : (Jvm.Cond.sameMethod "Shapelayer$Nested" "Shapelayer$Layer" "hasKeys" "(I)Z") ∈ lw_all := lw_g (lw_at lw_m6 213 rfl) rfl
theorem q1473 : (Jvm.Cond.selects "Shapelayer$Nested" ({ cls := "Shapelayer$Nested", name := "hasKeys", desc := "(I)Z" } : Jvm.MethodName) ({ cls := "Shapelayer$Layer", name := "hasKeys", desc := "(I)Z" } : Jvm.MethodName)) ∈ lw_all := lw_g (lw_at lw_m6 215 rfl) rfl
theorem q1476 : (Jvm.Cond.methodLink "Shapelayer$Nested" (46 : Nat) ({ cls := "Shapelayer$Nested", name := "value", desc := "(II)I" } : Jvm.MethodName)) ∈ lw_all := lw_g (lw_at lw_m6 218 rfl) rfl
theorem q1477 : (Jvm.Cond.sameMethod "Shapelayer$Nested" "Shapelayer$Layer" "value" "(II)I") ∈ lw_all := lw_g (lw_at lw_m6 219 rfl) rfl
theorem q1478 : (Jvm.Cond.selects "Shapelayer$Nested" ({ cls := "Shapelayer$Nested", name := "value", desc := "(II)I" } : Jvm.MethodName) ({ cls := "Shapelayer$Layer", name := "value", desc := "(II)I" } : Jvm.MethodName)) ∈ lw_all := lw_g (lw_at lw_m6 220 rfl) rfl
theorem q1479 : (Jvm.Cond.methodLink "Shapelayer$Nested" (50 : Nat) ({ cls := "java/lang/Math", name := "min", desc := "(II)I" } : Jvm.MethodName)) ∈ lw_all := lw_g (lw_at lw_m6 221 rfl) rfl
theorem q1480 : (Jvm.Cond.methodLink "Shapelayer$Nested" (55 : Nat) ({ cls := "java/lang/Math", name := "max", desc := "(II)I" } : Jvm.MethodName)) ∈ lw_all := lw_g (lw_at lw_m6 222 rfl) rfl
theorem q1481 : (Jvm.Cond.classLink "Shapelayer$Nested" (61 : Nat) "Shapelayer$Outer") ∈ lw_all := lw_g (lw_at lw_m6 223 rfl) rfl
theorem q1483 : (Jvm.Cond.methodLink "Shapelayer$Nested" (63 : Nat) ({ cls := "Shapelayer$Outer", name := "<init>", desc := "(LShapelayer$Layer;ILShapelayer$Outer;)V" } : Jvm.MethodName)) ∈ lw_all := lw_g (lw_at lw_m6 225 rfl) rfl
theorem q1500 : (Jvm.Cond.methodLink "Shapelayer$Nested" (66 : Nat) ({ cls := "Shapelayer$Composition", name := "draw", desc := "(ILShapelayer$Outer;LShapelayer$Raster;)V" } : Jvm.MethodName)) ∈ lw_all := lw_g (lw_at lw_m7 2 rfl) rfl
theorem q1686 : (Jvm.Cond.selects "Shapelayer$Nested" ({ cls := "Shapelayer$Layer", name := "tail", desc := "()Ljava/lang/String;" } : Jvm.MethodName) ({ cls := "Shapelayer$Layer", name := "tail", desc := "()Ljava/lang/String;" } : Jvm.MethodName)) ∈ lw_all := lw_g (lw_at lw_m7 188 rfl) rfl
theorem q1704 : (Jvm.Cond.selects "Shapelayer$Nested" ({ cls := "Shapelayer$Layer", name := "toString", desc := "()Ljava/lang/String;" } : Jvm.MethodName) ({ cls := "Shapelayer$Nested", name := "toString", desc := "()Ljava/lang/String;" } : Jvm.MethodName)) ∈ lw_all := lw_g (lw_at lw_m7 206 rfl) rfl
theorem q1705 : (Jvm.Cond.instanceMethod ({ cls := "Shapelayer$Nested", name := "toString", desc := "()Ljava/lang/String;" } : Jvm.MethodName)) ∈ lw_all := lw_g (lw_at lw_m7 207 rfl) rfl
theorem q1706 : (Jvm.Cond.code ({ cls := "Shapelayer$Nested", name := "toString", desc := "()Ljava/lang/String;" } : Jvm.MethodName) prog_13_method_3_code (1 : Nat) (Option.some (Jvm.ClassFile.FieldType.object "java/lang/String"))) ∈ lw_all := lw_g (lw_at lw_m7 208 rfl) rfl
theorem q1707 : (Jvm.Cond.classLink "Shapelayer$Nested" (17 : Nat) "java/lang/StringBuilder") ∈ lw_all := lw_g (lw_at lw_m7 209 rfl) rfl
theorem q1708 : (Jvm.Cond.methodLink "Shapelayer$Nested" (19 : Nat) ({ cls := "java/lang/StringBuilder", name := "<init>", desc := "()V" } : Jvm.MethodName)) ∈ lw_all := lw_g (lw_at lw_m7 210 rfl) rfl
theorem q1709 : (Jvm.Cond.methodLink "Shapelayer$Nested" (22 : Nat) ({ cls := "Shapelayer$Layer", name := "toString", desc := "()Ljava/lang/String;" } : Jvm.MethodName)) ∈ lw_all := lw_g (lw_at lw_m7 211 rfl) rfl
theorem q1714 : (Jvm.Cond.selects "Shapelayer$Nested" ({ cls := "Shapelayer$Layer", name := "word", desc := "()Ljava/lang/String;" } : Jvm.MethodName) ({ cls := "Shapelayer$Nested", name := "word", desc := "()Ljava/lang/String;" } : Jvm.MethodName)) ∈ lw_all := lw_g (lw_at lw_m7 216 rfl) rfl
theorem q1715 : (Jvm.Cond.instanceMethod ({ cls := "Shapelayer$Nested", name := "word", desc := "()Ljava/lang/String;" } : Jvm.MethodName)) ∈ lw_all := lw_g (lw_at lw_m7 217 rfl) rfl
theorem q1716 : (Jvm.Cond.code ({ cls := "Shapelayer$Nested", name := "word", desc := "()Ljava/lang/String;" } : Jvm.MethodName) prog_13_method_2_code (1 : Nat) (Option.some (Jvm.ClassFile.FieldType.object "java/lang/String"))) ∈ lw_all := lw_g (lw_at lw_m7 218 rfl) rfl
theorem q1717 : (Jvm.Cond.stringRef "Shapelayer$Nested" (15 : Nat) "nested") ∈ lw_tbl := lw_at lw_m7 219 rfl
theorem q1732 : (Jvm.Cond.methodLink "Shapelayer$Nested" (26 : Nat) ({ cls := "java/lang/StringBuilder", name := "append", desc := "(Ljava/lang/String;)Ljava/lang/StringBuilder;" } : Jvm.MethodName)) ∈ lw_all := lw_g (lw_at lw_m7 234 rfl) rfl
theorem q1733 : (Jvm.Cond.stringRef "Shapelayer$Nested" (30 : Nat) " ") ∈ lw_tbl := lw_at lw_m7 235 rfl
theorem q1734 : (Jvm.Cond.methodLink "Shapelayer$Nested" (38 : Nat) ({ cls := "java/lang/StringBuilder", name := "append", desc := "(I)Ljava/lang/StringBuilder;" } : Jvm.MethodName)) ∈ lw_all := lw_g (lw_at lw_m7 236 rfl) rfl
theorem q1735 : (Jvm.Cond.methodLink "Shapelayer$Nested" (41 : Nat) ({ cls := "java/lang/StringBuilder", name := "toString", desc := "()Ljava/lang/String;" } : Jvm.MethodName)) ∈ lw_all := lw_g (lw_at lw_m7 237 rfl) rfl
theorem q2221 : (Jvm.Cond.castable "Shapelayer$Nested" "Shapelayer$Layer") ∈ lw_tbl := lw_at lw_m10 3 rfl
theorem q2243 : (Jvm.Cond.castable "Shapelayer$Nested" "java/lang/Object") ∈ lw_tbl := lw_at lw_m10 25 rfl
theorem in_X11 : ∀ w ∈ wsX110, w ∈ lw_all := lw_in wsX110 [1039, 1040, 1041, 1042, 1043, 1044, 1045, 1046, 1037] (by decide +kernel) (by decide +kernel)

/-! Shapelayer$Null -/
set_option maxRecDepth 100000
def RX12 : String := "Shapelayer$Null"
def TX12 : u_T := fun k => match k with
  | 0 => ("Shapelayer$Layer", "number", "I", true)
  | 1 => ("Shapelayer$Layer", "owner", "LShapelayer$Composition;", true)
  | 2 => ("Shapelayer$Layer", "values", "[LShapelayer$Keyed;", true)
  | 3 => ("Shapelayer$Layer", "parent", "LShapelayer$Layer;", false)
  | 4 => ("Shapelayer$Layer", "matte", "LShapelayer$Layer;", false)
  | 5 => ("Shapelayer$Layer", "isInverted", "Z", false)
  | 6 => ("Shapelayer$Layer", "from", "I", false)
  | _ => ("Shapelayer$Layer", "end", "I", false)
def tyX12 : Nat → FieldType := fun k => match k with
  | 0 => .int
  | 1 => .object "Shapelayer$Composition"
  | 2 => .array (.object "Shapelayer$Keyed")
  | 3 => .object "Shapelayer$Layer"
  | 4 => .object "Shapelayer$Layer"
  | 5 => .boolean
  | 6 => .int
  | _ => .int
abbrev wsX120 : List Cond := u_ws RX12 TX12 8
theorem nmX12 : ∀ a, a < 8 → ∀ b, b < 8 → a ≠ b → (TX12 a).2.1 ≠ (TX12 b).2.1 := by decide +kernel
theorem tyX12_ok : ∀ k, k < 8 → parseFieldDescriptor (TX12 k).2.2.1 = some (tyX12 k) := by decide +kernel
abbrev cX12_init : ByteArray := prog_14_method_1_code
def yX12_init : MethodName := ⟨RX12, "<init>", "(ILShapelayer$Composition;)V"⟩
def dkwX12_init_0 : List UInt8 := [42, 27, 44, 183, 0, 1, 177]
abbrev dktX12_init_0 : List UInt8 := dkwX12_init_0 ++ []
theorem dksX12_init_0 : cX12_init.data.toList.drop 0 = dktX12_init_0 := by decide +kernel
theorem dX12_init_0 : decode cX12_init 0 = .ok (.aload_n 0, 1) := dk_42 (dk_at dksX12_init_0 0 rfl rfl)
theorem dX12_init_1 : decode cX12_init 1 = .ok (.iload_n 1, 1) := dk_27 (dk_at dksX12_init_0 1 rfl rfl)
theorem dX12_init_2 : decode cX12_init 2 = .ok (.aload_n 2, 1) := dk_44 (dk_at dksX12_init_0 2 rfl rfl)
theorem dX12_init_3 : decode cX12_init 3 = .ok (.invokespecial 1, 3) := dk_183 0 1 (dk_at dksX12_init_0 3 rfl rfl)
theorem dX12_init_6 : decode cX12_init 6 = .ok (.return_, 1) := dk_177 (dk_at dksX12_init_0 6 rfl rfl)
abbrev cX12_word : ByteArray := prog_14_method_2_code
def yX12_word : MethodName := ⟨RX12, "word", "()Ljava/lang/String;"⟩
theorem dX12_word_0 : decode cX12_word 0 = .ok (.ldc 7, 2) := by decide +kernel
theorem dX12_word_2 : decode cX12_word 2 = .ok (.areturn, 1) := by decide +kernel
theorem q95 : (Jvm.Cond.initialized "Shapelayer$Null") ∈ lw_all := lw_g (lw_at lw_m1 37 rfl) rfl
theorem q619 : (Jvm.Cond.selects "Shapelayer$Null" ({ cls := "Shapelayer$Layer", name := "keys", desc := "()I" } : Jvm.MethodName) ({ cls := "Shapelayer$Layer", name := "keys", desc := "()I" } : Jvm.MethodName)) ∈ lw_all := lw_g (lw_at lw_m3 81 rfl) rfl
theorem q713 : (Jvm.Cond.selects "Shapelayer$Null" ({ cls := "java/lang/Object", name := "getClass", desc := "()Ljava/lang/Class;" } : Jvm.MethodName) ({ cls := "java/lang/Object", name := "getClass", desc := "()Ljava/lang/Class;" } : Jvm.MethodName)) ∈ lw_all := lw_g (lw_at lw_m3 175 rfl) rfl
theorem q1056 : (Jvm.Cond.instantiable "Shapelayer$Null" (8 : Nat)) ∈ lw_all := lw_g (lw_at lw_m5 38 rfl) rfl
theorem q1058 : (Jvm.Cond.instanceMethod ({ cls := "Shapelayer$Null", name := "<init>", desc := "(ILShapelayer$Composition;)V" } : Jvm.MethodName)) ∈ lw_all := lw_g (lw_at lw_m5 40 rfl) rfl
theorem q1059 : (Jvm.Cond.code ({ cls := "Shapelayer$Null", name := "<init>", desc := "(ILShapelayer$Composition;)V" } : Jvm.MethodName) prog_14_method_1_code (3 : Nat) (Option.none : Option Jvm.ClassFile.FieldType)) ∈ lw_all := lw_g (lw_at lw_m5 41 rfl) rfl
theorem q1060 : (Jvm.Cond.methodLink "Shapelayer$Null" (1 : Nat) ({ cls := "Shapelayer$Layer", name := "<init>", desc := "(ILShapelayer$Composition;)V" } : Jvm.MethodName)) ∈ lw_all := lw_g (lw_at lw_m5 42 rfl) rfl
theorem q1061 : (Jvm.Cond.laysFinal "Shapelayer$Null" "Shapelayer$Layer" "number" "I") ∈ lw_all := lw_g (lw_at lw_m5 43 rfl) rfl
theorem q1062 : (Jvm.Cond.laysFinal "Shapelayer$Null" "Shapelayer$Layer" "owner" "LShapelayer$Composition;") ∈ lw_all := lw_g (lw_at lw_m5 44 rfl) rfl
theorem q1063 : (Jvm.Cond.laysFinal "Shapelayer$Null" "Shapelayer$Layer" "values" "[LShapelayer$Keyed;") ∈ lw_all := lw_g (lw_at lw_m5 45 rfl) rfl
theorem q1064 : (Jvm.Cond.lays "Shapelayer$Null" "Shapelayer$Layer" "parent" "LShapelayer$Layer;") ∈ lw_all := lw_g (lw_at lw_m5 46 rfl) rfl
theorem q1065 : (Jvm.Cond.lays "Shapelayer$Null" "Shapelayer$Layer" "matte" "LShapelayer$Layer;") ∈ lw_all := lw_g (lw_at lw_m5 47 rfl) rfl
theorem q1066 : (Jvm.Cond.lays "Shapelayer$Null" "Shapelayer$Layer" "isInverted" "Z") ∈ lw_all := lw_g (lw_at lw_m5 48 rfl) rfl
theorem q1067 : (Jvm.Cond.lays "Shapelayer$Null" "Shapelayer$Layer" "from" "I") ∈ lw_all := lw_g (lw_at lw_m5 49 rfl) rfl
theorem q1068 : (Jvm.Cond.lays "Shapelayer$Null" "Shapelayer$Layer" "end" "I") ∈ lw_all := lw_g (lw_at lw_m5 50 rfl) rfl
theorem q1069 : (Jvm.Cond.superclass "Shapelayer$Null" "Shapelayer$Layer") ∈ lw_all := lw_g (lw_at lw_m5 51 rfl) rfl
theorem q1100 : (Jvm.Cond.selects "Shapelayer$Null" ({ cls := "java/lang/Object", name := "equals", desc := "(Ljava/lang/Object;)Z" } : Jvm.MethodName) ({ cls := "java/lang/Object", name := "equals", desc := "(Ljava/lang/Object;)Z" } : Jvm.MethodName)) ∈ lw_all := lw_g (lw_at lw_m5 82 rfl) rfl
theorem q1196 : (Jvm.Cond.selects "Shapelayer$Null" ({ cls := "Shapelayer$Layer", name := "isOn", desc := "(LShapelayer$Layer;)Z" } : Jvm.MethodName) ({ cls := "Shapelayer$Layer", name := "isOn", desc := "(LShapelayer$Layer;)Z" } : Jvm.MethodName)) ∈ lw_all := lw_g (lw_at lw_m5 178 rfl) rfl
theorem q1312 : (Jvm.Cond.selects "Shapelayer$Null" ({ cls := "Shapelayer$Layer", name := "value", desc := "(II)I" } : Jvm.MethodName) ({ cls := "Shapelayer$Layer", name := "value", desc := "(II)I" } : Jvm.MethodName)) ∈ lw_all := lw_g (lw_at lw_m6 54 rfl) rfl
theorem q1374 : (Jvm.Cond.selects "Shapelayer$Null" ({ cls := "Shapelayer$Layer", name := "map", desc := "(ILShapelayer$Outer;JJ[J)V" } : Jvm.MethodName) ({ cls := "Shapelayer$Layer", name := "map", desc := "(ILShapelayer$Outer;JJ[J)V" } : Jvm.MethodName)) ∈ lw_all := lw_g (lw_at lw_m6 116 rfl) rfl
theorem q1382 : (Jvm.Cond.selects "Shapelayer$Null" ({ cls := "Shapelayer$Layer", name := "map", desc := "(I[J)V" } : Jvm.MethodName) ({ cls := "Shapelayer$Layer", name := "map", desc := "(I[J)V" } : Jvm.MethodName)) ∈ lw_all := lw_g (lw_at lw_m6 124 rfl) rfl
theorem q1459 : (Jvm.Cond.selects "Shapelayer$Null" ({ cls := "Shapelayer$Layer", name := "shows", desc := "(I)Z" } : Jvm.MethodName) ({ cls := "Shapelayer$Layer", name := "shows", desc := "(I)Z" } : Jvm.MethodName)) ∈ lw_all := lw_g (lw_at lw_m6 201 rfl) rfl
theorem q1501 : (Jvm.Cond.selects "Shapelayer$Null" ({ cls := "Shapelayer$Layer", name := "draw", desc := "(ILShapelayer$Outer;LShapelayer$Raster;)V" } : Jvm.MethodName) ({ cls := "Shapelayer$Layer", name := "draw", desc := "(ILShapelayer$Outer;LShapelayer$Raster;)V" } : Jvm.MethodName)) ∈ lw_all := lw_g (lw_at lw_m7 3 rfl) rfl
theorem q1687 : (Jvm.Cond.selects "Shapelayer$Null" ({ cls := "Shapelayer$Layer", name := "tail", desc := "()Ljava/lang/String;" } : Jvm.MethodName) ({ cls := "Shapelayer$Layer", name := "tail", desc := "()Ljava/lang/String;" } : Jvm.MethodName)) ∈ lw_all := lw_g (lw_at lw_m7 189 rfl) rfl
theorem q1718 : (Jvm.Cond.selects "Shapelayer$Null" ({ cls := "Shapelayer$Layer", name := "word", desc := "()Ljava/lang/String;" } : Jvm.MethodName) ({ cls := "Shapelayer$Null", name := "word", desc := "()Ljava/lang/String;" } : Jvm.MethodName)) ∈ lw_all := lw_g (lw_at lw_m7 220 rfl) rfl
theorem q1719 : (Jvm.Cond.instanceMethod ({ cls := "Shapelayer$Null", name := "word", desc := "()Ljava/lang/String;" } : Jvm.MethodName)) ∈ lw_all := lw_g (lw_at lw_m7 221 rfl) rfl
theorem q1720 : (Jvm.Cond.code ({ cls := "Shapelayer$Null", name := "word", desc := "()Ljava/lang/String;" } : Jvm.MethodName) prog_14_method_2_code (1 : Nat) (Option.some (Jvm.ClassFile.FieldType.object "java/lang/String"))) ∈ lw_all := lw_g (lw_at lw_m7 222 rfl) rfl
theorem q1721 : (Jvm.Cond.stringRef "Shapelayer$Null" (7 : Nat) "null") ∈ lw_tbl := lw_at lw_m7 223 rfl
theorem q1736 : (Jvm.Cond.selects "Shapelayer$Null" ({ cls := "Shapelayer$Layer", name := "toString", desc := "()Ljava/lang/String;" } : Jvm.MethodName) ({ cls := "Shapelayer$Layer", name := "toString", desc := "()Ljava/lang/String;" } : Jvm.MethodName)) ∈ lw_all := lw_g (lw_at lw_m7 238 rfl) rfl
theorem q2222 : (Jvm.Cond.castable "Shapelayer$Null" "Shapelayer$Layer") ∈ lw_tbl := lw_at lw_m10 4 rfl
theorem q2244 : (Jvm.Cond.castable "Shapelayer$Null" "java/lang/Object") ∈ lw_tbl := lw_at lw_m10 26 rfl
theorem in_X12 : ∀ w ∈ wsX120, w ∈ lw_all := lw_in wsX120 [1061, 1062, 1063, 1064, 1065, 1066, 1067, 1068] (by decide +kernel) (by decide +kernel)

/-! Shapelayer$Key -/
set_option maxRecDepth 100000
def RX13 : String := "Shapelayer$Key"
def TX13 : u_T := fun k => match k with
  | 0 => ("Shapelayer$Key", "time", "I", true)
  | 1 => ("Shapelayer$Key", "number", "I", true)
  | _ => ("Shapelayer$Key", "easing", "LShapelayer$Easing;", true)
def tyX13 : Nat → FieldType := fun k => match k with
  | 0 => .int
  | 1 => .int
  | _ => .object "Shapelayer$Easing"
abbrev wsX130 : List Cond := u_ws RX13 TX13 3
theorem nmX13 : ∀ a, a < 3 → ∀ b, b < 3 → a ≠ b → (TX13 a).2.1 ≠ (TX13 b).2.1 := by decide +kernel
theorem tyX13_ok : ∀ k, k < 3 → parseFieldDescriptor (TX13 k).2.2.1 = some (tyX13 k) := by decide +kernel
abbrev cX13_init : ByteArray := prog_10_method_1_code
def yX13_init : MethodName := ⟨RX13, "<init>", "(III)V"⟩
def dkwX13_init_0 : List UInt8 := [42, 183, 0, 1, 42, 27, 181, 0, 7, 42, 28, 181, 0, 13, 42, 29, 184, 0, 16, 181, 0, 22, 177]
abbrev dktX13_init_0 : List UInt8 := dkwX13_init_0 ++ []
theorem dksX13_init_0 : cX13_init.data.toList.drop 0 = dktX13_init_0 := by decide +kernel
theorem dX13_init_0 : decode cX13_init 0 = .ok (.aload_n 0, 1) := dk_42 (dk_at dksX13_init_0 0 rfl rfl)
theorem dX13_init_1 : decode cX13_init 1 = .ok (.invokespecial 1, 3) := dk_183 0 1 (dk_at dksX13_init_0 1 rfl rfl)
theorem dX13_init_4 : decode cX13_init 4 = .ok (.aload_n 0, 1) := dk_42 (dk_at dksX13_init_0 4 rfl rfl)
theorem dX13_init_5 : decode cX13_init 5 = .ok (.iload_n 1, 1) := dk_27 (dk_at dksX13_init_0 5 rfl rfl)
theorem dX13_init_6 : decode cX13_init 6 = .ok (.putfield 7, 3) := dk_181 0 7 (dk_at dksX13_init_0 6 rfl rfl)
theorem dX13_init_9 : decode cX13_init 9 = .ok (.aload_n 0, 1) := dk_42 (dk_at dksX13_init_0 9 rfl rfl)
theorem dX13_init_10 : decode cX13_init 10 = .ok (.iload_n 2, 1) := dk_28 (dk_at dksX13_init_0 10 rfl rfl)
theorem dX13_init_11 : decode cX13_init 11 = .ok (.putfield 13, 3) := dk_181 0 13 (dk_at dksX13_init_0 11 rfl rfl)
theorem dX13_init_14 : decode cX13_init 14 = .ok (.aload_n 0, 1) := dk_42 (dk_at dksX13_init_0 14 rfl rfl)
theorem dX13_init_15 : decode cX13_init 15 = .ok (.iload_n 3, 1) := dk_29 (dk_at dksX13_init_0 15 rfl rfl)
theorem dX13_init_16 : decode cX13_init 16 = .ok (.invokestatic 16, 3) := dk_184 0 16 (dk_at dksX13_init_0 16 rfl rfl)
theorem dX13_init_19 : decode cX13_init 19 = .ok (.putfield 22, 3) := dk_181 0 22 (dk_at dksX13_init_0 19 rfl rfl)
theorem dX13_init_22 : decode cX13_init 22 = .ok (.return_, 1) := dk_177 (dk_at dksX13_init_0 22 rfl rfl)
theorem q96 : (Jvm.Cond.initialized "Shapelayer$Key") ∈ lw_all := lw_g (lw_at lw_m1 38 rfl) rfl
theorem q710 : (Jvm.Cond.selects "Shapelayer$Key" ({ cls := "java/lang/Object", name := "getClass", desc := "()Ljava/lang/Class;" } : Jvm.MethodName) ({ cls := "java/lang/Object", name := "getClass", desc := "()Ljava/lang/Class;" } : Jvm.MethodName)) ∈ lw_all := lw_g (lw_at lw_m3 172 rfl) rfl
theorem q1097 : (Jvm.Cond.selects "Shapelayer$Key" ({ cls := "java/lang/Object", name := "equals", desc := "(Ljava/lang/Object;)Z" } : Jvm.MethodName) ({ cls := "java/lang/Object", name := "equals", desc := "(Ljava/lang/Object;)Z" } : Jvm.MethodName)) ∈ lw_all := lw_g (lw_at lw_m5 79 rfl) rfl
theorem q1248 : (Jvm.Cond.instantiable "Shapelayer$Key" (3 : Nat)) ∈ lw_all := lw_g (lw_at lw_m5 230 rfl) rfl
theorem q1250 : (Jvm.Cond.instanceMethod ({ cls := "Shapelayer$Key", name := "<init>", desc := "(III)V" } : Jvm.MethodName)) ∈ lw_all := lw_g (lw_at lw_m5 232 rfl) rfl
theorem q1251 : (Jvm.Cond.code ({ cls := "Shapelayer$Key", name := "<init>", desc := "(III)V" } : Jvm.MethodName) prog_10_method_1_code (4 : Nat) (Option.none : Option Jvm.ClassFile.FieldType)) ∈ lw_all := lw_g (lw_at lw_m5 233 rfl) rfl
theorem q1252 : (Jvm.Cond.methodLink "Shapelayer$Key" (1 : Nat) ({ cls := "java/lang/Object", name := "<init>", desc := "()V" } : Jvm.MethodName)) ∈ lw_all := lw_g (lw_at lw_m5 234 rfl) rfl
theorem q1253 : (Jvm.Cond.methodLink "Shapelayer$Key" (16 : Nat) ({ cls := "Shapelayer$Easing", name := "of", desc := "(I)LShapelayer$Easing;" } : Jvm.MethodName)) ∈ lw_all := lw_g (lw_at lw_m5 235 rfl) rfl
theorem q1277 : (Jvm.Cond.fieldLink "Shapelayer$Key" (7 : Nat) "Shapelayer$Key" "time" "I") ∈ lw_all := lw_g (lw_at lw_m6 19 rfl) rfl
theorem q1279 : (Jvm.Cond.fieldLink "Shapelayer$Key" (13 : Nat) "Shapelayer$Key" "number" "I") ∈ lw_all := lw_g (lw_at lw_m6 21 rfl) rfl
theorem q1282 : (Jvm.Cond.fieldLink "Shapelayer$Key" (22 : Nat) "Shapelayer$Key" "easing" "LShapelayer$Easing;") ∈ lw_all := lw_g (lw_at lw_m6 24 rfl) rfl
theorem q1284 : (Jvm.Cond.laysFinal "Shapelayer$Key" "Shapelayer$Key" "time" "I") ∈ lw_all := lw_g (lw_at lw_m6 26 rfl) rfl
theorem q1285 : (Jvm.Cond.soleField "Shapelayer$Key" "time") ∈ lw_all := lw_g (lw_at lw_m6 27 rfl) rfl
theorem q1286 : (Jvm.Cond.laysFinal "Shapelayer$Key" "Shapelayer$Key" "number" "I") ∈ lw_all := lw_g (lw_at lw_m6 28 rfl) rfl
theorem q1287 : (Jvm.Cond.soleField "Shapelayer$Key" "number") ∈ lw_all := lw_g (lw_at lw_m6 29 rfl) rfl
theorem q1288 : (Jvm.Cond.laysFinal "Shapelayer$Key" "Shapelayer$Key" "easing" "LShapelayer$Easing;") ∈ lw_all := lw_g (lw_at lw_m6 30 rfl) rfl
theorem q1289 : (Jvm.Cond.soleField "Shapelayer$Key" "easing") ∈ lw_all := lw_g (lw_at lw_m6 31 rfl) rfl
theorem q1290 : (Jvm.Cond.superclass "Shapelayer$Key" "java/lang/Object") ∈ lw_all := lw_g (lw_at lw_m6 32 rfl) rfl
theorem q2245 : (Jvm.Cond.castable "Shapelayer$Key" "java/lang/Object") ∈ lw_tbl := lw_at lw_m10 27 rfl
theorem in_X13 : ∀ w ∈ wsX130, w ∈ lw_all := lw_in wsX130 [1284, 1286, 1288] (by decide +kernel) (by decide +kernel)

/-! Shapelayer$Easing -/
set_option maxRecDepth 100000
def RX14 : String := "Shapelayer$Easing"
abbrev cX14_of : ByteArray := prog_5_method_3_code
def yX14_of : MethodName := ⟨RX14, "of", "(I)LShapelayer$Easing;"⟩
def dkwX14_of_3 : List UInt8 := [183, 0, 25, 176]
abbrev dktX14_of_3 : List UInt8 := dkwX14_of_3 ++ []
def dkwX14_of_2 : List UInt8 := [187, 0, 14, 89, 183, 0, 16, 167, 0, 20, 187, 0, 20, 89, 183, 0, 22, 167, 0, 10, 187, 0, 23, 89]
abbrev dktX14_of_2 : List UInt8 := dkwX14_of_2 ++ dktX14_of_3
def dkwX14_of_1 : List UInt8 := [171, 0, 0, 0, 0, 0, 47, 0, 0, 0, 2, 0, 0, 0, 0, 0, 0, 0, 27, 0, 0, 0, 1, 0, 0, 0, 37]
abbrev dktX14_of_1 : List UInt8 := dkwX14_of_1 ++ dktX14_of_2
def dkwX14_of_0 : List UInt8 := [26]
abbrev dktX14_of_0 : List UInt8 := dkwX14_of_0 ++ dktX14_of_1
theorem dksX14_of_0 : cX14_of.data.toList.drop 0 = dktX14_of_0 := by decide +kernel
theorem dksX14_of_1 : cX14_of.data.toList.drop 1 = dktX14_of_1 := dk_seg dksX14_of_0 1 rfl rfl
theorem dksX14_of_2 : cX14_of.data.toList.drop 28 = dktX14_of_2 := dk_seg dksX14_of_1 27 rfl rfl
theorem dksX14_of_3 : cX14_of.data.toList.drop 52 = dktX14_of_3 := dk_seg dksX14_of_2 24 rfl rfl
theorem dX14_of_0 : decode cX14_of 0 = .ok (.iload_n 0, 1) := dk_26 (dk_at dksX14_of_0 0 rfl rfl)
theorem dX14_of_1 : decode cX14_of 1 = .ok (.lookupswitch 47 #[(0, 27), (1, 37)], 27) := by decide +kernel
theorem dX14_of_28 : decode cX14_of 28 = .ok (.new 14, 3) := dk_187 0 14 (dk_at dksX14_of_2 0 rfl rfl)
theorem dX14_of_31 : decode cX14_of 31 = .ok (.dup, 1) := dk_89 (dk_at dksX14_of_2 3 rfl rfl)
theorem dX14_of_32 : decode cX14_of 32 = .ok (.invokespecial 16, 3) := dk_183 0 16 (dk_at dksX14_of_2 4 rfl rfl)
theorem dX14_of_35 : decode cX14_of 35 = .ok (.goto 20, 3) := dk_167 0 20 (dk_at dksX14_of_2 7 rfl rfl)
theorem dX14_of_38 : decode cX14_of 38 = .ok (.new 20, 3) := dk_187 0 20 (dk_at dksX14_of_2 10 rfl rfl)
theorem dX14_of_41 : decode cX14_of 41 = .ok (.dup, 1) := dk_89 (dk_at dksX14_of_2 13 rfl rfl)
theorem dX14_of_42 : decode cX14_of 42 = .ok (.invokespecial 22, 3) := dk_183 0 22 (dk_at dksX14_of_2 14 rfl rfl)
theorem dX14_of_45 : decode cX14_of 45 = .ok (.goto 10, 3) := dk_167 0 10 (dk_at dksX14_of_2 17 rfl rfl)
theorem dX14_of_48 : decode cX14_of 48 = .ok (.new 23, 3) := dk_187 0 23 (dk_at dksX14_of_2 20 rfl rfl)
theorem dX14_of_51 : decode cX14_of 51 = .ok (.dup, 1) := dk_89 (dk_at dksX14_of_2 23 rfl rfl)
theorem dX14_of_52 : decode cX14_of 52 = .ok (.invokespecial 25, 3) := dk_183 0 25 (dk_at dksX14_of_3 0 rfl rfl)
theorem dX14_of_55 : decode cX14_of 55 = .ok (.areturn, 1) := dk_176 (dk_at dksX14_of_3 3 rfl rfl)
abbrev cX14_between : ByteArray := prog_5_method_2_code
def yX14_between : MethodName := ⟨RX14, "between", "(IIII)I"⟩
def dkwX14_between_1 : List UInt8 := [21, 4, 133, 185, 0, 3, 5, 0, 184, 0, 9, 97, 136, 172]
abbrev dktX14_between_1 : List UInt8 := dkwX14_between_1 ++ []
def dkwX14_between_0 : List UInt8 := [27, 133, 28, 133, 27, 133, 101, 42, 29, 133, 21, 4, 133, 185, 0, 3, 5, 0, 105, 42, 21, 4, 133]
abbrev dktX14_between_0 : List UInt8 := dkwX14_between_0 ++ dktX14_between_1
theorem dksX14_between_0 : cX14_between.data.toList.drop 0 = dktX14_between_0 := by decide +kernel
theorem dksX14_between_1 : cX14_between.data.toList.drop 23 = dktX14_between_1 := dk_seg dksX14_between_0 23 rfl rfl
theorem dX14_between_0 : decode cX14_between 0 = .ok (.iload_n 1, 1) := dk_27 (dk_at dksX14_between_0 0 rfl rfl)
theorem dX14_between_1 : decode cX14_between 1 = .ok (.i2l, 1) := dk_133 (dk_at dksX14_between_0 1 rfl rfl)
theorem dX14_between_2 : decode cX14_between 2 = .ok (.iload_n 2, 1) := dk_28 (dk_at dksX14_between_0 2 rfl rfl)
theorem dX14_between_3 : decode cX14_between 3 = .ok (.i2l, 1) := dk_133 (dk_at dksX14_between_0 3 rfl rfl)
theorem dX14_between_4 : decode cX14_between 4 = .ok (.iload_n 1, 1) := dk_27 (dk_at dksX14_between_0 4 rfl rfl)
theorem dX14_between_5 : decode cX14_between 5 = .ok (.i2l, 1) := dk_133 (dk_at dksX14_between_0 5 rfl rfl)
theorem dX14_between_6 : decode cX14_between 6 = .ok (.lsub, 1) := dk_101 (dk_at dksX14_between_0 6 rfl rfl)
theorem dX14_between_7 : decode cX14_between 7 = .ok (.aload_n 0, 1) := dk_42 (dk_at dksX14_between_0 7 rfl rfl)
theorem dX14_between_8 : decode cX14_between 8 = .ok (.iload_n 3, 1) := dk_29 (dk_at dksX14_between_0 8 rfl rfl)
theorem dX14_between_9 : decode cX14_between 9 = .ok (.i2l, 1) := dk_133 (dk_at dksX14_between_0 9 rfl rfl)
theorem dX14_between_10 : decode cX14_between 10 = .ok (.iload 4, 2) := dk_21 4 (dk_at dksX14_between_0 10 rfl rfl)
theorem dX14_between_12 : decode cX14_between 12 = .ok (.i2l, 1) := dk_133 (dk_at dksX14_between_0 12 rfl rfl)
theorem dX14_between_13 : decode cX14_between 13 = .ok (.invokeinterface 3 5, 5) := by decide +kernel
theorem dX14_between_18 : decode cX14_between 18 = .ok (.lmul, 1) := dk_105 (dk_at dksX14_between_0 18 rfl rfl)
theorem dX14_between_19 : decode cX14_between 19 = .ok (.aload_n 0, 1) := dk_42 (dk_at dksX14_between_0 19 rfl rfl)
theorem dX14_between_20 : decode cX14_between 20 = .ok (.iload 4, 2) := dk_21 4 (dk_at dksX14_between_0 20 rfl rfl)
theorem dX14_between_22 : decode cX14_between 22 = .ok (.i2l, 1) := dk_133 (dk_at dksX14_between_0 22 rfl rfl)
theorem dX14_between_23 : decode cX14_between 23 = .ok (.iload 4, 2) := dk_21 4 (dk_at dksX14_between_1 0 rfl rfl)
theorem dX14_between_25 : decode cX14_between 25 = .ok (.i2l, 1) := dk_133 (dk_at dksX14_between_1 2 rfl rfl)
theorem dX14_between_26 : decode cX14_between 26 = .ok (.invokeinterface 3 5, 5) := by decide +kernel
theorem dX14_between_31 : decode cX14_between 31 = .ok (.invokestatic 9, 3) := dk_184 0 9 (dk_at dksX14_between_1 8 rfl rfl)
theorem dX14_between_34 : decode cX14_between 34 = .ok (.ladd, 1) := dk_97 (dk_at dksX14_between_1 11 rfl rfl)
theorem dX14_between_35 : decode cX14_between 35 = .ok (.l2i, 1) := dk_136 (dk_at dksX14_between_1 12 rfl rfl)
theorem dX14_between_36 : decode cX14_between 36 = .ok (.ireturn, 1) := dk_172 (dk_at dksX14_between_1 13 rfl rfl)
theorem q97 : (Jvm.Cond.initialized "Shapelayer$Easing") ∈ lw_all := lw_g (lw_at lw_m1 39 rfl) rfl
theorem q1254 : (Jvm.Cond.static ({ cls := "Shapelayer$Easing", name := "of", desc := "(I)LShapelayer$Easing;" } : Jvm.MethodName)) ∈ lw_all := lw_g (lw_at lw_m5 236 rfl) rfl
theorem q1255 : (Jvm.Cond.code ({ cls := "Shapelayer$Easing", name := "of", desc := "(I)LShapelayer$Easing;" } : Jvm.MethodName) prog_5_method_3_code (1 : Nat) (Option.some (Jvm.ClassFile.FieldType.object "Shapelayer$Easing"))) ∈ lw_all := lw_g (lw_at lw_m5 237 rfl) rfl
theorem q1256 : (Jvm.Cond.classLink "Shapelayer$Easing" (14 : Nat) "Shapelayer$Easing$1") ∈ lw_all := lw_g (lw_at lw_m5 238 rfl) rfl
theorem q1258 : (Jvm.Cond.methodLink "Shapelayer$Easing" (16 : Nat) ({ cls := "Shapelayer$Easing$1", name := "<init>", desc := "()V" } : Jvm.MethodName)) ∈ lw_all := lw_g (lw_at lw_m6 0 rfl) rfl
theorem q1263 : (Jvm.Cond.classLink "Shapelayer$Easing" (20 : Nat) "Shapelayer$Easing$2") ∈ lw_all := lw_g (lw_at lw_m6 5 rfl) rfl
theorem q1265 : (Jvm.Cond.methodLink "Shapelayer$Easing" (22 : Nat) ({ cls := "Shapelayer$Easing$2", name := "<init>", desc := "()V" } : Jvm.MethodName)) ∈ lw_all := lw_g (lw_at lw_m6 7 rfl) rfl
theorem q1270 : (Jvm.Cond.classLink "Shapelayer$Easing" (23 : Nat) "Shapelayer$Easing$3") ∈ lw_all := lw_g (lw_at lw_m6 12 rfl) rfl
theorem q1272 : (Jvm.Cond.methodLink "Shapelayer$Easing" (25 : Nat) ({ cls := "Shapelayer$Easing$3", name := "<init>", desc := "()V" } : Jvm.MethodName)) ∈ lw_all := lw_g (lw_at lw_m6 14 rfl) rfl
theorem q1326 : (Jvm.Cond.interfaceMethod "Shapelayer$Easing" "Shapelayer$Easing" "between" "(IIII)I") ∈ lw_tbl := lw_at lw_m6 68 rfl
theorem q1327 : (Jvm.Cond.declares ({ cls := "Shapelayer$Easing", name := "between", desc := "(IIII)I" } : Jvm.MethodName)) ∈ lw_tbl := lw_at lw_m6 69 rfl
theorem q1330 : (Jvm.Cond.instanceMethod ({ cls := "Shapelayer$Easing", name := "between", desc := "(IIII)I" } : Jvm.MethodName)) ∈ lw_all := lw_g (lw_at lw_m6 72 rfl) rfl
theorem q1331 : (Jvm.Cond.publicMethod ({ cls := "Shapelayer$Easing", name := "between", desc := "(IIII)I" } : Jvm.MethodName)) ∈ lw_tbl := lw_at lw_m6 73 rfl
theorem q1332 : (Jvm.Cond.code ({ cls := "Shapelayer$Easing", name := "between", desc := "(IIII)I" } : Jvm.MethodName) prog_5_method_2_code (5 : Nat) (Option.some Jvm.ClassFile.FieldType.int)) ∈ lw_all := lw_g (lw_at lw_m6 74 rfl) rfl
theorem q1333 : (Jvm.Cond.interfaceEntry "Shapelayer$Easing" (3 : Nat)) ∈ lw_tbl := lw_at lw_m6 75 rfl
theorem q1334 : (Jvm.Cond.methodLink "Shapelayer$Easing" (3 : Nat) ({ cls := "Shapelayer$Easing", name := "share", desc := "(JJ)J" } : Jvm.MethodName)) ∈ lw_all := lw_g (lw_at lw_m6 76 rfl) rfl
theorem q1335 : (Jvm.Cond.interfaceMethod "Shapelayer$Easing" "Shapelayer$Easing" "share" "(JJ)J") ∈ lw_tbl := lw_at lw_m6 77 rfl
theorem q1336 : (Jvm.Cond.declares ({ cls := "Shapelayer$Easing", name := "share", desc := "(JJ)J" } : Jvm.MethodName)) ∈ lw_tbl := lw_at lw_m6 78 rfl
theorem q1358 : (Jvm.Cond.methodLink "Shapelayer$Easing" (9 : Nat) ({ cls := "java/lang/Math", name := "floorDiv", desc := "(JJ)J" } : Jvm.MethodName)) ∈ lw_all := lw_g (lw_at lw_m6 100 rfl) rfl

/-! Shapelayer$Easing$1 -/
set_option maxRecDepth 100000
def RX15 : String := "Shapelayer$Easing$1"
abbrev cX15_init : ByteArray := prog_6_method_1_code
def yX15_init : MethodName := ⟨RX15, "<init>", "()V"⟩
theorem dX15_init_0 : decode cX15_init 0 = .ok (.aload_n 0, 1) := by decide +kernel
theorem dX15_init_1 : decode cX15_init 1 = .ok (.invokespecial 1, 3) := by decide +kernel
theorem dX15_init_4 : decode cX15_init 4 = .ok (.return_, 1) := by decide +kernel
abbrev cX15_share : ByteArray := prog_6_method_2_code
def yX15_share : MethodName := ⟨RX15, "share", "(JJ)J"⟩
def dkwX15_share_0 : List UInt8 := [31, 33, 148, 156, 0, 7, 9, 167, 0, 4, 10, 173]
abbrev dktX15_share_0 : List UInt8 := dkwX15_share_0 ++ []
theorem dksX15_share_0 : cX15_share.data.toList.drop 0 = dktX15_share_0 := by decide +kernel
theorem dX15_share_0 : decode cX15_share 0 = .ok (.lload_n 1, 1) := dk_31 (dk_at dksX15_share_0 0 rfl rfl)
theorem dX15_share_1 : decode cX15_share 1 = .ok (.lload_n 3, 1) := dk_33 (dk_at dksX15_share_0 1 rfl rfl)
theorem dX15_share_2 : decode cX15_share 2 = .ok (.lcmp, 1) := dk_148 (dk_at dksX15_share_0 2 rfl rfl)
theorem dX15_share_3 : decode cX15_share 3 = .ok (.ifCond .ge 7, 3) := dk_156 0 7 (dk_at dksX15_share_0 3 rfl rfl)
theorem dX15_share_6 : decode cX15_share 6 = .ok (.lconst 0, 1) := dk_9 (dk_at dksX15_share_0 6 rfl rfl)
theorem dX15_share_7 : decode cX15_share 7 = .ok (.goto 4, 3) := dk_167 0 4 (dk_at dksX15_share_0 7 rfl rfl)
theorem dX15_share_10 : decode cX15_share 10 = .ok (.lconst 1, 1) := dk_10 (dk_at dksX15_share_0 10 rfl rfl)
theorem dX15_share_11 : decode cX15_share 11 = .ok (.lreturn, 1) := dk_173 (dk_at dksX15_share_0 11 rfl rfl)
theorem q98 : (Jvm.Cond.initialized "Shapelayer$Easing$1") ∈ lw_all := lw_g (lw_at lw_m1 40 rfl) rfl
theorem q706 : (Jvm.Cond.selects "Shapelayer$Easing$1" ({ cls := "java/lang/Object", name := "getClass", desc := "()Ljava/lang/Class;" } : Jvm.MethodName) ({ cls := "java/lang/Object", name := "getClass", desc := "()Ljava/lang/Class;" } : Jvm.MethodName)) ∈ lw_all := lw_g (lw_at lw_m3 168 rfl) rfl
theorem q1093 : (Jvm.Cond.selects "Shapelayer$Easing$1" ({ cls := "java/lang/Object", name := "equals", desc := "(Ljava/lang/Object;)Z" } : Jvm.MethodName) ({ cls := "java/lang/Object", name := "equals", desc := "(Ljava/lang/Object;)Z" } : Jvm.MethodName)) ∈ lw_all := lw_g (lw_at lw_m5 75 rfl) rfl
theorem q1257 : (Jvm.Cond.instantiable "Shapelayer$Easing$1" (0 : Nat)) ∈ lw_all := lw_g (lw_at lw_m5 239 rfl) rfl
theorem q1259 : (Jvm.Cond.instanceMethod ({ cls := "Shapelayer$Easing$1", name := "<init>", desc := "()V" } : Jvm.MethodName)) ∈ lw_all := lw_g (lw_at lw_m6 1 rfl) rfl
theorem q1260 : (Jvm.Cond.code ({ cls := "Shapelayer$Easing$1", name := "<init>", desc := "()V" } : Jvm.MethodName) prog_6_method_1_code (1 : Nat) (Option.none : Option Jvm.ClassFile.FieldType)) ∈ lw_all := lw_g (lw_at lw_m6 2 rfl) rfl
theorem q1261 : (Jvm.Cond.methodLink "Shapelayer$Easing$1" (1 : Nat) ({ cls := "java/lang/Object", name := "<init>", desc := "()V" } : Jvm.MethodName)) ∈ lw_all := lw_g (lw_at lw_m6 3 rfl) rfl
theorem q1262 : (Jvm.Cond.superclass "Shapelayer$Easing$1" "java/lang/Object") ∈ lw_all := lw_g (lw_at lw_m6 4 rfl) rfl
theorem q1328 : (Jvm.Cond.castable "Shapelayer$Easing$1" "Shapelayer$Easing") ∈ lw_tbl := lw_at lw_m6 70 rfl
theorem q1329 : (Jvm.Cond.unhidden "Shapelayer$Easing$1" "between" "(IIII)I") ∈ lw_tbl := lw_at lw_m6 71 rfl
theorem q1337 : (Jvm.Cond.selects "Shapelayer$Easing$1" ({ cls := "Shapelayer$Easing", name := "share", desc := "(JJ)J" } : Jvm.MethodName) ({ cls := "Shapelayer$Easing$1", name := "share", desc := "(JJ)J" } : Jvm.MethodName)) ∈ lw_all := lw_g (lw_at lw_m6 79 rfl) rfl
theorem q1338 : (Jvm.Cond.unhidden "Shapelayer$Easing$1" "share" "(JJ)J") ∈ lw_tbl := lw_at lw_m6 80 rfl
theorem q1339 : (Jvm.Cond.instanceMethod ({ cls := "Shapelayer$Easing$1", name := "share", desc := "(JJ)J" } : Jvm.MethodName)) ∈ lw_all := lw_g (lw_at lw_m6 81 rfl) rfl
theorem q1340 : (Jvm.Cond.publicMethod ({ cls := "Shapelayer$Easing$1", name := "share", desc := "(JJ)J" } : Jvm.MethodName)) ∈ lw_tbl := lw_at lw_m6 82 rfl
theorem q1341 : (Jvm.Cond.code ({ cls := "Shapelayer$Easing$1", name := "share", desc := "(JJ)J" } : Jvm.MethodName) prog_6_method_2_code (5 : Nat) (Option.some Jvm.ClassFile.FieldType.long)) ∈ lw_all := lw_g (lw_at lw_m6 83 rfl) rfl
theorem q2246 : (Jvm.Cond.castable "Shapelayer$Easing$1" "java/lang/Object") ∈ lw_tbl := lw_at lw_m10 28 rfl

/-! Shapelayer$Easing$2 -/
set_option maxRecDepth 100000
def RX16 : String := "Shapelayer$Easing$2"
abbrev cX16_init : ByteArray := prog_7_method_1_code
def yX16_init : MethodName := ⟨RX16, "<init>", "()V"⟩
theorem dX16_init_0 : decode cX16_init 0 = .ok (.aload_n 0, 1) := by decide +kernel
theorem dX16_init_1 : decode cX16_init 1 = .ok (.invokespecial 1, 3) := by decide +kernel
theorem dX16_init_4 : decode cX16_init 4 = .ok (.return_, 1) := by decide +kernel
abbrev cX16_share : ByteArray := prog_7_method_2_code
def yX16_share : MethodName := ⟨RX16, "share", "(JJ)J"⟩
theorem dX16_share_0 : decode cX16_share 0 = .ok (.lload_n 1, 1) := by decide +kernel
theorem dX16_share_1 : decode cX16_share 1 = .ok (.lreturn, 1) := by decide +kernel
theorem q99 : (Jvm.Cond.initialized "Shapelayer$Easing$2") ∈ lw_all := lw_g (lw_at lw_m1 41 rfl) rfl
theorem q707 : (Jvm.Cond.selects "Shapelayer$Easing$2" ({ cls := "java/lang/Object", name := "getClass", desc := "()Ljava/lang/Class;" } : Jvm.MethodName) ({ cls := "java/lang/Object", name := "getClass", desc := "()Ljava/lang/Class;" } : Jvm.MethodName)) ∈ lw_all := lw_g (lw_at lw_m3 169 rfl) rfl
theorem q1094 : (Jvm.Cond.selects "Shapelayer$Easing$2" ({ cls := "java/lang/Object", name := "equals", desc := "(Ljava/lang/Object;)Z" } : Jvm.MethodName) ({ cls := "java/lang/Object", name := "equals", desc := "(Ljava/lang/Object;)Z" } : Jvm.MethodName)) ∈ lw_all := lw_g (lw_at lw_m5 76 rfl) rfl
theorem q1264 : (Jvm.Cond.instantiable "Shapelayer$Easing$2" (0 : Nat)) ∈ lw_all := lw_g (lw_at lw_m6 6 rfl) rfl
theorem q1266 : (Jvm.Cond.instanceMethod ({ cls := "Shapelayer$Easing$2", name := "<init>", desc := "()V" } : Jvm.MethodName)) ∈ lw_all := lw_g (lw_at lw_m6 8 rfl) rfl
theorem q1267 : (Jvm.Cond.code ({ cls := "Shapelayer$Easing$2", name := "<init>", desc := "()V" } : Jvm.MethodName) prog_7_method_1_code (1 : Nat) (Option.none : Option Jvm.ClassFile.FieldType)) ∈ lw_all := lw_g (lw_at lw_m6 9 rfl) rfl
theorem q1268 : (Jvm.Cond.methodLink "Shapelayer$Easing$2" (1 : Nat) ({ cls := "java/lang/Object", name := "<init>", desc := "()V" } : Jvm.MethodName)) ∈ lw_all := lw_g (lw_at lw_m6 10 rfl) rfl
theorem q1269 : (Jvm.Cond.superclass "Shapelayer$Easing$2" "java/lang/Object") ∈ lw_all := lw_g (lw_at lw_m6 11 rfl) rfl
theorem q1342 : (Jvm.Cond.castable "Shapelayer$Easing$2" "Shapelayer$Easing") ∈ lw_tbl := lw_at lw_m6 84 rfl
theorem q1343 : (Jvm.Cond.selects "Shapelayer$Easing$2" ({ cls := "Shapelayer$Easing", name := "share", desc := "(JJ)J" } : Jvm.MethodName) ({ cls := "Shapelayer$Easing$2", name := "share", desc := "(JJ)J" } : Jvm.MethodName)) ∈ lw_all := lw_g (lw_at lw_m6 85 rfl) rfl
theorem q1344 : (Jvm.Cond.unhidden "Shapelayer$Easing$2" "share" "(JJ)J") ∈ lw_tbl := lw_at lw_m6 86 rfl
theorem q1345 : (Jvm.Cond.instanceMethod ({ cls := "Shapelayer$Easing$2", name := "share", desc := "(JJ)J" } : Jvm.MethodName)) ∈ lw_all := lw_g (lw_at lw_m6 87 rfl) rfl
theorem q1346 : (Jvm.Cond.publicMethod ({ cls := "Shapelayer$Easing$2", name := "share", desc := "(JJ)J" } : Jvm.MethodName)) ∈ lw_tbl := lw_at lw_m6 88 rfl
theorem q1347 : (Jvm.Cond.code ({ cls := "Shapelayer$Easing$2", name := "share", desc := "(JJ)J" } : Jvm.MethodName) prog_7_method_2_code (5 : Nat) (Option.some Jvm.ClassFile.FieldType.long)) ∈ lw_all := lw_g (lw_at lw_m6 89 rfl) rfl
theorem q1361 : (Jvm.Cond.unhidden "Shapelayer$Easing$2" "between" "(IIII)I") ∈ lw_tbl := lw_at lw_m6 103 rfl
theorem q2247 : (Jvm.Cond.castable "Shapelayer$Easing$2" "java/lang/Object") ∈ lw_tbl := lw_at lw_m10 29 rfl

/-! Shapelayer$Easing$3 -/
set_option maxRecDepth 100000
def RX17 : String := "Shapelayer$Easing$3"
abbrev cX17_init : ByteArray := prog_8_method_1_code
def yX17_init : MethodName := ⟨RX17, "<init>", "()V"⟩
theorem dX17_init_0 : decode cX17_init 0 = .ok (.aload_n 0, 1) := by decide +kernel
theorem dX17_init_1 : decode cX17_init 1 = .ok (.invokespecial 1, 3) := by decide +kernel
theorem dX17_init_4 : decode cX17_init 4 = .ok (.return_, 1) := by decide +kernel
abbrev cX17_share : ByteArray := prog_8_method_2_code
def yX17_share : MethodName := ⟨RX17, "share", "(JJ)J"⟩
def dkwX17_share_1 : List UInt8 := [105, 20, 0, 13, 109, 173]
abbrev dktX17_share_1 : List UInt8 := dkwX17_share_1 ++ []
def dkwX17_share_0 : List UInt8 := [20, 0, 7, 31, 105, 33, 109, 55, 5, 22, 5, 22, 5, 105, 20, 0, 9, 20, 0, 11, 22, 5, 105, 101]
abbrev dktX17_share_0 : List UInt8 := dkwX17_share_0 ++ dktX17_share_1
theorem dksX17_share_0 : cX17_share.data.toList.drop 0 = dktX17_share_0 := by decide +kernel
theorem dksX17_share_1 : cX17_share.data.toList.drop 24 = dktX17_share_1 := dk_seg dksX17_share_0 24 rfl rfl
theorem dX17_share_0 : decode cX17_share 0 = .ok (.ldc2_w 7, 3) := dk_20 0 7 (dk_at dksX17_share_0 0 rfl rfl)
theorem dX17_share_3 : decode cX17_share 3 = .ok (.lload_n 1, 1) := dk_31 (dk_at dksX17_share_0 3 rfl rfl)
theorem dX17_share_4 : decode cX17_share 4 = .ok (.lmul, 1) := dk_105 (dk_at dksX17_share_0 4 rfl rfl)
theorem dX17_share_5 : decode cX17_share 5 = .ok (.lload_n 3, 1) := dk_33 (dk_at dksX17_share_0 5 rfl rfl)
theorem dX17_share_6 : decode cX17_share 6 = .ok (.ldiv, 1) := dk_109 (dk_at dksX17_share_0 6 rfl rfl)
theorem dX17_share_7 : decode cX17_share 7 = .ok (.lstore 5, 2) := dk_55 5 (dk_at dksX17_share_0 7 rfl rfl)
theorem dX17_share_9 : decode cX17_share 9 = .ok (.lload 5, 2) := dk_22 5 (dk_at dksX17_share_0 9 rfl rfl)
theorem dX17_share_11 : decode cX17_share 11 = .ok (.lload 5, 2) := dk_22 5 (dk_at dksX17_share_0 11 rfl rfl)
theorem dX17_share_13 : decode cX17_share 13 = .ok (.lmul, 1) := dk_105 (dk_at dksX17_share_0 13 rfl rfl)
theorem dX17_share_14 : decode cX17_share 14 = .ok (.ldc2_w 9, 3) := dk_20 0 9 (dk_at dksX17_share_0 14 rfl rfl)
theorem dX17_share_17 : decode cX17_share 17 = .ok (.ldc2_w 11, 3) := dk_20 0 11 (dk_at dksX17_share_0 17 rfl rfl)
theorem dX17_share_20 : decode cX17_share 20 = .ok (.lload 5, 2) := dk_22 5 (dk_at dksX17_share_0 20 rfl rfl)
theorem dX17_share_22 : decode cX17_share 22 = .ok (.lmul, 1) := dk_105 (dk_at dksX17_share_0 22 rfl rfl)
theorem dX17_share_23 : decode cX17_share 23 = .ok (.lsub, 1) := dk_101 (dk_at dksX17_share_0 23 rfl rfl)
theorem dX17_share_24 : decode cX17_share 24 = .ok (.lmul, 1) := dk_105 (dk_at dksX17_share_1 0 rfl rfl)
theorem dX17_share_25 : decode cX17_share 25 = .ok (.ldc2_w 13, 3) := dk_20 0 13 (dk_at dksX17_share_1 1 rfl rfl)
theorem dX17_share_28 : decode cX17_share 28 = .ok (.ldiv, 1) := dk_109 (dk_at dksX17_share_1 4 rfl rfl)
theorem dX17_share_29 : decode cX17_share 29 = .ok (.lreturn, 1) := dk_173 (dk_at dksX17_share_1 5 rfl rfl)
theorem q100 : (Jvm.Cond.initialized "Shapelayer$Easing$3") ∈ lw_all := lw_g (lw_at lw_m1 42 rfl) rfl
theorem q708 : (Jvm.Cond.selects "Shapelayer$Easing$3" ({ cls := "java/lang/Object", name := "getClass", desc := "()Ljava/lang/Class;" } : Jvm.MethodName) ({ cls := "java/lang/Object", name := "getClass", desc := "()Ljava/lang/Class;" } : Jvm.MethodName)) ∈ lw_all := lw_g (lw_at lw_m3 170 rfl) rfl
theorem q1095 : (Jvm.Cond.selects "Shapelayer$Easing$3" ({ cls := "java/lang/Object", name := "equals", desc := "(Ljava/lang/Object;)Z" } : Jvm.MethodName) ({ cls := "java/lang/Object", name := "equals", desc := "(Ljava/lang/Object;)Z" } : Jvm.MethodName)) ∈ lw_all := lw_g (lw_at lw_m5 77 rfl) rfl
theorem q1271 : (Jvm.Cond.instantiable "Shapelayer$Easing$3" (0 : Nat)) ∈ lw_all := lw_g (lw_at lw_m6 13 rfl) rfl
theorem q1273 : (Jvm.Cond.instanceMethod ({ cls := "Shapelayer$Easing$3", name := "<init>", desc := "()V" } : Jvm.MethodName)) ∈ lw_all := lw_g (lw_at lw_m6 15 rfl) rfl
theorem q1274 : (Jvm.Cond.code ({ cls := "Shapelayer$Easing$3", name := "<init>", desc := "()V" } : Jvm.MethodName) prog_8_method_1_code (1 : Nat) (Option.none : Option Jvm.ClassFile.FieldType)) ∈ lw_all := lw_g (lw_at lw_m6 16 rfl) rfl
theorem q1275 : (Jvm.Cond.methodLink "Shapelayer$Easing$3" (1 : Nat) ({ cls := "java/lang/Object", name := "<init>", desc := "()V" } : Jvm.MethodName)) ∈ lw_all := lw_g (lw_at lw_m6 17 rfl) rfl
theorem q1276 : (Jvm.Cond.superclass "Shapelayer$Easing$3" "java/lang/Object") ∈ lw_all := lw_g (lw_at lw_m6 18 rfl) rfl
theorem q1348 : (Jvm.Cond.castable "Shapelayer$Easing$3" "Shapelayer$Easing") ∈ lw_tbl := lw_at lw_m6 90 rfl
theorem q1349 : (Jvm.Cond.selects "Shapelayer$Easing$3" ({ cls := "Shapelayer$Easing", name := "share", desc := "(JJ)J" } : Jvm.MethodName) ({ cls := "Shapelayer$Easing$3", name := "share", desc := "(JJ)J" } : Jvm.MethodName)) ∈ lw_all := lw_g (lw_at lw_m6 91 rfl) rfl
theorem q1350 : (Jvm.Cond.unhidden "Shapelayer$Easing$3" "share" "(JJ)J") ∈ lw_tbl := lw_at lw_m6 92 rfl
theorem q1351 : (Jvm.Cond.instanceMethod ({ cls := "Shapelayer$Easing$3", name := "share", desc := "(JJ)J" } : Jvm.MethodName)) ∈ lw_all := lw_g (lw_at lw_m6 93 rfl) rfl
theorem q1352 : (Jvm.Cond.publicMethod ({ cls := "Shapelayer$Easing$3", name := "share", desc := "(JJ)J" } : Jvm.MethodName)) ∈ lw_tbl := lw_at lw_m6 94 rfl
theorem q1353 : (Jvm.Cond.code ({ cls := "Shapelayer$Easing$3", name := "share", desc := "(JJ)J" } : Jvm.MethodName) prog_8_method_2_code (7 : Nat) (Option.some Jvm.ClassFile.FieldType.long)) ∈ lw_all := lw_g (lw_at lw_m6 95 rfl) rfl
theorem q1354 : (Jvm.Cond.constantLong "Shapelayer$Easing$3" (7 : Nat) (1000 : Int64)) ∈ lw_all := lw_g (lw_at lw_m6 96 rfl) rfl
theorem q1355 : (Jvm.Cond.constantLong "Shapelayer$Easing$3" (9 : Nat) (3000 : Int64)) ∈ lw_all := lw_g (lw_at lw_m6 97 rfl) rfl
theorem q1356 : (Jvm.Cond.constantLong "Shapelayer$Easing$3" (11 : Nat) (2 : Int64)) ∈ lw_all := lw_g (lw_at lw_m6 98 rfl) rfl
theorem q1357 : (Jvm.Cond.constantLong "Shapelayer$Easing$3" (13 : Nat) (1000000 : Int64)) ∈ lw_all := lw_g (lw_at lw_m6 99 rfl) rfl
theorem q1362 : (Jvm.Cond.unhidden "Shapelayer$Easing$3" "between" "(IIII)I") ∈ lw_tbl := lw_at lw_m6 104 rfl
theorem q2248 : (Jvm.Cond.castable "Shapelayer$Easing$3" "java/lang/Object") ∈ lw_tbl := lw_at lw_m10 30 rfl

/-! Shapelayer$Frame -/
set_option maxRecDepth 100000
def RX18 : String := "Shapelayer$Frame"
def TX18 : u_T := fun k => match k with
  | 0 => ("Shapelayer$Frame", "composition", "LShapelayer$Composition;", true)
  | 1 => ("Shapelayer$Frame", "time", "I", true)
  | _ => ("Shapelayer$Frame", "raster", "LShapelayer$Raster;", true)
def tyX18 : Nat → FieldType := fun k => match k with
  | 0 => .object "Shapelayer$Composition"
  | 1 => .int
  | _ => .object "Shapelayer$Raster"
abbrev wsX180 : List Cond := u_ws RX18 TX18 3
theorem nmX18 : ∀ a, a < 3 → ∀ b, b < 3 → a ≠ b → (TX18 a).2.1 ≠ (TX18 b).2.1 := by decide +kernel
theorem tyX18_ok : ∀ k, k < 3 → parseFieldDescriptor (TX18 k).2.2.1 = some (tyX18 k) := by decide +kernel
abbrev cX18_init : ByteArray := prog_9_method_1_code
def yX18_init : MethodName := ⟨RX18, "<init>", "(LShapelayer$Composition;ILShapelayer$Raster;)V"⟩
def dkwX18_init_0 : List UInt8 := [42, 183, 0, 1, 42, 43, 181, 0, 7, 42, 28, 181, 0, 13, 42, 45, 181, 0, 17, 177]
abbrev dktX18_init_0 : List UInt8 := dkwX18_init_0 ++ []
theorem dksX18_init_0 : cX18_init.data.toList.drop 0 = dktX18_init_0 := by decide +kernel
theorem dX18_init_0 : decode cX18_init 0 = .ok (.aload_n 0, 1) := dk_42 (dk_at dksX18_init_0 0 rfl rfl)
theorem dX18_init_1 : decode cX18_init 1 = .ok (.invokespecial 1, 3) := dk_183 0 1 (dk_at dksX18_init_0 1 rfl rfl)
theorem dX18_init_4 : decode cX18_init 4 = .ok (.aload_n 0, 1) := dk_42 (dk_at dksX18_init_0 4 rfl rfl)
theorem dX18_init_5 : decode cX18_init 5 = .ok (.aload_n 1, 1) := dk_43 (dk_at dksX18_init_0 5 rfl rfl)
theorem dX18_init_6 : decode cX18_init 6 = .ok (.putfield 7, 3) := dk_181 0 7 (dk_at dksX18_init_0 6 rfl rfl)
theorem dX18_init_9 : decode cX18_init 9 = .ok (.aload_n 0, 1) := dk_42 (dk_at dksX18_init_0 9 rfl rfl)
theorem dX18_init_10 : decode cX18_init 10 = .ok (.iload_n 2, 1) := dk_28 (dk_at dksX18_init_0 10 rfl rfl)
theorem dX18_init_11 : decode cX18_init 11 = .ok (.putfield 13, 3) := dk_181 0 13 (dk_at dksX18_init_0 11 rfl rfl)
theorem dX18_init_14 : decode cX18_init 14 = .ok (.aload_n 0, 1) := dk_42 (dk_at dksX18_init_0 14 rfl rfl)
theorem dX18_init_15 : decode cX18_init 15 = .ok (.aload_n 3, 1) := dk_45 (dk_at dksX18_init_0 15 rfl rfl)
theorem dX18_init_16 : decode cX18_init 16 = .ok (.putfield 17, 3) := dk_181 0 17 (dk_at dksX18_init_0 16 rfl rfl)
theorem dX18_init_19 : decode cX18_init 19 = .ok (.return_, 1) := dk_177 (dk_at dksX18_init_0 19 rfl rfl)
theorem q101 : (Jvm.Cond.initialized "Shapelayer$Frame") ∈ lw_all := lw_g (lw_at lw_m1 43 rfl) rfl
theorem q709 : (Jvm.Cond.selects "Shapelayer$Frame" ({ cls := "java/lang/Object", name := "getClass", desc := "()Ljava/lang/Class;" } : Jvm.MethodName) ({ cls := "java/lang/Object", name := "getClass", desc := "()Ljava/lang/Class;" } : Jvm.MethodName)) ∈ lw_all := lw_g (lw_at lw_m3 171 rfl) rfl
theorem q1096 : (Jvm.Cond.selects "Shapelayer$Frame" ({ cls := "java/lang/Object", name := "equals", desc := "(Ljava/lang/Object;)Z" } : Jvm.MethodName) ({ cls := "java/lang/Object", name := "equals", desc := "(Ljava/lang/Object;)Z" } : Jvm.MethodName)) ∈ lw_all := lw_g (lw_at lw_m5 78 rfl) rfl
theorem q1434 : (Jvm.Cond.instantiable "Shapelayer$Frame" (3 : Nat)) ∈ lw_all := lw_g (lw_at lw_m6 176 rfl) rfl
theorem q1568 : (Jvm.Cond.instanceMethod ({ cls := "Shapelayer$Frame", name := "<init>", desc := "(LShapelayer$Composition;ILShapelayer$Raster;)V" } : Jvm.MethodName)) ∈ lw_all := lw_g (lw_at lw_m7 70 rfl) rfl
theorem q1569 : (Jvm.Cond.code ({ cls := "Shapelayer$Frame", name := "<init>", desc := "(LShapelayer$Composition;ILShapelayer$Raster;)V" } : Jvm.MethodName) prog_9_method_1_code (4 : Nat) (Option.none : Option Jvm.ClassFile.FieldType)) ∈ lw_all := lw_g (lw_at lw_m7 71 rfl) rfl
theorem q1570 : (Jvm.Cond.methodLink "Shapelayer$Frame" (1 : Nat) ({ cls := "java/lang/Object", name := "<init>", desc := "()V" } : Jvm.MethodName)) ∈ lw_all := lw_g (lw_at lw_m7 72 rfl) rfl
theorem q1571 : (Jvm.Cond.fieldLink "Shapelayer$Frame" (7 : Nat) "Shapelayer$Frame" "composition" "LShapelayer$Composition;") ∈ lw_all := lw_g (lw_at lw_m7 73 rfl) rfl
theorem q1573 : (Jvm.Cond.fieldLink "Shapelayer$Frame" (13 : Nat) "Shapelayer$Frame" "time" "I") ∈ lw_all := lw_g (lw_at lw_m7 75 rfl) rfl
theorem q1575 : (Jvm.Cond.fieldLink "Shapelayer$Frame" (17 : Nat) "Shapelayer$Frame" "raster" "LShapelayer$Raster;") ∈ lw_all := lw_g (lw_at lw_m7 77 rfl) rfl
theorem q1577 : (Jvm.Cond.laysFinal "Shapelayer$Frame" "Shapelayer$Frame" "composition" "LShapelayer$Composition;") ∈ lw_all := lw_g (lw_at lw_m7 79 rfl) rfl
theorem q1578 : (Jvm.Cond.soleField "Shapelayer$Frame" "composition") ∈ lw_all := lw_g (lw_at lw_m7 80 rfl) rfl
theorem q1579 : (Jvm.Cond.laysFinal "Shapelayer$Frame" "Shapelayer$Frame" "time" "I") ∈ lw_all := lw_g (lw_at lw_m7 81 rfl) rfl
theorem q1580 : (Jvm.Cond.soleField "Shapelayer$Frame" "time") ∈ lw_all := lw_g (lw_at lw_m7 82 rfl) rfl
theorem q1581 : (Jvm.Cond.laysFinal "Shapelayer$Frame" "Shapelayer$Frame" "raster" "LShapelayer$Raster;") ∈ lw_all := lw_g (lw_at lw_m7 83 rfl) rfl
theorem q1582 : (Jvm.Cond.soleField "Shapelayer$Frame" "raster") ∈ lw_all := lw_g (lw_at lw_m7 84 rfl) rfl
theorem q1583 : (Jvm.Cond.superclass "Shapelayer$Frame" "java/lang/Object") ∈ lw_all := lw_g (lw_at lw_m7 85 rfl) rfl
theorem q2249 : (Jvm.Cond.castable "Shapelayer$Frame" "java/lang/Object") ∈ lw_tbl := lw_at lw_m10 31 rfl
theorem in_X18 : ∀ w ∈ wsX180, w ∈ lw_all := lw_in wsX180 [1577, 1579, 1581] (by decide +kernel) (by decide +kernel)

/-! Shapelayer$Outer -/
set_option maxRecDepth 100000
def RX19 : String := "Shapelayer$Outer"
def TX19 : u_T := fun k => match k with
  | 0 => ("Shapelayer$Outer", "layer", "LShapelayer$Layer;", true)
  | 1 => ("Shapelayer$Outer", "time", "I", true)
  | _ => ("Shapelayer$Outer", "next", "LShapelayer$Outer;", true)
def tyX19 : Nat → FieldType := fun k => match k with
  | 0 => .object "Shapelayer$Layer"
  | 1 => .int
  | _ => .object "Shapelayer$Outer"
abbrev wsX190 : List Cond := u_ws RX19 TX19 3
theorem nmX19 : ∀ a, a < 3 → ∀ b, b < 3 → a ≠ b → (TX19 a).2.1 ≠ (TX19 b).2.1 := by decide +kernel
theorem tyX19_ok : ∀ k, k < 3 → parseFieldDescriptor (TX19 k).2.2.1 = some (tyX19 k) := by decide +kernel
abbrev cX19_init : ByteArray := prog_15_method_1_code
def yX19_init : MethodName := ⟨RX19, "<init>", "(LShapelayer$Layer;ILShapelayer$Outer;)V"⟩
def dkwX19_init_0 : List UInt8 := [42, 183, 0, 1, 42, 43, 181, 0, 7, 42, 28, 181, 0, 13, 42, 45, 181, 0, 17, 177]
abbrev dktX19_init_0 : List UInt8 := dkwX19_init_0 ++ []
theorem dksX19_init_0 : cX19_init.data.toList.drop 0 = dktX19_init_0 := by decide +kernel
theorem dX19_init_0 : decode cX19_init 0 = .ok (.aload_n 0, 1) := dk_42 (dk_at dksX19_init_0 0 rfl rfl)
theorem dX19_init_1 : decode cX19_init 1 = .ok (.invokespecial 1, 3) := dk_183 0 1 (dk_at dksX19_init_0 1 rfl rfl)
theorem dX19_init_4 : decode cX19_init 4 = .ok (.aload_n 0, 1) := dk_42 (dk_at dksX19_init_0 4 rfl rfl)
theorem dX19_init_5 : decode cX19_init 5 = .ok (.aload_n 1, 1) := dk_43 (dk_at dksX19_init_0 5 rfl rfl)
theorem dX19_init_6 : decode cX19_init 6 = .ok (.putfield 7, 3) := dk_181 0 7 (dk_at dksX19_init_0 6 rfl rfl)
theorem dX19_init_9 : decode cX19_init 9 = .ok (.aload_n 0, 1) := dk_42 (dk_at dksX19_init_0 9 rfl rfl)
theorem dX19_init_10 : decode cX19_init 10 = .ok (.iload_n 2, 1) := dk_28 (dk_at dksX19_init_0 10 rfl rfl)
theorem dX19_init_11 : decode cX19_init 11 = .ok (.putfield 13, 3) := dk_181 0 13 (dk_at dksX19_init_0 11 rfl rfl)
theorem dX19_init_14 : decode cX19_init 14 = .ok (.aload_n 0, 1) := dk_42 (dk_at dksX19_init_0 14 rfl rfl)
theorem dX19_init_15 : decode cX19_init 15 = .ok (.aload_n 3, 1) := dk_45 (dk_at dksX19_init_0 15 rfl rfl)
theorem dX19_init_16 : decode cX19_init 16 = .ok (.putfield 17, 3) := dk_181 0 17 (dk_at dksX19_init_0 16 rfl rfl)
theorem dX19_init_19 : decode cX19_init 19 = .ok (.return_, 1) := dk_177 (dk_at dksX19_init_0 19 rfl rfl)
theorem q102 : (Jvm.Cond.initialized "Shapelayer$Outer") ∈ lw_all := lw_g (lw_at lw_m1 44 rfl) rfl
theorem q714 : (Jvm.Cond.selects "Shapelayer$Outer" ({ cls := "java/lang/Object", name := "getClass", desc := "()Ljava/lang/Class;" } : Jvm.MethodName) ({ cls := "java/lang/Object", name := "getClass", desc := "()Ljava/lang/Class;" } : Jvm.MethodName)) ∈ lw_all := lw_g (lw_at lw_m3 176 rfl) rfl
theorem q1101 : (Jvm.Cond.selects "Shapelayer$Outer" ({ cls := "java/lang/Object", name := "equals", desc := "(Ljava/lang/Object;)Z" } : Jvm.MethodName) ({ cls := "java/lang/Object", name := "equals", desc := "(Ljava/lang/Object;)Z" } : Jvm.MethodName)) ∈ lw_all := lw_g (lw_at lw_m5 83 rfl) rfl
theorem q1482 : (Jvm.Cond.instantiable "Shapelayer$Outer" (3 : Nat)) ∈ lw_all := lw_g (lw_at lw_m6 224 rfl) rfl
theorem q1484 : (Jvm.Cond.instanceMethod ({ cls := "Shapelayer$Outer", name := "<init>", desc := "(LShapelayer$Layer;ILShapelayer$Outer;)V" } : Jvm.MethodName)) ∈ lw_all := lw_g (lw_at lw_m6 226 rfl) rfl
theorem q1485 : (Jvm.Cond.code ({ cls := "Shapelayer$Outer", name := "<init>", desc := "(LShapelayer$Layer;ILShapelayer$Outer;)V" } : Jvm.MethodName) prog_15_method_1_code (4 : Nat) (Option.none : Option Jvm.ClassFile.FieldType)) ∈ lw_all := lw_g (lw_at lw_m6 227 rfl) rfl
theorem q1486 : (Jvm.Cond.methodLink "Shapelayer$Outer" (1 : Nat) ({ cls := "java/lang/Object", name := "<init>", desc := "()V" } : Jvm.MethodName)) ∈ lw_all := lw_g (lw_at lw_m6 228 rfl) rfl
theorem q1487 : (Jvm.Cond.fieldLink "Shapelayer$Outer" (7 : Nat) "Shapelayer$Outer" "layer" "LShapelayer$Layer;") ∈ lw_all := lw_g (lw_at lw_m6 229 rfl) rfl
theorem q1489 : (Jvm.Cond.fieldLink "Shapelayer$Outer" (13 : Nat) "Shapelayer$Outer" "time" "I") ∈ lw_all := lw_g (lw_at lw_m6 231 rfl) rfl
theorem q1491 : (Jvm.Cond.fieldLink "Shapelayer$Outer" (17 : Nat) "Shapelayer$Outer" "next" "LShapelayer$Outer;") ∈ lw_all := lw_g (lw_at lw_m6 233 rfl) rfl
theorem q1493 : (Jvm.Cond.laysFinal "Shapelayer$Outer" "Shapelayer$Outer" "layer" "LShapelayer$Layer;") ∈ lw_all := lw_g (lw_at lw_m6 235 rfl) rfl
theorem q1494 : (Jvm.Cond.soleField "Shapelayer$Outer" "layer") ∈ lw_all := lw_g (lw_at lw_m6 236 rfl) rfl
theorem q1495 : (Jvm.Cond.laysFinal "Shapelayer$Outer" "Shapelayer$Outer" "time" "I") ∈ lw_all := lw_g (lw_at lw_m6 237 rfl) rfl
theorem q1496 : (Jvm.Cond.soleField "Shapelayer$Outer" "time") ∈ lw_all := lw_g (lw_at lw_m6 238 rfl) rfl
theorem q1497 : (Jvm.Cond.laysFinal "Shapelayer$Outer" "Shapelayer$Outer" "next" "LShapelayer$Outer;") ∈ lw_all := lw_g (lw_at lw_m6 239 rfl) rfl
theorem q1498 : (Jvm.Cond.soleField "Shapelayer$Outer" "next") ∈ lw_all := lw_g (lw_at lw_m7 0 rfl) rfl
theorem q1499 : (Jvm.Cond.superclass "Shapelayer$Outer" "java/lang/Object") ∈ lw_all := lw_g (lw_at lw_m7 1 rfl) rfl
theorem q2250 : (Jvm.Cond.castable "Shapelayer$Outer" "java/lang/Object") ∈ lw_tbl := lw_at lw_m10 32 rfl
theorem in_X19 : ∀ w ∈ wsX190, w ∈ lw_all := lw_in wsX190 [1493, 1495, 1497] (by decide +kernel) (by decide +kernel)

