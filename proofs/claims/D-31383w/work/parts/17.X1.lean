/-! Shapelayer -/
set_option maxRecDepth 100000
def RX1 : String := "Shapelayer"
def TX1 : u_T := fun k => match k with
  | 0 => ("Shapelayer", "compositions", "Ljava/util/List;", true)
  | 1 => ("Shapelayer", "made", "[LShapelayer$Layer;", false)
  | 2 => ("Shapelayer", "madeCount", "I", false)
  | 3 => ("Shapelayer", "kept", "Ljava/util/List;", true)
  | 4 => ("Shapelayer", "output", "Ljava/lang/StringBuilder;", true)
  | _ => ("Shapelayer", "drawing", "LShapelayer$Raster;", true)
def tyX1 : Nat → FieldType := fun k => match k with
  | 0 => .object "java/util/List"
  | 1 => .array (.object "Shapelayer$Layer")
  | 2 => .int
  | 3 => .object "java/util/List"
  | 4 => .object "java/lang/StringBuilder"
  | _ => .object "Shapelayer$Raster"
abbrev wsX10 : List Cond := u_ws RX1 TX1 6
theorem nmX1 : ∀ a, a < 6 → ∀ b, b < 6 → a ≠ b → (TX1 a).2.1 ≠ (TX1 b).2.1 := by decide +kernel
theorem tyX1_ok : ∀ k, k < 6 → parseFieldDescriptor (TX1 k).2.2.1 = some (tyX1 k) := by decide +kernel
abbrev cX1_init : ByteArray := prog_1_method_5_code
def yX1_init : MethodName := ⟨RX1, "<init>", "()V"⟩
def dkwX1_init_2 : List UInt8 := [187, 0, 41, 89, 183, 0, 43, 181, 0, 44, 177]
abbrev dktX1_init_2 : List UInt8 := dkwX1_init_2 ++ []
def dkwX1_init_1 : List UInt8 := [42, 187, 0, 16, 89, 183, 0, 18, 181, 0, 31, 42, 187, 0, 34, 89, 183, 0, 36, 181, 0, 37, 42]
abbrev dktX1_init_1 : List UInt8 := dkwX1_init_1 ++ dktX1_init_2
def dkwX1_init_0 : List UInt8 := [42, 183, 0, 13, 42, 187, 0, 16, 89, 183, 0, 18, 181, 0, 19, 42, 16, 12, 189, 0, 25, 181, 0, 27]
abbrev dktX1_init_0 : List UInt8 := dkwX1_init_0 ++ dktX1_init_1
theorem dksX1_init_0 : cX1_init.data.toList.drop 0 = dktX1_init_0 := by decide +kernel
theorem dksX1_init_1 : cX1_init.data.toList.drop 24 = dktX1_init_1 := dk_seg dksX1_init_0 24 rfl rfl
theorem dksX1_init_2 : cX1_init.data.toList.drop 47 = dktX1_init_2 := dk_seg dksX1_init_1 23 rfl rfl
theorem dX1_init_0 : decode cX1_init 0 = .ok (.aload_n 0, 1) := dk_42 (dk_at dksX1_init_0 0 rfl rfl)
theorem dX1_init_1 : decode cX1_init 1 = .ok (.invokespecial 13, 3) := dk_183 0 13 (dk_at dksX1_init_0 1 rfl rfl)
theorem dX1_init_4 : decode cX1_init 4 = .ok (.aload_n 0, 1) := dk_42 (dk_at dksX1_init_0 4 rfl rfl)
theorem dX1_init_5 : decode cX1_init 5 = .ok (.new 16, 3) := dk_187 0 16 (dk_at dksX1_init_0 5 rfl rfl)
theorem dX1_init_8 : decode cX1_init 8 = .ok (.dup, 1) := dk_89 (dk_at dksX1_init_0 8 rfl rfl)
theorem dX1_init_9 : decode cX1_init 9 = .ok (.invokespecial 18, 3) := dk_183 0 18 (dk_at dksX1_init_0 9 rfl rfl)
theorem dX1_init_12 : decode cX1_init 12 = .ok (.putfield 19, 3) := dk_181 0 19 (dk_at dksX1_init_0 12 rfl rfl)
theorem dX1_init_15 : decode cX1_init 15 = .ok (.aload_n 0, 1) := dk_42 (dk_at dksX1_init_0 15 rfl rfl)
theorem dX1_init_16 : decode cX1_init 16 = .ok (.bipush 12, 2) := dk_16 12 (dk_at dksX1_init_0 16 rfl rfl)
theorem dX1_init_18 : decode cX1_init 18 = .ok (.anewarray 25, 3) := dk_189 0 25 (dk_at dksX1_init_0 18 rfl rfl)
theorem dX1_init_21 : decode cX1_init 21 = .ok (.putfield 27, 3) := dk_181 0 27 (dk_at dksX1_init_0 21 rfl rfl)
theorem dX1_init_24 : decode cX1_init 24 = .ok (.aload_n 0, 1) := dk_42 (dk_at dksX1_init_1 0 rfl rfl)
theorem dX1_init_25 : decode cX1_init 25 = .ok (.new 16, 3) := dk_187 0 16 (dk_at dksX1_init_1 1 rfl rfl)
theorem dX1_init_28 : decode cX1_init 28 = .ok (.dup, 1) := dk_89 (dk_at dksX1_init_1 4 rfl rfl)
theorem dX1_init_29 : decode cX1_init 29 = .ok (.invokespecial 18, 3) := dk_183 0 18 (dk_at dksX1_init_1 5 rfl rfl)
theorem dX1_init_32 : decode cX1_init 32 = .ok (.putfield 31, 3) := dk_181 0 31 (dk_at dksX1_init_1 8 rfl rfl)
theorem dX1_init_35 : decode cX1_init 35 = .ok (.aload_n 0, 1) := dk_42 (dk_at dksX1_init_1 11 rfl rfl)
theorem dX1_init_36 : decode cX1_init 36 = .ok (.new 34, 3) := dk_187 0 34 (dk_at dksX1_init_1 12 rfl rfl)
theorem dX1_init_39 : decode cX1_init 39 = .ok (.dup, 1) := dk_89 (dk_at dksX1_init_1 15 rfl rfl)
theorem dX1_init_40 : decode cX1_init 40 = .ok (.invokespecial 36, 3) := dk_183 0 36 (dk_at dksX1_init_1 16 rfl rfl)
theorem dX1_init_43 : decode cX1_init 43 = .ok (.putfield 37, 3) := dk_181 0 37 (dk_at dksX1_init_1 19 rfl rfl)
theorem dX1_init_46 : decode cX1_init 46 = .ok (.aload_n 0, 1) := dk_42 (dk_at dksX1_init_1 22 rfl rfl)
theorem dX1_init_47 : decode cX1_init 47 = .ok (.new 41, 3) := dk_187 0 41 (dk_at dksX1_init_2 0 rfl rfl)
theorem dX1_init_50 : decode cX1_init 50 = .ok (.dup, 1) := dk_89 (dk_at dksX1_init_2 3 rfl rfl)
theorem dX1_init_51 : decode cX1_init 51 = .ok (.invokespecial 43, 3) := dk_183 0 43 (dk_at dksX1_init_2 4 rfl rfl)
theorem dX1_init_54 : decode cX1_init 54 = .ok (.putfield 44, 3) := dk_181 0 44 (dk_at dksX1_init_2 7 rfl rfl)
theorem dX1_init_57 : decode cX1_init 57 = .ok (.return_, 1) := dk_177 (dk_at dksX1_init_2 10 rfl rfl)
abbrev cX1_clear : ByteArray := prog_1_method_6_code
def yX1_clear : MethodName := ⟨RX1, "clear", "()I"⟩
def dkwX1_clear_2 : List UInt8 := [3, 182, 0, 61, 27, 172]
abbrev dktX1_clear_2 : List UInt8 := dkwX1_clear_2 ++ []
def dkwX1_clear_1 : List UInt8 := [189, 0, 25, 181, 0, 27, 42, 3, 181, 0, 57, 42, 180, 0, 31, 185, 0, 54, 1, 0, 42, 180, 0, 37]
abbrev dktX1_clear_1 : List UInt8 := dkwX1_clear_1 ++ dktX1_clear_2
def dkwX1_clear_0 : List UInt8 := [42, 180, 0, 19, 185, 0, 48, 1, 0, 60, 42, 180, 0, 19, 185, 0, 54, 1, 0, 42, 16, 12]
abbrev dktX1_clear_0 : List UInt8 := dkwX1_clear_0 ++ dktX1_clear_1
theorem dksX1_clear_0 : cX1_clear.data.toList.drop 0 = dktX1_clear_0 := by decide +kernel
theorem dksX1_clear_1 : cX1_clear.data.toList.drop 22 = dktX1_clear_1 := dk_seg dksX1_clear_0 22 rfl rfl
theorem dksX1_clear_2 : cX1_clear.data.toList.drop 46 = dktX1_clear_2 := dk_seg dksX1_clear_1 24 rfl rfl
theorem dX1_clear_0 : decode cX1_clear 0 = .ok (.aload_n 0, 1) := dk_42 (dk_at dksX1_clear_0 0 rfl rfl)
theorem dX1_clear_1 : decode cX1_clear 1 = .ok (.getfield 19, 3) := dk_180 0 19 (dk_at dksX1_clear_0 1 rfl rfl)
theorem dX1_clear_4 : decode cX1_clear 4 = .ok (.invokeinterface 48 1, 5) := by decide +kernel
theorem dX1_clear_9 : decode cX1_clear 9 = .ok (.istore_n 1, 1) := dk_60 (dk_at dksX1_clear_0 9 rfl rfl)
theorem dX1_clear_10 : decode cX1_clear 10 = .ok (.aload_n 0, 1) := dk_42 (dk_at dksX1_clear_0 10 rfl rfl)
theorem dX1_clear_11 : decode cX1_clear 11 = .ok (.getfield 19, 3) := dk_180 0 19 (dk_at dksX1_clear_0 11 rfl rfl)
theorem dX1_clear_14 : decode cX1_clear 14 = .ok (.invokeinterface 54 1, 5) := by decide +kernel
theorem dX1_clear_19 : decode cX1_clear 19 = .ok (.aload_n 0, 1) := dk_42 (dk_at dksX1_clear_0 19 rfl rfl)
theorem dX1_clear_20 : decode cX1_clear 20 = .ok (.bipush 12, 2) := dk_16 12 (dk_at dksX1_clear_0 20 rfl rfl)
theorem dX1_clear_22 : decode cX1_clear 22 = .ok (.anewarray 25, 3) := dk_189 0 25 (dk_at dksX1_clear_1 0 rfl rfl)
theorem dX1_clear_25 : decode cX1_clear 25 = .ok (.putfield 27, 3) := dk_181 0 27 (dk_at dksX1_clear_1 3 rfl rfl)
theorem dX1_clear_28 : decode cX1_clear 28 = .ok (.aload_n 0, 1) := dk_42 (dk_at dksX1_clear_1 6 rfl rfl)
theorem dX1_clear_29 : decode cX1_clear 29 = .ok (.iconst 0, 1) := dk_3 (dk_at dksX1_clear_1 7 rfl rfl)
theorem dX1_clear_30 : decode cX1_clear 30 = .ok (.putfield 57, 3) := dk_181 0 57 (dk_at dksX1_clear_1 8 rfl rfl)
theorem dX1_clear_33 : decode cX1_clear 33 = .ok (.aload_n 0, 1) := dk_42 (dk_at dksX1_clear_1 11 rfl rfl)
theorem dX1_clear_34 : decode cX1_clear 34 = .ok (.getfield 31, 3) := dk_180 0 31 (dk_at dksX1_clear_1 12 rfl rfl)
theorem dX1_clear_37 : decode cX1_clear 37 = .ok (.invokeinterface 54 1, 5) := by decide +kernel
theorem dX1_clear_42 : decode cX1_clear 42 = .ok (.aload_n 0, 1) := dk_42 (dk_at dksX1_clear_1 20 rfl rfl)
theorem dX1_clear_43 : decode cX1_clear 43 = .ok (.getfield 37, 3) := dk_180 0 37 (dk_at dksX1_clear_1 21 rfl rfl)
theorem dX1_clear_46 : decode cX1_clear 46 = .ok (.iconst 0, 1) := dk_3 (dk_at dksX1_clear_2 0 rfl rfl)
theorem dX1_clear_47 : decode cX1_clear 47 = .ok (.invokevirtual 61, 3) := dk_182 0 61 (dk_at dksX1_clear_2 1 rfl rfl)
theorem dX1_clear_50 : decode cX1_clear 50 = .ok (.iload_n 1, 1) := dk_27 (dk_at dksX1_clear_2 4 rfl rfl)
theorem dX1_clear_51 : decode cX1_clear 51 = .ok (.ireturn, 1) := dk_172 (dk_at dksX1_clear_2 5 rfl rfl)
abbrev cX1_outputByte : ByteArray := prog_1_method_38_code
def yX1_outputByte : MethodName := ⟨RX1, "outputByte", "(I)I"⟩
def dkwX1_outputByte_1 : List UInt8 := [182, 1, 59, 167, 0, 4, 2, 172]
abbrev dktX1_outputByte_1 : List UInt8 := dkwX1_outputByte_1 ++ []
def dkwX1_outputByte_0 : List UInt8 := [27, 3, 42, 180, 0, 37, 182, 1, 34, 4, 100, 184, 0, 65, 153, 0, 14, 42, 180, 0, 37, 27]
abbrev dktX1_outputByte_0 : List UInt8 := dkwX1_outputByte_0 ++ dktX1_outputByte_1
theorem dksX1_outputByte_0 : cX1_outputByte.data.toList.drop 0 = dktX1_outputByte_0 := by decide +kernel
theorem dksX1_outputByte_1 : cX1_outputByte.data.toList.drop 22 = dktX1_outputByte_1 := dk_seg dksX1_outputByte_0 22 rfl rfl
theorem dX1_outputByte_0 : decode cX1_outputByte 0 = .ok (.iload_n 1, 1) := dk_27 (dk_at dksX1_outputByte_0 0 rfl rfl)
theorem dX1_outputByte_1 : decode cX1_outputByte 1 = .ok (.iconst 0, 1) := dk_3 (dk_at dksX1_outputByte_0 1 rfl rfl)
theorem dX1_outputByte_2 : decode cX1_outputByte 2 = .ok (.aload_n 0, 1) := dk_42 (dk_at dksX1_outputByte_0 2 rfl rfl)
theorem dX1_outputByte_3 : decode cX1_outputByte 3 = .ok (.getfield 37, 3) := dk_180 0 37 (dk_at dksX1_outputByte_0 3 rfl rfl)
theorem dX1_outputByte_6 : decode cX1_outputByte 6 = .ok (.invokevirtual 290, 3) := dk_182 1 34 (dk_at dksX1_outputByte_0 6 rfl rfl)
theorem dX1_outputByte_9 : decode cX1_outputByte 9 = .ok (.iconst 1, 1) := dk_4 (dk_at dksX1_outputByte_0 9 rfl rfl)
theorem dX1_outputByte_10 : decode cX1_outputByte 10 = .ok (.isub, 1) := dk_100 (dk_at dksX1_outputByte_0 10 rfl rfl)
theorem dX1_outputByte_11 : decode cX1_outputByte 11 = .ok (.invokestatic 65, 3) := dk_184 0 65 (dk_at dksX1_outputByte_0 11 rfl rfl)
theorem dX1_outputByte_14 : decode cX1_outputByte 14 = .ok (.ifCond .eq 14, 3) := dk_153 0 14 (dk_at dksX1_outputByte_0 14 rfl rfl)
theorem dX1_outputByte_17 : decode cX1_outputByte 17 = .ok (.aload_n 0, 1) := dk_42 (dk_at dksX1_outputByte_0 17 rfl rfl)
theorem dX1_outputByte_18 : decode cX1_outputByte 18 = .ok (.getfield 37, 3) := dk_180 0 37 (dk_at dksX1_outputByte_0 18 rfl rfl)
theorem dX1_outputByte_21 : decode cX1_outputByte 21 = .ok (.iload_n 1, 1) := dk_27 (dk_at dksX1_outputByte_0 21 rfl rfl)
theorem dX1_outputByte_22 : decode cX1_outputByte 22 = .ok (.invokevirtual 315, 3) := dk_182 1 59 (dk_at dksX1_outputByte_1 0 rfl rfl)
theorem dX1_outputByte_25 : decode cX1_outputByte 25 = .ok (.goto 4, 3) := dk_167 0 4 (dk_at dksX1_outputByte_1 3 rfl rfl)
theorem dX1_outputByte_28 : decode cX1_outputByte 28 = .ok (.iconst (-1), 1) := dk_2 (dk_at dksX1_outputByte_1 6 rfl rfl)
theorem dX1_outputByte_29 : decode cX1_outputByte 29 = .ok (.ireturn, 1) := dk_172 (dk_at dksX1_outputByte_1 7 rfl rfl)
abbrev cX1_isBetween : ByteArray := prog_1_method_1_code
def yX1_isBetween : MethodName := ⟨RX1, "isBetween", "(III)Z"⟩
def dkwX1_isBetween_0 : List UInt8 := [26, 27, 161, 0, 12, 26, 28, 163, 0, 7, 4, 167, 0, 4, 3, 172]
abbrev dktX1_isBetween_0 : List UInt8 := dkwX1_isBetween_0 ++ []
theorem dksX1_isBetween_0 : cX1_isBetween.data.toList.drop 0 = dktX1_isBetween_0 := by decide +kernel
theorem dX1_isBetween_0 : decode cX1_isBetween 0 = .ok (.iload_n 0, 1) := dk_26 (dk_at dksX1_isBetween_0 0 rfl rfl)
theorem dX1_isBetween_1 : decode cX1_isBetween 1 = .ok (.iload_n 1, 1) := dk_27 (dk_at dksX1_isBetween_0 1 rfl rfl)
theorem dX1_isBetween_2 : decode cX1_isBetween 2 = .ok (.if_icmp .lt 12, 3) := dk_161 0 12 (dk_at dksX1_isBetween_0 2 rfl rfl)
theorem dX1_isBetween_5 : decode cX1_isBetween 5 = .ok (.iload_n 0, 1) := dk_26 (dk_at dksX1_isBetween_0 5 rfl rfl)
theorem dX1_isBetween_6 : decode cX1_isBetween 6 = .ok (.iload_n 2, 1) := dk_28 (dk_at dksX1_isBetween_0 6 rfl rfl)
theorem dX1_isBetween_7 : decode cX1_isBetween 7 = .ok (.if_icmp .gt 7, 3) := dk_163 0 7 (dk_at dksX1_isBetween_0 7 rfl rfl)
theorem dX1_isBetween_10 : decode cX1_isBetween 10 = .ok (.iconst 1, 1) := dk_4 (dk_at dksX1_isBetween_0 10 rfl rfl)
theorem dX1_isBetween_11 : decode cX1_isBetween 11 = .ok (.goto 4, 3) := dk_167 0 4 (dk_at dksX1_isBetween_0 11 rfl rfl)
theorem dX1_isBetween_14 : decode cX1_isBetween 14 = .ok (.iconst 0, 1) := dk_3 (dk_at dksX1_isBetween_0 14 rfl rfl)
theorem dX1_isBetween_15 : decode cX1_isBetween 15 = .ok (.ireturn, 1) := dk_172 (dk_at dksX1_isBetween_0 15 rfl rfl)
abbrev cX1_meanKeys : ByteArray := prog_1_method_39_code
def yX1_meanKeys : MethodName := ⟨RX1, "meanKeys", "()D"⟩
def dkwX1_meanKeys_2 : List UInt8 := [28, 154, 0, 7, 14, 167, 0, 8, 27, 135, 28, 135, 111, 175]
abbrev dktX1_meanKeys_2 : List UInt8 := dkwX1_meanKeys_2 ++ []
def dkwX1_meanKeys_1 : List UInt8 := [167, 0, 18, 27, 42, 180, 0, 27, 29, 50, 182, 1, 63, 96, 60, 132, 2, 1, 132, 3, 1, 167, 255, 218]
abbrev dktX1_meanKeys_1 : List UInt8 := dkwX1_meanKeys_1 ++ dktX1_meanKeys_2
def dkwX1_meanKeys_0 : List UInt8 := [3, 60, 3, 61, 3, 62, 29, 42, 180, 0, 57, 162, 0, 36, 42, 180, 0, 27, 29, 50, 199, 0, 6]
abbrev dktX1_meanKeys_0 : List UInt8 := dkwX1_meanKeys_0 ++ dktX1_meanKeys_1
theorem dksX1_meanKeys_0 : cX1_meanKeys.data.toList.drop 0 = dktX1_meanKeys_0 := by decide +kernel
theorem dksX1_meanKeys_1 : cX1_meanKeys.data.toList.drop 23 = dktX1_meanKeys_1 := dk_seg dksX1_meanKeys_0 23 rfl rfl
theorem dksX1_meanKeys_2 : cX1_meanKeys.data.toList.drop 47 = dktX1_meanKeys_2 := dk_seg dksX1_meanKeys_1 24 rfl rfl
theorem dX1_meanKeys_0 : decode cX1_meanKeys 0 = .ok (.iconst 0, 1) := dk_3 (dk_at dksX1_meanKeys_0 0 rfl rfl)
theorem dX1_meanKeys_1 : decode cX1_meanKeys 1 = .ok (.istore_n 1, 1) := dk_60 (dk_at dksX1_meanKeys_0 1 rfl rfl)
theorem dX1_meanKeys_2 : decode cX1_meanKeys 2 = .ok (.iconst 0, 1) := dk_3 (dk_at dksX1_meanKeys_0 2 rfl rfl)
theorem dX1_meanKeys_3 : decode cX1_meanKeys 3 = .ok (.istore_n 2, 1) := dk_61 (dk_at dksX1_meanKeys_0 3 rfl rfl)
theorem dX1_meanKeys_4 : decode cX1_meanKeys 4 = .ok (.iconst 0, 1) := dk_3 (dk_at dksX1_meanKeys_0 4 rfl rfl)
theorem dX1_meanKeys_5 : decode cX1_meanKeys 5 = .ok (.istore_n 3, 1) := dk_62 (dk_at dksX1_meanKeys_0 5 rfl rfl)
theorem dX1_meanKeys_6 : decode cX1_meanKeys 6 = .ok (.iload_n 3, 1) := dk_29 (dk_at dksX1_meanKeys_0 6 rfl rfl)
theorem dX1_meanKeys_7 : decode cX1_meanKeys 7 = .ok (.aload_n 0, 1) := dk_42 (dk_at dksX1_meanKeys_0 7 rfl rfl)
theorem dX1_meanKeys_8 : decode cX1_meanKeys 8 = .ok (.getfield 57, 3) := dk_180 0 57 (dk_at dksX1_meanKeys_0 8 rfl rfl)
theorem dX1_meanKeys_11 : decode cX1_meanKeys 11 = .ok (.if_icmp .ge 36, 3) := dk_162 0 36 (dk_at dksX1_meanKeys_0 11 rfl rfl)
theorem dX1_meanKeys_14 : decode cX1_meanKeys 14 = .ok (.aload_n 0, 1) := dk_42 (dk_at dksX1_meanKeys_0 14 rfl rfl)
theorem dX1_meanKeys_15 : decode cX1_meanKeys 15 = .ok (.getfield 27, 3) := dk_180 0 27 (dk_at dksX1_meanKeys_0 15 rfl rfl)
theorem dX1_meanKeys_18 : decode cX1_meanKeys 18 = .ok (.iload_n 3, 1) := dk_29 (dk_at dksX1_meanKeys_0 18 rfl rfl)
theorem dX1_meanKeys_19 : decode cX1_meanKeys 19 = .ok (.aaload, 1) := dk_50 (dk_at dksX1_meanKeys_0 19 rfl rfl)
theorem dX1_meanKeys_20 : decode cX1_meanKeys 20 = .ok (.ifnonnull 6, 3) := dk_199 0 6 (dk_at dksX1_meanKeys_0 20 rfl rfl)
theorem dX1_meanKeys_23 : decode cX1_meanKeys 23 = .ok (.goto 18, 3) := dk_167 0 18 (dk_at dksX1_meanKeys_1 0 rfl rfl)
theorem dX1_meanKeys_26 : decode cX1_meanKeys 26 = .ok (.iload_n 1, 1) := dk_27 (dk_at dksX1_meanKeys_1 3 rfl rfl)
theorem dX1_meanKeys_27 : decode cX1_meanKeys 27 = .ok (.aload_n 0, 1) := dk_42 (dk_at dksX1_meanKeys_1 4 rfl rfl)
theorem dX1_meanKeys_28 : decode cX1_meanKeys 28 = .ok (.getfield 27, 3) := dk_180 0 27 (dk_at dksX1_meanKeys_1 5 rfl rfl)
theorem dX1_meanKeys_31 : decode cX1_meanKeys 31 = .ok (.iload_n 3, 1) := dk_29 (dk_at dksX1_meanKeys_1 8 rfl rfl)
theorem dX1_meanKeys_32 : decode cX1_meanKeys 32 = .ok (.aaload, 1) := dk_50 (dk_at dksX1_meanKeys_1 9 rfl rfl)
theorem dX1_meanKeys_33 : decode cX1_meanKeys 33 = .ok (.invokevirtual 319, 3) := dk_182 1 63 (dk_at dksX1_meanKeys_1 10 rfl rfl)
theorem dX1_meanKeys_36 : decode cX1_meanKeys 36 = .ok (.iadd, 1) := dk_96 (dk_at dksX1_meanKeys_1 13 rfl rfl)
theorem dX1_meanKeys_37 : decode cX1_meanKeys 37 = .ok (.istore_n 1, 1) := dk_60 (dk_at dksX1_meanKeys_1 14 rfl rfl)
theorem dX1_meanKeys_38 : decode cX1_meanKeys 38 = .ok (.iinc 2 1, 3) := dk_132 2 1 (dk_at dksX1_meanKeys_1 15 rfl rfl)
theorem dX1_meanKeys_41 : decode cX1_meanKeys 41 = .ok (.iinc 3 1, 3) := dk_132 3 1 (dk_at dksX1_meanKeys_1 18 rfl rfl)
theorem dX1_meanKeys_44 : decode cX1_meanKeys 44 = .ok (.goto (-38), 3) := dk_167 255 218 (dk_at dksX1_meanKeys_1 21 rfl rfl)
theorem dX1_meanKeys_47 : decode cX1_meanKeys 47 = .ok (.iload_n 2, 1) := dk_28 (dk_at dksX1_meanKeys_2 0 rfl rfl)
theorem dX1_meanKeys_48 : decode cX1_meanKeys 48 = .ok (.ifCond .ne 7, 3) := dk_154 0 7 (dk_at dksX1_meanKeys_2 1 rfl rfl)
theorem dX1_meanKeys_51 : decode cX1_meanKeys 51 = .ok (.dconst 0, 1) := dk_14 (dk_at dksX1_meanKeys_2 4 rfl rfl)
theorem dX1_meanKeys_52 : decode cX1_meanKeys 52 = .ok (.goto 8, 3) := dk_167 0 8 (dk_at dksX1_meanKeys_2 5 rfl rfl)
theorem dX1_meanKeys_55 : decode cX1_meanKeys 55 = .ok (.iload_n 1, 1) := dk_27 (dk_at dksX1_meanKeys_2 8 rfl rfl)
theorem dX1_meanKeys_56 : decode cX1_meanKeys 56 = .ok (.i2d, 1) := dk_135 (dk_at dksX1_meanKeys_2 9 rfl rfl)
theorem dX1_meanKeys_57 : decode cX1_meanKeys 57 = .ok (.iload_n 2, 1) := dk_28 (dk_at dksX1_meanKeys_2 10 rfl rfl)
theorem dX1_meanKeys_58 : decode cX1_meanKeys 58 = .ok (.i2d, 1) := dk_135 (dk_at dksX1_meanKeys_2 11 rfl rfl)
theorem dX1_meanKeys_59 : decode cX1_meanKeys 59 = .ok (.ddiv, 1) := dk_111 (dk_at dksX1_meanKeys_2 12 rfl rfl)
theorem dX1_meanKeys_60 : decode cX1_meanKeys 60 = .ok (.dreturn, 1) := dk_175 (dk_at dksX1_meanKeys_2 13 rfl rfl)
abbrev cX1_addComposition : ByteArray := prog_1_method_9_code
def yX1_addComposition : MethodName := ⟨RX1, "addComposition", "()I"⟩
def dkwX1_addComposition_2 : List UInt8 := [87, 42, 180, 0, 19, 185, 0, 48, 1, 0, 4, 100, 172]
abbrev dktX1_addComposition_2 : List UInt8 := dkwX1_addComposition_2 ++ []
def dkwX1_addComposition_1 : List UInt8 := [180, 0, 19, 187, 0, 77, 89, 42, 180, 0, 19, 185, 0, 48, 1, 0, 183, 0, 82, 185, 0, 84, 2, 0]
abbrev dktX1_addComposition_1 : List UInt8 := dkwX1_addComposition_1 ++ dktX1_addComposition_2
def dkwX1_addComposition_0 : List UInt8 := [42, 180, 0, 19, 185, 0, 48, 1, 0, 7, 162, 0, 7, 4, 167, 0, 4, 3, 184, 0, 79, 42]
abbrev dktX1_addComposition_0 : List UInt8 := dkwX1_addComposition_0 ++ dktX1_addComposition_1
theorem dksX1_addComposition_0 : cX1_addComposition.data.toList.drop 0 = dktX1_addComposition_0 := by decide +kernel
theorem dksX1_addComposition_1 : cX1_addComposition.data.toList.drop 22 = dktX1_addComposition_1 := dk_seg dksX1_addComposition_0 22 rfl rfl
theorem dksX1_addComposition_2 : cX1_addComposition.data.toList.drop 46 = dktX1_addComposition_2 := dk_seg dksX1_addComposition_1 24 rfl rfl
theorem dX1_addComposition_0 : decode cX1_addComposition 0 = .ok (.aload_n 0, 1) := dk_42 (dk_at dksX1_addComposition_0 0 rfl rfl)
theorem dX1_addComposition_1 : decode cX1_addComposition 1 = .ok (.getfield 19, 3) := dk_180 0 19 (dk_at dksX1_addComposition_0 1 rfl rfl)
theorem dX1_addComposition_4 : decode cX1_addComposition 4 = .ok (.invokeinterface 48 1, 5) := by decide +kernel
theorem dX1_addComposition_9 : decode cX1_addComposition 9 = .ok (.iconst 4, 1) := dk_7 (dk_at dksX1_addComposition_0 9 rfl rfl)
theorem dX1_addComposition_10 : decode cX1_addComposition 10 = .ok (.if_icmp .ge 7, 3) := dk_162 0 7 (dk_at dksX1_addComposition_0 10 rfl rfl)
theorem dX1_addComposition_13 : decode cX1_addComposition 13 = .ok (.iconst 1, 1) := dk_4 (dk_at dksX1_addComposition_0 13 rfl rfl)
theorem dX1_addComposition_14 : decode cX1_addComposition 14 = .ok (.goto 4, 3) := dk_167 0 4 (dk_at dksX1_addComposition_0 14 rfl rfl)
theorem dX1_addComposition_17 : decode cX1_addComposition 17 = .ok (.iconst 0, 1) := dk_3 (dk_at dksX1_addComposition_0 17 rfl rfl)
theorem dX1_addComposition_18 : decode cX1_addComposition 18 = .ok (.invokestatic 79, 3) := dk_184 0 79 (dk_at dksX1_addComposition_0 18 rfl rfl)
theorem dX1_addComposition_21 : decode cX1_addComposition 21 = .ok (.aload_n 0, 1) := dk_42 (dk_at dksX1_addComposition_0 21 rfl rfl)
theorem dX1_addComposition_22 : decode cX1_addComposition 22 = .ok (.getfield 19, 3) := dk_180 0 19 (dk_at dksX1_addComposition_1 0 rfl rfl)
theorem dX1_addComposition_25 : decode cX1_addComposition 25 = .ok (.new 77, 3) := dk_187 0 77 (dk_at dksX1_addComposition_1 3 rfl rfl)
theorem dX1_addComposition_28 : decode cX1_addComposition 28 = .ok (.dup, 1) := dk_89 (dk_at dksX1_addComposition_1 6 rfl rfl)
theorem dX1_addComposition_29 : decode cX1_addComposition 29 = .ok (.aload_n 0, 1) := dk_42 (dk_at dksX1_addComposition_1 7 rfl rfl)
theorem dX1_addComposition_30 : decode cX1_addComposition 30 = .ok (.getfield 19, 3) := dk_180 0 19 (dk_at dksX1_addComposition_1 8 rfl rfl)
theorem dX1_addComposition_33 : decode cX1_addComposition 33 = .ok (.invokeinterface 48 1, 5) := by decide +kernel
theorem dX1_addComposition_38 : decode cX1_addComposition 38 = .ok (.invokespecial 82, 3) := dk_183 0 82 (dk_at dksX1_addComposition_1 16 rfl rfl)
theorem dX1_addComposition_41 : decode cX1_addComposition 41 = .ok (.invokeinterface 84 2, 5) := by decide +kernel
theorem dX1_addComposition_46 : decode cX1_addComposition 46 = .ok (.pop, 1) := dk_87 (dk_at dksX1_addComposition_2 0 rfl rfl)
theorem dX1_addComposition_47 : decode cX1_addComposition 47 = .ok (.aload_n 0, 1) := dk_42 (dk_at dksX1_addComposition_2 1 rfl rfl)
theorem dX1_addComposition_48 : decode cX1_addComposition 48 = .ok (.getfield 19, 3) := dk_180 0 19 (dk_at dksX1_addComposition_2 2 rfl rfl)
theorem dX1_addComposition_51 : decode cX1_addComposition 51 = .ok (.invokeinterface 48 1, 5) := by decide +kernel
theorem dX1_addComposition_56 : decode cX1_addComposition 56 = .ok (.iconst 1, 1) := dk_4 (dk_at dksX1_addComposition_2 10 rfl rfl)
theorem dX1_addComposition_57 : decode cX1_addComposition 57 = .ok (.isub, 1) := dk_100 (dk_at dksX1_addComposition_2 11 rfl rfl)
theorem dX1_addComposition_58 : decode cX1_addComposition 58 = .ok (.ireturn, 1) := dk_172 (dk_at dksX1_addComposition_2 12 rfl rfl)
abbrev cX1_checkState : ByteArray := prog_1_method_3_code
def yX1_checkState : MethodName := ⟨RX1, "checkState", "(Z)V"⟩
def dkwX1_checkState_0 : List UInt8 := [26, 154, 0, 11, 187, 0, 7, 89, 183, 0, 9, 191, 177]
abbrev dktX1_checkState_0 : List UInt8 := dkwX1_checkState_0 ++ []
theorem dksX1_checkState_0 : cX1_checkState.data.toList.drop 0 = dktX1_checkState_0 := by decide +kernel
theorem dX1_checkState_0 : decode cX1_checkState 0 = .ok (.iload_n 0, 1) := dk_26 (dk_at dksX1_checkState_0 0 rfl rfl)
theorem dX1_checkState_1 : decode cX1_checkState 1 = .ok (.ifCond .ne 11, 3) := dk_154 0 11 (dk_at dksX1_checkState_0 1 rfl rfl)
theorem dX1_checkState_4 : decode cX1_checkState 4 = .ok (.new 7, 3) := dk_187 0 7 (dk_at dksX1_checkState_0 4 rfl rfl)
theorem dX1_checkState_7 : decode cX1_checkState 7 = .ok (.dup, 1) := dk_89 (dk_at dksX1_checkState_0 7 rfl rfl)
theorem dX1_checkState_8 : decode cX1_checkState 8 = .ok (.invokespecial 9, 3) := dk_183 0 9 (dk_at dksX1_checkState_0 8 rfl rfl)
theorem dX1_checkState_11 : decode cX1_checkState 11 = .ok (.athrow, 1) := dk_191 (dk_at dksX1_checkState_0 11 rfl rfl)
theorem dX1_checkState_12 : decode cX1_checkState 12 = .ok (.return_, 1) := dk_177 (dk_at dksX1_checkState_0 12 rfl rfl)
abbrev cX1_addRect : ByteArray := prog_1_method_11_code
def yX1_addRect : MethodName := ⟨RX1, "addRect", "(IIII)I"⟩
def dkwX1_addRect_4 : List UInt8 := [172]
abbrev dktX1_addRect_4 : List UInt8 := dkwX1_addRect_4 ++ []
def dkwX1_addRect_3 : List UInt8 := [180, 0, 57, 25, 5, 21, 4, 5, 188, 10, 89, 3, 28, 79, 89, 4, 29, 79, 183, 0, 107, 182, 0, 110]
abbrev dktX1_addRect_3 : List UInt8 := dkwX1_addRect_3 ++ dktX1_addRect_4
def dkwX1_addRect_2 : List UInt8 := [180, 0, 57, 16, 12, 162, 0, 7, 4, 167, 0, 4, 3, 184, 0, 79, 42, 187, 0, 105, 89, 42]
abbrev dktX1_addRect_2 : List UInt8 := dkwX1_addRect_2 ++ dktX1_addRect_3
def dkwX1_addRect_1 : List UInt8 := [153, 0, 18, 21, 4, 4, 16, 9, 184, 0, 65, 153, 0, 7, 4, 167, 0, 4, 3, 184, 0, 102, 42]
abbrev dktX1_addRect_1 : List UInt8 := dkwX1_addRect_1 ++ dktX1_addRect_2
def dkwX1_addRect_0 : List UInt8 := [42, 27, 182, 0, 98, 58, 5, 28, 4, 16, 20, 184, 0, 65, 153, 0, 28, 29, 4, 16, 20, 184, 0, 65]
abbrev dktX1_addRect_0 : List UInt8 := dkwX1_addRect_0 ++ dktX1_addRect_1
theorem dksX1_addRect_0 : cX1_addRect.data.toList.drop 0 = dktX1_addRect_0 := by decide +kernel
theorem dksX1_addRect_1 : cX1_addRect.data.toList.drop 24 = dktX1_addRect_1 := dk_seg dksX1_addRect_0 24 rfl rfl
theorem dksX1_addRect_2 : cX1_addRect.data.toList.drop 47 = dktX1_addRect_2 := dk_seg dksX1_addRect_1 23 rfl rfl
theorem dksX1_addRect_3 : cX1_addRect.data.toList.drop 69 = dktX1_addRect_3 := dk_seg dksX1_addRect_2 22 rfl rfl
theorem dksX1_addRect_4 : cX1_addRect.data.toList.drop 93 = dktX1_addRect_4 := dk_seg dksX1_addRect_3 24 rfl rfl
theorem dX1_addRect_0 : decode cX1_addRect 0 = .ok (.aload_n 0, 1) := dk_42 (dk_at dksX1_addRect_0 0 rfl rfl)
theorem dX1_addRect_1 : decode cX1_addRect 1 = .ok (.iload_n 1, 1) := dk_27 (dk_at dksX1_addRect_0 1 rfl rfl)
theorem dX1_addRect_2 : decode cX1_addRect 2 = .ok (.invokevirtual 98, 3) := dk_182 0 98 (dk_at dksX1_addRect_0 2 rfl rfl)
theorem dX1_addRect_5 : decode cX1_addRect 5 = .ok (.astore 5, 2) := dk_58 5 (dk_at dksX1_addRect_0 5 rfl rfl)
theorem dX1_addRect_7 : decode cX1_addRect 7 = .ok (.iload_n 2, 1) := dk_28 (dk_at dksX1_addRect_0 7 rfl rfl)
theorem dX1_addRect_8 : decode cX1_addRect 8 = .ok (.iconst 1, 1) := dk_4 (dk_at dksX1_addRect_0 8 rfl rfl)
theorem dX1_addRect_9 : decode cX1_addRect 9 = .ok (.bipush 20, 2) := dk_16 20 (dk_at dksX1_addRect_0 9 rfl rfl)
theorem dX1_addRect_11 : decode cX1_addRect 11 = .ok (.invokestatic 65, 3) := dk_184 0 65 (dk_at dksX1_addRect_0 11 rfl rfl)
theorem dX1_addRect_14 : decode cX1_addRect 14 = .ok (.ifCond .eq 28, 3) := dk_153 0 28 (dk_at dksX1_addRect_0 14 rfl rfl)
theorem dX1_addRect_17 : decode cX1_addRect 17 = .ok (.iload_n 3, 1) := dk_29 (dk_at dksX1_addRect_0 17 rfl rfl)
theorem dX1_addRect_18 : decode cX1_addRect 18 = .ok (.iconst 1, 1) := dk_4 (dk_at dksX1_addRect_0 18 rfl rfl)
theorem dX1_addRect_19 : decode cX1_addRect 19 = .ok (.bipush 20, 2) := dk_16 20 (dk_at dksX1_addRect_0 19 rfl rfl)
theorem dX1_addRect_21 : decode cX1_addRect 21 = .ok (.invokestatic 65, 3) := dk_184 0 65 (dk_at dksX1_addRect_0 21 rfl rfl)
theorem dX1_addRect_24 : decode cX1_addRect 24 = .ok (.ifCond .eq 18, 3) := dk_153 0 18 (dk_at dksX1_addRect_1 0 rfl rfl)
theorem dX1_addRect_27 : decode cX1_addRect 27 = .ok (.iload 4, 2) := dk_21 4 (dk_at dksX1_addRect_1 3 rfl rfl)
theorem dX1_addRect_29 : decode cX1_addRect 29 = .ok (.iconst 1, 1) := dk_4 (dk_at dksX1_addRect_1 5 rfl rfl)
theorem dX1_addRect_30 : decode cX1_addRect 30 = .ok (.bipush 9, 2) := dk_16 9 (dk_at dksX1_addRect_1 6 rfl rfl)
theorem dX1_addRect_32 : decode cX1_addRect 32 = .ok (.invokestatic 65, 3) := dk_184 0 65 (dk_at dksX1_addRect_1 8 rfl rfl)
theorem dX1_addRect_35 : decode cX1_addRect 35 = .ok (.ifCond .eq 7, 3) := dk_153 0 7 (dk_at dksX1_addRect_1 11 rfl rfl)
theorem dX1_addRect_38 : decode cX1_addRect 38 = .ok (.iconst 1, 1) := dk_4 (dk_at dksX1_addRect_1 14 rfl rfl)
theorem dX1_addRect_39 : decode cX1_addRect 39 = .ok (.goto 4, 3) := dk_167 0 4 (dk_at dksX1_addRect_1 15 rfl rfl)
theorem dX1_addRect_42 : decode cX1_addRect 42 = .ok (.iconst 0, 1) := dk_3 (dk_at dksX1_addRect_1 18 rfl rfl)
theorem dX1_addRect_43 : decode cX1_addRect 43 = .ok (.invokestatic 102, 3) := dk_184 0 102 (dk_at dksX1_addRect_1 19 rfl rfl)
theorem dX1_addRect_46 : decode cX1_addRect 46 = .ok (.aload_n 0, 1) := dk_42 (dk_at dksX1_addRect_1 22 rfl rfl)
theorem dX1_addRect_47 : decode cX1_addRect 47 = .ok (.getfield 57, 3) := dk_180 0 57 (dk_at dksX1_addRect_2 0 rfl rfl)
theorem dX1_addRect_50 : decode cX1_addRect 50 = .ok (.bipush 12, 2) := dk_16 12 (dk_at dksX1_addRect_2 3 rfl rfl)
theorem dX1_addRect_52 : decode cX1_addRect 52 = .ok (.if_icmp .ge 7, 3) := dk_162 0 7 (dk_at dksX1_addRect_2 5 rfl rfl)
theorem dX1_addRect_55 : decode cX1_addRect 55 = .ok (.iconst 1, 1) := dk_4 (dk_at dksX1_addRect_2 8 rfl rfl)
theorem dX1_addRect_56 : decode cX1_addRect 56 = .ok (.goto 4, 3) := dk_167 0 4 (dk_at dksX1_addRect_2 9 rfl rfl)
theorem dX1_addRect_59 : decode cX1_addRect 59 = .ok (.iconst 0, 1) := dk_3 (dk_at dksX1_addRect_2 12 rfl rfl)
theorem dX1_addRect_60 : decode cX1_addRect 60 = .ok (.invokestatic 79, 3) := dk_184 0 79 (dk_at dksX1_addRect_2 13 rfl rfl)
theorem dX1_addRect_63 : decode cX1_addRect 63 = .ok (.aload_n 0, 1) := dk_42 (dk_at dksX1_addRect_2 16 rfl rfl)
theorem dX1_addRect_64 : decode cX1_addRect 64 = .ok (.new 105, 3) := dk_187 0 105 (dk_at dksX1_addRect_2 17 rfl rfl)
theorem dX1_addRect_67 : decode cX1_addRect 67 = .ok (.dup, 1) := dk_89 (dk_at dksX1_addRect_2 20 rfl rfl)
theorem dX1_addRect_68 : decode cX1_addRect 68 = .ok (.aload_n 0, 1) := dk_42 (dk_at dksX1_addRect_2 21 rfl rfl)
theorem dX1_addRect_69 : decode cX1_addRect 69 = .ok (.getfield 57, 3) := dk_180 0 57 (dk_at dksX1_addRect_3 0 rfl rfl)
theorem dX1_addRect_72 : decode cX1_addRect 72 = .ok (.aload 5, 2) := dk_25 5 (dk_at dksX1_addRect_3 3 rfl rfl)
theorem dX1_addRect_74 : decode cX1_addRect 74 = .ok (.iload 4, 2) := dk_21 4 (dk_at dksX1_addRect_3 5 rfl rfl)
theorem dX1_addRect_76 : decode cX1_addRect 76 = .ok (.iconst 2, 1) := dk_5 (dk_at dksX1_addRect_3 7 rfl rfl)
theorem dX1_addRect_77 : decode cX1_addRect 77 = .ok (.newarray .int, 2) := dk_188_10 (dk_at dksX1_addRect_3 8 rfl rfl)
theorem dX1_addRect_79 : decode cX1_addRect 79 = .ok (.dup, 1) := dk_89 (dk_at dksX1_addRect_3 10 rfl rfl)
theorem dX1_addRect_80 : decode cX1_addRect 80 = .ok (.iconst 0, 1) := dk_3 (dk_at dksX1_addRect_3 11 rfl rfl)
theorem dX1_addRect_81 : decode cX1_addRect 81 = .ok (.iload_n 2, 1) := dk_28 (dk_at dksX1_addRect_3 12 rfl rfl)
theorem dX1_addRect_82 : decode cX1_addRect 82 = .ok (.iastore, 1) := dk_79 (dk_at dksX1_addRect_3 13 rfl rfl)
theorem dX1_addRect_83 : decode cX1_addRect 83 = .ok (.dup, 1) := dk_89 (dk_at dksX1_addRect_3 14 rfl rfl)
theorem dX1_addRect_84 : decode cX1_addRect 84 = .ok (.iconst 1, 1) := dk_4 (dk_at dksX1_addRect_3 15 rfl rfl)
theorem dX1_addRect_85 : decode cX1_addRect 85 = .ok (.iload_n 3, 1) := dk_29 (dk_at dksX1_addRect_3 16 rfl rfl)
theorem dX1_addRect_86 : decode cX1_addRect 86 = .ok (.iastore, 1) := dk_79 (dk_at dksX1_addRect_3 17 rfl rfl)
theorem dX1_addRect_87 : decode cX1_addRect 87 = .ok (.invokespecial 107, 3) := dk_183 0 107 (dk_at dksX1_addRect_3 18 rfl rfl)
theorem dX1_addRect_90 : decode cX1_addRect 90 = .ok (.invokevirtual 110, 3) := dk_182 0 110 (dk_at dksX1_addRect_3 21 rfl rfl)
theorem dX1_addRect_93 : decode cX1_addRect 93 = .ok (.ireturn, 1) := dk_172 (dk_at dksX1_addRect_4 0 rfl rfl)
abbrev cX1_composition : ByteArray := prog_1_method_7_code
def yX1_composition : MethodName := ⟨RX1, "composition", "(I)LShapelayer$Composition;"⟩
def dkwX1_composition_1 : List UInt8 := [185, 0, 73, 2, 0, 192, 0, 77, 176]
abbrev dktX1_composition_1 : List UInt8 := dkwX1_composition_1 ++ []
def dkwX1_composition_0 : List UInt8 := [27, 3, 42, 180, 0, 19, 185, 0, 48, 1, 0, 4, 100, 184, 0, 65, 184, 0, 69, 42, 180, 0, 19, 27]
abbrev dktX1_composition_0 : List UInt8 := dkwX1_composition_0 ++ dktX1_composition_1
theorem dksX1_composition_0 : cX1_composition.data.toList.drop 0 = dktX1_composition_0 := by decide +kernel
theorem dksX1_composition_1 : cX1_composition.data.toList.drop 24 = dktX1_composition_1 := dk_seg dksX1_composition_0 24 rfl rfl
theorem dX1_composition_0 : decode cX1_composition 0 = .ok (.iload_n 1, 1) := dk_27 (dk_at dksX1_composition_0 0 rfl rfl)
theorem dX1_composition_1 : decode cX1_composition 1 = .ok (.iconst 0, 1) := dk_3 (dk_at dksX1_composition_0 1 rfl rfl)
theorem dX1_composition_2 : decode cX1_composition 2 = .ok (.aload_n 0, 1) := dk_42 (dk_at dksX1_composition_0 2 rfl rfl)
theorem dX1_composition_3 : decode cX1_composition 3 = .ok (.getfield 19, 3) := dk_180 0 19 (dk_at dksX1_composition_0 3 rfl rfl)
theorem dX1_composition_6 : decode cX1_composition 6 = .ok (.invokeinterface 48 1, 5) := by decide +kernel
theorem dX1_composition_11 : decode cX1_composition 11 = .ok (.iconst 1, 1) := dk_4 (dk_at dksX1_composition_0 11 rfl rfl)
theorem dX1_composition_12 : decode cX1_composition 12 = .ok (.isub, 1) := dk_100 (dk_at dksX1_composition_0 12 rfl rfl)
theorem dX1_composition_13 : decode cX1_composition 13 = .ok (.invokestatic 65, 3) := dk_184 0 65 (dk_at dksX1_composition_0 13 rfl rfl)
theorem dX1_composition_16 : decode cX1_composition 16 = .ok (.invokestatic 69, 3) := dk_184 0 69 (dk_at dksX1_composition_0 16 rfl rfl)
theorem dX1_composition_19 : decode cX1_composition 19 = .ok (.aload_n 0, 1) := dk_42 (dk_at dksX1_composition_0 19 rfl rfl)
theorem dX1_composition_20 : decode cX1_composition 20 = .ok (.getfield 19, 3) := dk_180 0 19 (dk_at dksX1_composition_0 20 rfl rfl)
theorem dX1_composition_23 : decode cX1_composition 23 = .ok (.iload_n 1, 1) := dk_27 (dk_at dksX1_composition_0 23 rfl rfl)
theorem dX1_composition_24 : decode cX1_composition 24 = .ok (.invokeinterface 73 2, 5) := by decide +kernel
theorem dX1_composition_29 : decode cX1_composition 29 = .ok (.checkcast 77, 3) := dk_192 0 77 (dk_at dksX1_composition_1 5 rfl rfl)
theorem dX1_composition_32 : decode cX1_composition 32 = .ok (.areturn, 1) := dk_176 (dk_at dksX1_composition_1 8 rfl rfl)
abbrev cX1_checkIndex : ByteArray := prog_1_method_4_code
def yX1_checkIndex : MethodName := ⟨RX1, "checkIndex", "(Z)V"⟩
def dkwX1_checkIndex_0 : List UInt8 := [26, 154, 0, 11, 187, 0, 10, 89, 183, 0, 12, 191, 177]
abbrev dktX1_checkIndex_0 : List UInt8 := dkwX1_checkIndex_0 ++ []
theorem dksX1_checkIndex_0 : cX1_checkIndex.data.toList.drop 0 = dktX1_checkIndex_0 := by decide +kernel
theorem dX1_checkIndex_0 : decode cX1_checkIndex 0 = .ok (.iload_n 0, 1) := dk_26 (dk_at dksX1_checkIndex_0 0 rfl rfl)
theorem dX1_checkIndex_1 : decode cX1_checkIndex 1 = .ok (.ifCond .ne 11, 3) := dk_154 0 11 (dk_at dksX1_checkIndex_0 1 rfl rfl)
theorem dX1_checkIndex_4 : decode cX1_checkIndex 4 = .ok (.new 10, 3) := dk_187 0 10 (dk_at dksX1_checkIndex_0 4 rfl rfl)
theorem dX1_checkIndex_7 : decode cX1_checkIndex 7 = .ok (.dup, 1) := dk_89 (dk_at dksX1_checkIndex_0 7 rfl rfl)
theorem dX1_checkIndex_8 : decode cX1_checkIndex 8 = .ok (.invokespecial 12, 3) := dk_183 0 12 (dk_at dksX1_checkIndex_0 8 rfl rfl)
theorem dX1_checkIndex_11 : decode cX1_checkIndex 11 = .ok (.athrow, 1) := dk_191 (dk_at dksX1_checkIndex_0 11 rfl rfl)
theorem dX1_checkIndex_12 : decode cX1_checkIndex 12 = .ok (.return_, 1) := dk_177 (dk_at dksX1_checkIndex_0 12 rfl rfl)
abbrev cX1_checkArgument : ByteArray := prog_1_method_2_code
def yX1_checkArgument : MethodName := ⟨RX1, "checkArgument", "(Z)V"⟩
def dkwX1_checkArgument_0 : List UInt8 := [26, 154, 0, 11, 187, 0, 1, 89, 183, 0, 3, 191, 177]
abbrev dktX1_checkArgument_0 : List UInt8 := dkwX1_checkArgument_0 ++ []
theorem dksX1_checkArgument_0 : cX1_checkArgument.data.toList.drop 0 = dktX1_checkArgument_0 := by decide +kernel
theorem dX1_checkArgument_0 : decode cX1_checkArgument 0 = .ok (.iload_n 0, 1) := dk_26 (dk_at dksX1_checkArgument_0 0 rfl rfl)
theorem dX1_checkArgument_1 : decode cX1_checkArgument 1 = .ok (.ifCond .ne 11, 3) := dk_154 0 11 (dk_at dksX1_checkArgument_0 1 rfl rfl)
theorem dX1_checkArgument_4 : decode cX1_checkArgument 4 = .ok (.new 1, 3) := dk_187 0 1 (dk_at dksX1_checkArgument_0 4 rfl rfl)
theorem dX1_checkArgument_7 : decode cX1_checkArgument 7 = .ok (.dup, 1) := dk_89 (dk_at dksX1_checkArgument_0 7 rfl rfl)
theorem dX1_checkArgument_8 : decode cX1_checkArgument 8 = .ok (.invokespecial 3, 3) := dk_183 0 3 (dk_at dksX1_checkArgument_0 8 rfl rfl)
theorem dX1_checkArgument_11 : decode cX1_checkArgument 11 = .ok (.athrow, 1) := dk_191 (dk_at dksX1_checkArgument_0 11 rfl rfl)
theorem dX1_checkArgument_12 : decode cX1_checkArgument 12 = .ok (.return_, 1) := dk_177 (dk_at dksX1_checkArgument_0 12 rfl rfl)
abbrev cX1_put : ByteArray := prog_1_method_10_code
def yX1_put : MethodName := ⟨RX1, "put", "(LShapelayer$Layer;)I"⟩
def dkwX1_put_1 : List UInt8 := [180, 0, 92, 43, 185, 0, 84, 2, 0, 87, 42, 180, 0, 31, 185, 0, 54, 1, 0, 43, 180, 0, 95, 172]
abbrev dktX1_put_1 : List UInt8 := dkwX1_put_1 ++ []
def dkwX1_put_0 : List UInt8 := [42, 180, 0, 27, 42, 180, 0, 57, 43, 83, 42, 89, 180, 0, 57, 4, 96, 181, 0, 57, 43, 180, 0, 88]
abbrev dktX1_put_0 : List UInt8 := dkwX1_put_0 ++ dktX1_put_1
theorem dksX1_put_0 : cX1_put.data.toList.drop 0 = dktX1_put_0 := by decide +kernel
theorem dksX1_put_1 : cX1_put.data.toList.drop 24 = dktX1_put_1 := dk_seg dksX1_put_0 24 rfl rfl
theorem dX1_put_0 : decode cX1_put 0 = .ok (.aload_n 0, 1) := dk_42 (dk_at dksX1_put_0 0 rfl rfl)
theorem dX1_put_1 : decode cX1_put 1 = .ok (.getfield 27, 3) := dk_180 0 27 (dk_at dksX1_put_0 1 rfl rfl)
theorem dX1_put_4 : decode cX1_put 4 = .ok (.aload_n 0, 1) := dk_42 (dk_at dksX1_put_0 4 rfl rfl)
theorem dX1_put_5 : decode cX1_put 5 = .ok (.getfield 57, 3) := dk_180 0 57 (dk_at dksX1_put_0 5 rfl rfl)
theorem dX1_put_8 : decode cX1_put 8 = .ok (.aload_n 1, 1) := dk_43 (dk_at dksX1_put_0 8 rfl rfl)
theorem dX1_put_9 : decode cX1_put 9 = .ok (.aastore, 1) := dk_83 (dk_at dksX1_put_0 9 rfl rfl)
theorem dX1_put_10 : decode cX1_put 10 = .ok (.aload_n 0, 1) := dk_42 (dk_at dksX1_put_0 10 rfl rfl)
theorem dX1_put_11 : decode cX1_put 11 = .ok (.dup, 1) := dk_89 (dk_at dksX1_put_0 11 rfl rfl)
theorem dX1_put_12 : decode cX1_put 12 = .ok (.getfield 57, 3) := dk_180 0 57 (dk_at dksX1_put_0 12 rfl rfl)
theorem dX1_put_15 : decode cX1_put 15 = .ok (.iconst 1, 1) := dk_4 (dk_at dksX1_put_0 15 rfl rfl)
theorem dX1_put_16 : decode cX1_put 16 = .ok (.iadd, 1) := dk_96 (dk_at dksX1_put_0 16 rfl rfl)
theorem dX1_put_17 : decode cX1_put 17 = .ok (.putfield 57, 3) := dk_181 0 57 (dk_at dksX1_put_0 17 rfl rfl)
theorem dX1_put_20 : decode cX1_put 20 = .ok (.aload_n 1, 1) := dk_43 (dk_at dksX1_put_0 20 rfl rfl)
theorem dX1_put_21 : decode cX1_put 21 = .ok (.getfield 88, 3) := dk_180 0 88 (dk_at dksX1_put_0 21 rfl rfl)
theorem dX1_put_24 : decode cX1_put 24 = .ok (.getfield 92, 3) := dk_180 0 92 (dk_at dksX1_put_1 0 rfl rfl)
theorem dX1_put_27 : decode cX1_put 27 = .ok (.aload_n 1, 1) := dk_43 (dk_at dksX1_put_1 3 rfl rfl)
theorem dX1_put_28 : decode cX1_put 28 = .ok (.invokeinterface 84 2, 5) := by decide +kernel
theorem dX1_put_33 : decode cX1_put 33 = .ok (.pop, 1) := dk_87 (dk_at dksX1_put_1 9 rfl rfl)
theorem dX1_put_34 : decode cX1_put 34 = .ok (.aload_n 0, 1) := dk_42 (dk_at dksX1_put_1 10 rfl rfl)
theorem dX1_put_35 : decode cX1_put 35 = .ok (.getfield 31, 3) := dk_180 0 31 (dk_at dksX1_put_1 11 rfl rfl)
theorem dX1_put_38 : decode cX1_put 38 = .ok (.invokeinterface 54 1, 5) := by decide +kernel
theorem dX1_put_43 : decode cX1_put 43 = .ok (.aload_n 1, 1) := dk_43 (dk_at dksX1_put_1 19 rfl rfl)
theorem dX1_put_44 : decode cX1_put 44 = .ok (.getfield 95, 3) := dk_180 0 95 (dk_at dksX1_put_1 20 rfl rfl)
theorem dX1_put_47 : decode cX1_put 47 = .ok (.ireturn, 1) := dk_172 (dk_at dksX1_put_1 23 rfl rfl)
abbrev cX1_addStroke : ByteArray := prog_1_method_12_code
def yX1_addStroke : MethodName := ⟨RX1, "addStroke", "(II)I"⟩
def dkwX1_addStroke_2 : List UInt8 := [183, 0, 116, 182, 0, 110, 172]
abbrev dktX1_addStroke_2 : List UInt8 := dkwX1_addStroke_2 ++ []
def dkwX1_addStroke_1 : List UInt8 := [162, 0, 7, 4, 167, 0, 4, 3, 184, 0, 79, 42, 187, 0, 114, 89, 42, 180, 0, 57, 45, 28]
abbrev dktX1_addStroke_1 : List UInt8 := dkwX1_addStroke_1 ++ dktX1_addStroke_2
def dkwX1_addStroke_0 : List UInt8 := [42, 27, 182, 0, 98, 78, 28, 4, 16, 9, 184, 0, 65, 184, 0, 102, 42, 180, 0, 57, 16, 12]
abbrev dktX1_addStroke_0 : List UInt8 := dkwX1_addStroke_0 ++ dktX1_addStroke_1
theorem dksX1_addStroke_0 : cX1_addStroke.data.toList.drop 0 = dktX1_addStroke_0 := by decide +kernel
theorem dksX1_addStroke_1 : cX1_addStroke.data.toList.drop 22 = dktX1_addStroke_1 := dk_seg dksX1_addStroke_0 22 rfl rfl
theorem dksX1_addStroke_2 : cX1_addStroke.data.toList.drop 44 = dktX1_addStroke_2 := dk_seg dksX1_addStroke_1 22 rfl rfl
theorem dX1_addStroke_0 : decode cX1_addStroke 0 = .ok (.aload_n 0, 1) := dk_42 (dk_at dksX1_addStroke_0 0 rfl rfl)
theorem dX1_addStroke_1 : decode cX1_addStroke 1 = .ok (.iload_n 1, 1) := dk_27 (dk_at dksX1_addStroke_0 1 rfl rfl)
theorem dX1_addStroke_2 : decode cX1_addStroke 2 = .ok (.invokevirtual 98, 3) := dk_182 0 98 (dk_at dksX1_addStroke_0 2 rfl rfl)
theorem dX1_addStroke_5 : decode cX1_addStroke 5 = .ok (.astore_n 3, 1) := dk_78 (dk_at dksX1_addStroke_0 5 rfl rfl)
theorem dX1_addStroke_6 : decode cX1_addStroke 6 = .ok (.iload_n 2, 1) := dk_28 (dk_at dksX1_addStroke_0 6 rfl rfl)
theorem dX1_addStroke_7 : decode cX1_addStroke 7 = .ok (.iconst 1, 1) := dk_4 (dk_at dksX1_addStroke_0 7 rfl rfl)
theorem dX1_addStroke_8 : decode cX1_addStroke 8 = .ok (.bipush 9, 2) := dk_16 9 (dk_at dksX1_addStroke_0 8 rfl rfl)
theorem dX1_addStroke_10 : decode cX1_addStroke 10 = .ok (.invokestatic 65, 3) := dk_184 0 65 (dk_at dksX1_addStroke_0 10 rfl rfl)
theorem dX1_addStroke_13 : decode cX1_addStroke 13 = .ok (.invokestatic 102, 3) := dk_184 0 102 (dk_at dksX1_addStroke_0 13 rfl rfl)
theorem dX1_addStroke_16 : decode cX1_addStroke 16 = .ok (.aload_n 0, 1) := dk_42 (dk_at dksX1_addStroke_0 16 rfl rfl)
theorem dX1_addStroke_17 : decode cX1_addStroke 17 = .ok (.getfield 57, 3) := dk_180 0 57 (dk_at dksX1_addStroke_0 17 rfl rfl)
theorem dX1_addStroke_20 : decode cX1_addStroke 20 = .ok (.bipush 12, 2) := dk_16 12 (dk_at dksX1_addStroke_0 20 rfl rfl)
theorem dX1_addStroke_22 : decode cX1_addStroke 22 = .ok (.if_icmp .ge 7, 3) := dk_162 0 7 (dk_at dksX1_addStroke_1 0 rfl rfl)
theorem dX1_addStroke_25 : decode cX1_addStroke 25 = .ok (.iconst 1, 1) := dk_4 (dk_at dksX1_addStroke_1 3 rfl rfl)
theorem dX1_addStroke_26 : decode cX1_addStroke 26 = .ok (.goto 4, 3) := dk_167 0 4 (dk_at dksX1_addStroke_1 4 rfl rfl)
theorem dX1_addStroke_29 : decode cX1_addStroke 29 = .ok (.iconst 0, 1) := dk_3 (dk_at dksX1_addStroke_1 7 rfl rfl)
theorem dX1_addStroke_30 : decode cX1_addStroke 30 = .ok (.invokestatic 79, 3) := dk_184 0 79 (dk_at dksX1_addStroke_1 8 rfl rfl)
theorem dX1_addStroke_33 : decode cX1_addStroke 33 = .ok (.aload_n 0, 1) := dk_42 (dk_at dksX1_addStroke_1 11 rfl rfl)
theorem dX1_addStroke_34 : decode cX1_addStroke 34 = .ok (.new 114, 3) := dk_187 0 114 (dk_at dksX1_addStroke_1 12 rfl rfl)
theorem dX1_addStroke_37 : decode cX1_addStroke 37 = .ok (.dup, 1) := dk_89 (dk_at dksX1_addStroke_1 15 rfl rfl)
theorem dX1_addStroke_38 : decode cX1_addStroke 38 = .ok (.aload_n 0, 1) := dk_42 (dk_at dksX1_addStroke_1 16 rfl rfl)
theorem dX1_addStroke_39 : decode cX1_addStroke 39 = .ok (.getfield 57, 3) := dk_180 0 57 (dk_at dksX1_addStroke_1 17 rfl rfl)
theorem dX1_addStroke_42 : decode cX1_addStroke 42 = .ok (.aload_n 3, 1) := dk_45 (dk_at dksX1_addStroke_1 20 rfl rfl)
theorem dX1_addStroke_43 : decode cX1_addStroke 43 = .ok (.iload_n 2, 1) := dk_28 (dk_at dksX1_addStroke_1 21 rfl rfl)
theorem dX1_addStroke_44 : decode cX1_addStroke 44 = .ok (.invokespecial 116, 3) := dk_183 0 116 (dk_at dksX1_addStroke_2 0 rfl rfl)
theorem dX1_addStroke_47 : decode cX1_addStroke 47 = .ok (.invokevirtual 110, 3) := dk_182 0 110 (dk_at dksX1_addStroke_2 3 rfl rfl)
theorem dX1_addStroke_50 : decode cX1_addStroke 50 = .ok (.ireturn, 1) := dk_172 (dk_at dksX1_addStroke_2 6 rfl rfl)
abbrev cX1_addPoint : ByteArray := prog_1_method_13_code
def yX1_addPoint : MethodName := ⟨RX1, "addPoint", "(III)I"⟩
def dkwX1_addPoint_6 : List UInt8 := [42, 180, 0, 31, 185, 0, 54, 1, 0, 25, 4, 192, 0, 114, 28, 29, 182, 0, 132, 172]
abbrev dktX1_addPoint_6 : List UInt8 := dkwX1_addPoint_6 ++ []
def dkwX1_addPoint_5 : List UInt8 := [25, 6, 4, 46, 29, 160, 0, 7, 4, 167, 0, 4, 3, 159, 0, 7, 4, 167, 0, 4, 3, 184, 0, 79]
abbrev dktX1_addPoint_5 : List UInt8 := dkwX1_addPoint_5 ++ dktX1_addPoint_6
def dkwX1_addPoint_4 : List UInt8 := [100, 185, 0, 73, 2, 0, 192, 0, 130, 58, 6, 25, 6, 3, 46, 28, 160, 0, 7, 4, 167, 0, 4, 3]
abbrev dktX1_addPoint_4 : List UInt8 := dkwX1_addPoint_4 ++ dktX1_addPoint_5
def dkwX1_addPoint_3 : List UInt8 := [3, 184, 0, 79, 25, 5, 185, 0, 126, 1, 0, 154, 0, 61, 25, 5, 25, 5, 185, 0, 48, 1, 0, 4]
abbrev dktX1_addPoint_3 : List UInt8 := dkwX1_addPoint_3 ++ dktX1_addPoint_4
def dkwX1_addPoint_2 : List UInt8 := [192, 0, 114, 180, 0, 123, 58, 5, 25, 5, 185, 0, 48, 1, 0, 16, 6, 162, 0, 7, 4, 167, 0, 4]
abbrev dktX1_addPoint_2 : List UInt8 := dkwX1_addPoint_2 ++ dktX1_addPoint_3
def dkwX1_addPoint_1 : List UInt8 := [184, 0, 65, 153, 0, 7, 4, 167, 0, 4, 3, 184, 0, 102, 25, 4, 193, 0, 114, 184, 0, 79, 25, 4]
abbrev dktX1_addPoint_1 : List UInt8 := dkwX1_addPoint_1 ++ dktX1_addPoint_2
def dkwX1_addPoint_0 : List UInt8 := [42, 27, 182, 0, 119, 58, 4, 28, 16, 236, 16, 40, 184, 0, 65, 153, 0, 18, 29, 16, 236, 16, 40]
abbrev dktX1_addPoint_0 : List UInt8 := dkwX1_addPoint_0 ++ dktX1_addPoint_1
theorem dksX1_addPoint_0 : cX1_addPoint.data.toList.drop 0 = dktX1_addPoint_0 := by decide +kernel
theorem dksX1_addPoint_1 : cX1_addPoint.data.toList.drop 23 = dktX1_addPoint_1 := dk_seg dksX1_addPoint_0 23 rfl rfl
theorem dksX1_addPoint_2 : cX1_addPoint.data.toList.drop 47 = dktX1_addPoint_2 := dk_seg dksX1_addPoint_1 24 rfl rfl
theorem dksX1_addPoint_3 : cX1_addPoint.data.toList.drop 71 = dktX1_addPoint_3 := dk_seg dksX1_addPoint_2 24 rfl rfl
theorem dksX1_addPoint_4 : cX1_addPoint.data.toList.drop 95 = dktX1_addPoint_4 := dk_seg dksX1_addPoint_3 24 rfl rfl
theorem dksX1_addPoint_5 : cX1_addPoint.data.toList.drop 119 = dktX1_addPoint_5 := dk_seg dksX1_addPoint_4 24 rfl rfl
theorem dksX1_addPoint_6 : cX1_addPoint.data.toList.drop 143 = dktX1_addPoint_6 := dk_seg dksX1_addPoint_5 24 rfl rfl
theorem dX1_addPoint_0 : decode cX1_addPoint 0 = .ok (.aload_n 0, 1) := dk_42 (dk_at dksX1_addPoint_0 0 rfl rfl)
theorem dX1_addPoint_1 : decode cX1_addPoint 1 = .ok (.iload_n 1, 1) := dk_27 (dk_at dksX1_addPoint_0 1 rfl rfl)
theorem dX1_addPoint_2 : decode cX1_addPoint 2 = .ok (.invokevirtual 119, 3) := dk_182 0 119 (dk_at dksX1_addPoint_0 2 rfl rfl)
theorem dX1_addPoint_5 : decode cX1_addPoint 5 = .ok (.astore 4, 2) := dk_58 4 (dk_at dksX1_addPoint_0 5 rfl rfl)
theorem dX1_addPoint_7 : decode cX1_addPoint 7 = .ok (.iload_n 2, 1) := dk_28 (dk_at dksX1_addPoint_0 7 rfl rfl)
theorem dX1_addPoint_8 : decode cX1_addPoint 8 = .ok (.bipush (-20), 2) := dk_16 236 (dk_at dksX1_addPoint_0 8 rfl rfl)
theorem dX1_addPoint_10 : decode cX1_addPoint 10 = .ok (.bipush 40, 2) := dk_16 40 (dk_at dksX1_addPoint_0 10 rfl rfl)
theorem dX1_addPoint_12 : decode cX1_addPoint 12 = .ok (.invokestatic 65, 3) := dk_184 0 65 (dk_at dksX1_addPoint_0 12 rfl rfl)
theorem dX1_addPoint_15 : decode cX1_addPoint 15 = .ok (.ifCond .eq 18, 3) := dk_153 0 18 (dk_at dksX1_addPoint_0 15 rfl rfl)
theorem dX1_addPoint_18 : decode cX1_addPoint 18 = .ok (.iload_n 3, 1) := dk_29 (dk_at dksX1_addPoint_0 18 rfl rfl)
theorem dX1_addPoint_19 : decode cX1_addPoint 19 = .ok (.bipush (-20), 2) := dk_16 236 (dk_at dksX1_addPoint_0 19 rfl rfl)
theorem dX1_addPoint_21 : decode cX1_addPoint 21 = .ok (.bipush 40, 2) := dk_16 40 (dk_at dksX1_addPoint_0 21 rfl rfl)
theorem dX1_addPoint_23 : decode cX1_addPoint 23 = .ok (.invokestatic 65, 3) := dk_184 0 65 (dk_at dksX1_addPoint_1 0 rfl rfl)
theorem dX1_addPoint_26 : decode cX1_addPoint 26 = .ok (.ifCond .eq 7, 3) := dk_153 0 7 (dk_at dksX1_addPoint_1 3 rfl rfl)
theorem dX1_addPoint_29 : decode cX1_addPoint 29 = .ok (.iconst 1, 1) := dk_4 (dk_at dksX1_addPoint_1 6 rfl rfl)
theorem dX1_addPoint_30 : decode cX1_addPoint 30 = .ok (.goto 4, 3) := dk_167 0 4 (dk_at dksX1_addPoint_1 7 rfl rfl)
theorem dX1_addPoint_33 : decode cX1_addPoint 33 = .ok (.iconst 0, 1) := dk_3 (dk_at dksX1_addPoint_1 10 rfl rfl)
theorem dX1_addPoint_34 : decode cX1_addPoint 34 = .ok (.invokestatic 102, 3) := dk_184 0 102 (dk_at dksX1_addPoint_1 11 rfl rfl)
theorem dX1_addPoint_37 : decode cX1_addPoint 37 = .ok (.aload 4, 2) := dk_25 4 (dk_at dksX1_addPoint_1 14 rfl rfl)
theorem dX1_addPoint_39 : decode cX1_addPoint 39 = .ok (.instanceof 114, 3) := dk_193 0 114 (dk_at dksX1_addPoint_1 16 rfl rfl)
theorem dX1_addPoint_42 : decode cX1_addPoint 42 = .ok (.invokestatic 79, 3) := dk_184 0 79 (dk_at dksX1_addPoint_1 19 rfl rfl)
theorem dX1_addPoint_45 : decode cX1_addPoint 45 = .ok (.aload 4, 2) := dk_25 4 (dk_at dksX1_addPoint_1 22 rfl rfl)
theorem dX1_addPoint_47 : decode cX1_addPoint 47 = .ok (.checkcast 114, 3) := dk_192 0 114 (dk_at dksX1_addPoint_2 0 rfl rfl)
theorem dX1_addPoint_50 : decode cX1_addPoint 50 = .ok (.getfield 123, 3) := dk_180 0 123 (dk_at dksX1_addPoint_2 3 rfl rfl)
theorem dX1_addPoint_53 : decode cX1_addPoint 53 = .ok (.astore 5, 2) := dk_58 5 (dk_at dksX1_addPoint_2 6 rfl rfl)
theorem dX1_addPoint_55 : decode cX1_addPoint 55 = .ok (.aload 5, 2) := dk_25 5 (dk_at dksX1_addPoint_2 8 rfl rfl)
theorem dX1_addPoint_57 : decode cX1_addPoint 57 = .ok (.invokeinterface 48 1, 5) := by decide +kernel
theorem dX1_addPoint_62 : decode cX1_addPoint 62 = .ok (.bipush 6, 2) := dk_16 6 (dk_at dksX1_addPoint_2 15 rfl rfl)
theorem dX1_addPoint_64 : decode cX1_addPoint 64 = .ok (.if_icmp .ge 7, 3) := dk_162 0 7 (dk_at dksX1_addPoint_2 17 rfl rfl)
theorem dX1_addPoint_67 : decode cX1_addPoint 67 = .ok (.iconst 1, 1) := dk_4 (dk_at dksX1_addPoint_2 20 rfl rfl)
theorem dX1_addPoint_68 : decode cX1_addPoint 68 = .ok (.goto 4, 3) := dk_167 0 4 (dk_at dksX1_addPoint_2 21 rfl rfl)
theorem dX1_addPoint_71 : decode cX1_addPoint 71 = .ok (.iconst 0, 1) := dk_3 (dk_at dksX1_addPoint_3 0 rfl rfl)
theorem dX1_addPoint_72 : decode cX1_addPoint 72 = .ok (.invokestatic 79, 3) := dk_184 0 79 (dk_at dksX1_addPoint_3 1 rfl rfl)
theorem dX1_addPoint_75 : decode cX1_addPoint 75 = .ok (.aload 5, 2) := dk_25 5 (dk_at dksX1_addPoint_3 4 rfl rfl)
theorem dX1_addPoint_77 : decode cX1_addPoint 77 = .ok (.invokeinterface 126 1, 5) := by decide +kernel
theorem dX1_addPoint_82 : decode cX1_addPoint 82 = .ok (.ifCond .ne 61, 3) := dk_154 0 61 (dk_at dksX1_addPoint_3 11 rfl rfl)
theorem dX1_addPoint_85 : decode cX1_addPoint 85 = .ok (.aload 5, 2) := dk_25 5 (dk_at dksX1_addPoint_3 14 rfl rfl)
theorem dX1_addPoint_87 : decode cX1_addPoint 87 = .ok (.aload 5, 2) := dk_25 5 (dk_at dksX1_addPoint_3 16 rfl rfl)
theorem dX1_addPoint_89 : decode cX1_addPoint 89 = .ok (.invokeinterface 48 1, 5) := by decide +kernel
theorem dX1_addPoint_94 : decode cX1_addPoint 94 = .ok (.iconst 1, 1) := dk_4 (dk_at dksX1_addPoint_3 23 rfl rfl)
theorem dX1_addPoint_95 : decode cX1_addPoint 95 = .ok (.isub, 1) := dk_100 (dk_at dksX1_addPoint_4 0 rfl rfl)
theorem dX1_addPoint_96 : decode cX1_addPoint 96 = .ok (.invokeinterface 73 2, 5) := by decide +kernel
theorem dX1_addPoint_101 : decode cX1_addPoint 101 = .ok (.checkcast 130, 3) := dk_192 0 130 (dk_at dksX1_addPoint_4 6 rfl rfl)
theorem dX1_addPoint_104 : decode cX1_addPoint 104 = .ok (.astore 6, 2) := dk_58 6 (dk_at dksX1_addPoint_4 9 rfl rfl)
theorem dX1_addPoint_106 : decode cX1_addPoint 106 = .ok (.aload 6, 2) := dk_25 6 (dk_at dksX1_addPoint_4 11 rfl rfl)
theorem dX1_addPoint_108 : decode cX1_addPoint 108 = .ok (.iconst 0, 1) := dk_3 (dk_at dksX1_addPoint_4 13 rfl rfl)
theorem dX1_addPoint_109 : decode cX1_addPoint 109 = .ok (.iaload, 1) := dk_46 (dk_at dksX1_addPoint_4 14 rfl rfl)
theorem dX1_addPoint_110 : decode cX1_addPoint 110 = .ok (.iload_n 2, 1) := dk_28 (dk_at dksX1_addPoint_4 15 rfl rfl)
theorem dX1_addPoint_111 : decode cX1_addPoint 111 = .ok (.if_icmp .ne 7, 3) := dk_160 0 7 (dk_at dksX1_addPoint_4 16 rfl rfl)
theorem dX1_addPoint_114 : decode cX1_addPoint 114 = .ok (.iconst 1, 1) := dk_4 (dk_at dksX1_addPoint_4 19 rfl rfl)
theorem dX1_addPoint_115 : decode cX1_addPoint 115 = .ok (.goto 4, 3) := dk_167 0 4 (dk_at dksX1_addPoint_4 20 rfl rfl)
theorem dX1_addPoint_118 : decode cX1_addPoint 118 = .ok (.iconst 0, 1) := dk_3 (dk_at dksX1_addPoint_4 23 rfl rfl)
theorem dX1_addPoint_119 : decode cX1_addPoint 119 = .ok (.aload 6, 2) := dk_25 6 (dk_at dksX1_addPoint_5 0 rfl rfl)
theorem dX1_addPoint_121 : decode cX1_addPoint 121 = .ok (.iconst 1, 1) := dk_4 (dk_at dksX1_addPoint_5 2 rfl rfl)
theorem dX1_addPoint_122 : decode cX1_addPoint 122 = .ok (.iaload, 1) := dk_46 (dk_at dksX1_addPoint_5 3 rfl rfl)
theorem dX1_addPoint_123 : decode cX1_addPoint 123 = .ok (.iload_n 3, 1) := dk_29 (dk_at dksX1_addPoint_5 4 rfl rfl)
theorem dX1_addPoint_124 : decode cX1_addPoint 124 = .ok (.if_icmp .ne 7, 3) := dk_160 0 7 (dk_at dksX1_addPoint_5 5 rfl rfl)
theorem dX1_addPoint_127 : decode cX1_addPoint 127 = .ok (.iconst 1, 1) := dk_4 (dk_at dksX1_addPoint_5 8 rfl rfl)
theorem dX1_addPoint_128 : decode cX1_addPoint 128 = .ok (.goto 4, 3) := dk_167 0 4 (dk_at dksX1_addPoint_5 9 rfl rfl)
theorem dX1_addPoint_131 : decode cX1_addPoint 131 = .ok (.iconst 0, 1) := dk_3 (dk_at dksX1_addPoint_5 12 rfl rfl)
theorem dX1_addPoint_132 : decode cX1_addPoint 132 = .ok (.if_icmp .eq 7, 3) := dk_159 0 7 (dk_at dksX1_addPoint_5 13 rfl rfl)
theorem dX1_addPoint_135 : decode cX1_addPoint 135 = .ok (.iconst 1, 1) := dk_4 (dk_at dksX1_addPoint_5 16 rfl rfl)
theorem dX1_addPoint_136 : decode cX1_addPoint 136 = .ok (.goto 4, 3) := dk_167 0 4 (dk_at dksX1_addPoint_5 17 rfl rfl)
theorem dX1_addPoint_139 : decode cX1_addPoint 139 = .ok (.iconst 0, 1) := dk_3 (dk_at dksX1_addPoint_5 20 rfl rfl)
theorem dX1_addPoint_140 : decode cX1_addPoint 140 = .ok (.invokestatic 79, 3) := dk_184 0 79 (dk_at dksX1_addPoint_5 21 rfl rfl)
theorem dX1_addPoint_143 : decode cX1_addPoint 143 = .ok (.aload_n 0, 1) := dk_42 (dk_at dksX1_addPoint_6 0 rfl rfl)
theorem dX1_addPoint_144 : decode cX1_addPoint 144 = .ok (.getfield 31, 3) := dk_180 0 31 (dk_at dksX1_addPoint_6 1 rfl rfl)
theorem dX1_addPoint_147 : decode cX1_addPoint 147 = .ok (.invokeinterface 54 1, 5) := by decide +kernel
theorem dX1_addPoint_152 : decode cX1_addPoint 152 = .ok (.aload 4, 2) := dk_25 4 (dk_at dksX1_addPoint_6 9 rfl rfl)
theorem dX1_addPoint_154 : decode cX1_addPoint 154 = .ok (.checkcast 114, 3) := dk_192 0 114 (dk_at dksX1_addPoint_6 11 rfl rfl)
theorem dX1_addPoint_157 : decode cX1_addPoint 157 = .ok (.iload_n 2, 1) := dk_28 (dk_at dksX1_addPoint_6 14 rfl rfl)
theorem dX1_addPoint_158 : decode cX1_addPoint 158 = .ok (.iload_n 3, 1) := dk_29 (dk_at dksX1_addPoint_6 15 rfl rfl)
theorem dX1_addPoint_159 : decode cX1_addPoint 159 = .ok (.invokevirtual 132, 3) := dk_182 0 132 (dk_at dksX1_addPoint_6 16 rfl rfl)
theorem dX1_addPoint_162 : decode cX1_addPoint 162 = .ok (.ireturn, 1) := dk_172 (dk_at dksX1_addPoint_6 19 rfl rfl)
abbrev cX1_layer : ByteArray := prog_1_method_8_code
def yX1_layer : MethodName := ⟨RX1, "layer", "(I)LShapelayer$Layer;"⟩
def dkwX1_layer_1 : List UInt8 := [167, 0, 4, 3, 184, 0, 69, 42, 180, 0, 27, 27, 50, 176]
abbrev dktX1_layer_1 : List UInt8 := dkwX1_layer_1 ++ []
def dkwX1_layer_0 : List UInt8 := [27, 3, 42, 180, 0, 57, 4, 100, 184, 0, 65, 153, 0, 16, 42, 180, 0, 27, 27, 50, 198, 0, 7, 4]
abbrev dktX1_layer_0 : List UInt8 := dkwX1_layer_0 ++ dktX1_layer_1
theorem dksX1_layer_0 : cX1_layer.data.toList.drop 0 = dktX1_layer_0 := by decide +kernel
theorem dksX1_layer_1 : cX1_layer.data.toList.drop 24 = dktX1_layer_1 := dk_seg dksX1_layer_0 24 rfl rfl
theorem dX1_layer_0 : decode cX1_layer 0 = .ok (.iload_n 1, 1) := dk_27 (dk_at dksX1_layer_0 0 rfl rfl)
theorem dX1_layer_1 : decode cX1_layer 1 = .ok (.iconst 0, 1) := dk_3 (dk_at dksX1_layer_0 1 rfl rfl)
theorem dX1_layer_2 : decode cX1_layer 2 = .ok (.aload_n 0, 1) := dk_42 (dk_at dksX1_layer_0 2 rfl rfl)
theorem dX1_layer_3 : decode cX1_layer 3 = .ok (.getfield 57, 3) := dk_180 0 57 (dk_at dksX1_layer_0 3 rfl rfl)
theorem dX1_layer_6 : decode cX1_layer 6 = .ok (.iconst 1, 1) := dk_4 (dk_at dksX1_layer_0 6 rfl rfl)
theorem dX1_layer_7 : decode cX1_layer 7 = .ok (.isub, 1) := dk_100 (dk_at dksX1_layer_0 7 rfl rfl)
theorem dX1_layer_8 : decode cX1_layer 8 = .ok (.invokestatic 65, 3) := dk_184 0 65 (dk_at dksX1_layer_0 8 rfl rfl)
theorem dX1_layer_11 : decode cX1_layer 11 = .ok (.ifCond .eq 16, 3) := dk_153 0 16 (dk_at dksX1_layer_0 11 rfl rfl)
theorem dX1_layer_14 : decode cX1_layer 14 = .ok (.aload_n 0, 1) := dk_42 (dk_at dksX1_layer_0 14 rfl rfl)
theorem dX1_layer_15 : decode cX1_layer 15 = .ok (.getfield 27, 3) := dk_180 0 27 (dk_at dksX1_layer_0 15 rfl rfl)
theorem dX1_layer_18 : decode cX1_layer 18 = .ok (.iload_n 1, 1) := dk_27 (dk_at dksX1_layer_0 18 rfl rfl)
theorem dX1_layer_19 : decode cX1_layer 19 = .ok (.aaload, 1) := dk_50 (dk_at dksX1_layer_0 19 rfl rfl)
theorem dX1_layer_20 : decode cX1_layer 20 = .ok (.ifnull 7, 3) := dk_198 0 7 (dk_at dksX1_layer_0 20 rfl rfl)
theorem dX1_layer_23 : decode cX1_layer 23 = .ok (.iconst 1, 1) := dk_4 (dk_at dksX1_layer_0 23 rfl rfl)
theorem dX1_layer_24 : decode cX1_layer 24 = .ok (.goto 4, 3) := dk_167 0 4 (dk_at dksX1_layer_1 0 rfl rfl)
theorem dX1_layer_27 : decode cX1_layer 27 = .ok (.iconst 0, 1) := dk_3 (dk_at dksX1_layer_1 3 rfl rfl)
theorem dX1_layer_28 : decode cX1_layer 28 = .ok (.invokestatic 69, 3) := dk_184 0 69 (dk_at dksX1_layer_1 4 rfl rfl)
theorem dX1_layer_31 : decode cX1_layer 31 = .ok (.aload_n 0, 1) := dk_42 (dk_at dksX1_layer_1 7 rfl rfl)
theorem dX1_layer_32 : decode cX1_layer 32 = .ok (.getfield 27, 3) := dk_180 0 27 (dk_at dksX1_layer_1 8 rfl rfl)
theorem dX1_layer_35 : decode cX1_layer 35 = .ok (.iload_n 1, 1) := dk_27 (dk_at dksX1_layer_1 11 rfl rfl)
theorem dX1_layer_36 : decode cX1_layer 36 = .ok (.aaload, 1) := dk_50 (dk_at dksX1_layer_1 12 rfl rfl)
theorem dX1_layer_37 : decode cX1_layer 37 = .ok (.areturn, 1) := dk_176 (dk_at dksX1_layer_1 13 rfl rfl)
abbrev cX1_addNested : ByteArray := prog_1_method_14_code
def yX1_addNested : MethodName := ⟨RX1, "addNested", "(II)I"⟩
def dkwX1_addNested_2 : List UInt8 := [45, 25, 4, 183, 0, 141, 182, 0, 110, 172]
abbrev dktX1_addNested_2 : List UInt8 := dkwX1_addNested_2 ++ []
def dkwX1_addNested_1 : List UInt8 := [45, 182, 0, 135, 154, 0, 7, 4, 167, 0, 4, 3, 184, 0, 79, 42, 187, 0, 139, 89, 42, 180, 0, 57]
abbrev dktX1_addNested_1 : List UInt8 := dkwX1_addNested_1 ++ dktX1_addNested_2
def dkwX1_addNested_0 : List UInt8 := [42, 27, 182, 0, 98, 78, 42, 28, 182, 0, 98, 58, 4, 42, 180, 0, 57, 16, 12, 162, 0, 16, 25, 4]
abbrev dktX1_addNested_0 : List UInt8 := dkwX1_addNested_0 ++ dktX1_addNested_1
theorem dksX1_addNested_0 : cX1_addNested.data.toList.drop 0 = dktX1_addNested_0 := by decide +kernel
theorem dksX1_addNested_1 : cX1_addNested.data.toList.drop 24 = dktX1_addNested_1 := dk_seg dksX1_addNested_0 24 rfl rfl
theorem dksX1_addNested_2 : cX1_addNested.data.toList.drop 48 = dktX1_addNested_2 := dk_seg dksX1_addNested_1 24 rfl rfl
theorem dX1_addNested_0 : decode cX1_addNested 0 = .ok (.aload_n 0, 1) := dk_42 (dk_at dksX1_addNested_0 0 rfl rfl)
theorem dX1_addNested_1 : decode cX1_addNested 1 = .ok (.iload_n 1, 1) := dk_27 (dk_at dksX1_addNested_0 1 rfl rfl)
theorem dX1_addNested_2 : decode cX1_addNested 2 = .ok (.invokevirtual 98, 3) := dk_182 0 98 (dk_at dksX1_addNested_0 2 rfl rfl)
theorem dX1_addNested_5 : decode cX1_addNested 5 = .ok (.astore_n 3, 1) := dk_78 (dk_at dksX1_addNested_0 5 rfl rfl)
theorem dX1_addNested_6 : decode cX1_addNested 6 = .ok (.aload_n 0, 1) := dk_42 (dk_at dksX1_addNested_0 6 rfl rfl)
theorem dX1_addNested_7 : decode cX1_addNested 7 = .ok (.iload_n 2, 1) := dk_28 (dk_at dksX1_addNested_0 7 rfl rfl)
theorem dX1_addNested_8 : decode cX1_addNested 8 = .ok (.invokevirtual 98, 3) := dk_182 0 98 (dk_at dksX1_addNested_0 8 rfl rfl)
theorem dX1_addNested_11 : decode cX1_addNested 11 = .ok (.astore 4, 2) := dk_58 4 (dk_at dksX1_addNested_0 11 rfl rfl)
theorem dX1_addNested_13 : decode cX1_addNested 13 = .ok (.aload_n 0, 1) := dk_42 (dk_at dksX1_addNested_0 13 rfl rfl)
theorem dX1_addNested_14 : decode cX1_addNested 14 = .ok (.getfield 57, 3) := dk_180 0 57 (dk_at dksX1_addNested_0 14 rfl rfl)
theorem dX1_addNested_17 : decode cX1_addNested 17 = .ok (.bipush 12, 2) := dk_16 12 (dk_at dksX1_addNested_0 17 rfl rfl)
theorem dX1_addNested_19 : decode cX1_addNested 19 = .ok (.if_icmp .ge 16, 3) := dk_162 0 16 (dk_at dksX1_addNested_0 19 rfl rfl)
theorem dX1_addNested_22 : decode cX1_addNested 22 = .ok (.aload 4, 2) := dk_25 4 (dk_at dksX1_addNested_0 22 rfl rfl)
theorem dX1_addNested_24 : decode cX1_addNested 24 = .ok (.aload_n 3, 1) := dk_45 (dk_at dksX1_addNested_1 0 rfl rfl)
theorem dX1_addNested_25 : decode cX1_addNested 25 = .ok (.invokevirtual 135, 3) := dk_182 0 135 (dk_at dksX1_addNested_1 1 rfl rfl)
theorem dX1_addNested_28 : decode cX1_addNested 28 = .ok (.ifCond .ne 7, 3) := dk_154 0 7 (dk_at dksX1_addNested_1 4 rfl rfl)
theorem dX1_addNested_31 : decode cX1_addNested 31 = .ok (.iconst 1, 1) := dk_4 (dk_at dksX1_addNested_1 7 rfl rfl)
theorem dX1_addNested_32 : decode cX1_addNested 32 = .ok (.goto 4, 3) := dk_167 0 4 (dk_at dksX1_addNested_1 8 rfl rfl)
theorem dX1_addNested_35 : decode cX1_addNested 35 = .ok (.iconst 0, 1) := dk_3 (dk_at dksX1_addNested_1 11 rfl rfl)
theorem dX1_addNested_36 : decode cX1_addNested 36 = .ok (.invokestatic 79, 3) := dk_184 0 79 (dk_at dksX1_addNested_1 12 rfl rfl)
theorem dX1_addNested_39 : decode cX1_addNested 39 = .ok (.aload_n 0, 1) := dk_42 (dk_at dksX1_addNested_1 15 rfl rfl)
theorem dX1_addNested_40 : decode cX1_addNested 40 = .ok (.new 139, 3) := dk_187 0 139 (dk_at dksX1_addNested_1 16 rfl rfl)
theorem dX1_addNested_43 : decode cX1_addNested 43 = .ok (.dup, 1) := dk_89 (dk_at dksX1_addNested_1 19 rfl rfl)
theorem dX1_addNested_44 : decode cX1_addNested 44 = .ok (.aload_n 0, 1) := dk_42 (dk_at dksX1_addNested_1 20 rfl rfl)
theorem dX1_addNested_45 : decode cX1_addNested 45 = .ok (.getfield 57, 3) := dk_180 0 57 (dk_at dksX1_addNested_1 21 rfl rfl)
theorem dX1_addNested_48 : decode cX1_addNested 48 = .ok (.aload_n 3, 1) := dk_45 (dk_at dksX1_addNested_2 0 rfl rfl)
theorem dX1_addNested_49 : decode cX1_addNested 49 = .ok (.aload 4, 2) := dk_25 4 (dk_at dksX1_addNested_2 1 rfl rfl)
theorem dX1_addNested_51 : decode cX1_addNested 51 = .ok (.invokespecial 141, 3) := dk_183 0 141 (dk_at dksX1_addNested_2 3 rfl rfl)
theorem dX1_addNested_54 : decode cX1_addNested 54 = .ok (.invokevirtual 110, 3) := dk_182 0 110 (dk_at dksX1_addNested_2 6 rfl rfl)
theorem dX1_addNested_57 : decode cX1_addNested 57 = .ok (.ireturn, 1) := dk_172 (dk_at dksX1_addNested_2 9 rfl rfl)
abbrev cX1_addNull : ByteArray := prog_1_method_15_code
def yX1_addNull : MethodName := ⟨RX1, "addNull", "(I)I"⟩
def dkwX1_addNull_1 : List UInt8 := [187, 0, 144, 89, 42, 180, 0, 57, 44, 183, 0, 146, 182, 0, 110, 172]
abbrev dktX1_addNull_1 : List UInt8 := dkwX1_addNull_1 ++ []
def dkwX1_addNull_0 : List UInt8 := [42, 27, 182, 0, 98, 77, 42, 180, 0, 57, 16, 12, 162, 0, 7, 4, 167, 0, 4, 3, 184, 0, 79, 42]
abbrev dktX1_addNull_0 : List UInt8 := dkwX1_addNull_0 ++ dktX1_addNull_1
theorem dksX1_addNull_0 : cX1_addNull.data.toList.drop 0 = dktX1_addNull_0 := by decide +kernel
theorem dksX1_addNull_1 : cX1_addNull.data.toList.drop 24 = dktX1_addNull_1 := dk_seg dksX1_addNull_0 24 rfl rfl
theorem dX1_addNull_0 : decode cX1_addNull 0 = .ok (.aload_n 0, 1) := dk_42 (dk_at dksX1_addNull_0 0 rfl rfl)
theorem dX1_addNull_1 : decode cX1_addNull 1 = .ok (.iload_n 1, 1) := dk_27 (dk_at dksX1_addNull_0 1 rfl rfl)
theorem dX1_addNull_2 : decode cX1_addNull 2 = .ok (.invokevirtual 98, 3) := dk_182 0 98 (dk_at dksX1_addNull_0 2 rfl rfl)
theorem dX1_addNull_5 : decode cX1_addNull 5 = .ok (.astore_n 2, 1) := dk_77 (dk_at dksX1_addNull_0 5 rfl rfl)
theorem dX1_addNull_6 : decode cX1_addNull 6 = .ok (.aload_n 0, 1) := dk_42 (dk_at dksX1_addNull_0 6 rfl rfl)
theorem dX1_addNull_7 : decode cX1_addNull 7 = .ok (.getfield 57, 3) := dk_180 0 57 (dk_at dksX1_addNull_0 7 rfl rfl)
theorem dX1_addNull_10 : decode cX1_addNull 10 = .ok (.bipush 12, 2) := dk_16 12 (dk_at dksX1_addNull_0 10 rfl rfl)
theorem dX1_addNull_12 : decode cX1_addNull 12 = .ok (.if_icmp .ge 7, 3) := dk_162 0 7 (dk_at dksX1_addNull_0 12 rfl rfl)
theorem dX1_addNull_15 : decode cX1_addNull 15 = .ok (.iconst 1, 1) := dk_4 (dk_at dksX1_addNull_0 15 rfl rfl)
theorem dX1_addNull_16 : decode cX1_addNull 16 = .ok (.goto 4, 3) := dk_167 0 4 (dk_at dksX1_addNull_0 16 rfl rfl)
theorem dX1_addNull_19 : decode cX1_addNull 19 = .ok (.iconst 0, 1) := dk_3 (dk_at dksX1_addNull_0 19 rfl rfl)
theorem dX1_addNull_20 : decode cX1_addNull 20 = .ok (.invokestatic 79, 3) := dk_184 0 79 (dk_at dksX1_addNull_0 20 rfl rfl)
theorem dX1_addNull_23 : decode cX1_addNull 23 = .ok (.aload_n 0, 1) := dk_42 (dk_at dksX1_addNull_0 23 rfl rfl)
theorem dX1_addNull_24 : decode cX1_addNull 24 = .ok (.new 144, 3) := dk_187 0 144 (dk_at dksX1_addNull_1 0 rfl rfl)
theorem dX1_addNull_27 : decode cX1_addNull 27 = .ok (.dup, 1) := dk_89 (dk_at dksX1_addNull_1 3 rfl rfl)
theorem dX1_addNull_28 : decode cX1_addNull 28 = .ok (.aload_n 0, 1) := dk_42 (dk_at dksX1_addNull_1 4 rfl rfl)
theorem dX1_addNull_29 : decode cX1_addNull 29 = .ok (.getfield 57, 3) := dk_180 0 57 (dk_at dksX1_addNull_1 5 rfl rfl)
theorem dX1_addNull_32 : decode cX1_addNull 32 = .ok (.aload_n 2, 1) := dk_44 (dk_at dksX1_addNull_1 8 rfl rfl)
theorem dX1_addNull_33 : decode cX1_addNull 33 = .ok (.invokespecial 146, 3) := dk_183 0 146 (dk_at dksX1_addNull_1 9 rfl rfl)
theorem dX1_addNull_36 : decode cX1_addNull 36 = .ok (.invokevirtual 110, 3) := dk_182 0 110 (dk_at dksX1_addNull_1 12 rfl rfl)
theorem dX1_addNull_39 : decode cX1_addNull 39 = .ok (.ireturn, 1) := dk_172 (dk_at dksX1_addNull_1 15 rfl rfl)
abbrev cX1_remove : ByteArray := prog_1_method_16_code
def yX1_remove : MethodName := ⟨RX1, "remove", "(I)I"⟩
def dkwX1_remove_4 : List UInt8 := [42, 180, 0, 31, 185, 0, 54, 1, 0, 44, 180, 0, 88, 180, 0, 92, 185, 0, 48, 1, 0, 172]
abbrev dktX1_remove_4 : List UInt8 := dkwX1_remove_4 ++ []
def dkwX1_remove_3 : List UInt8 := [25, 5, 1, 181, 0, 165, 25, 5, 180, 0, 169, 44, 166, 0, 9, 25, 5, 1, 181, 0, 169, 167, 255, 204]
abbrev dktX1_remove_3 : List UInt8 := dkwX1_remove_3 ++ dktX1_remove_4
def dkwX1_remove_2 : List UInt8 := [153, 0, 48, 25, 4, 185, 0, 161, 1, 0, 192, 0, 25, 58, 5, 25, 5, 180, 0, 165, 44, 166, 0, 9]
abbrev dktX1_remove_2 : List UInt8 := dkwX1_remove_2 ++ dktX1_remove_3
def dkwX1_remove_1 : List UInt8 := [185, 0, 149, 2, 0, 62, 44, 180, 0, 88, 182, 0, 152, 58, 4, 25, 4, 185, 0, 156, 1, 0]
abbrev dktX1_remove_1 : List UInt8 := dkwX1_remove_1 ++ dktX1_remove_2
def dkwX1_remove_0 : List UInt8 := [42, 27, 182, 0, 119, 77, 42, 180, 0, 27, 27, 1, 83, 44, 180, 0, 88, 180, 0, 92, 44]
abbrev dktX1_remove_0 : List UInt8 := dkwX1_remove_0 ++ dktX1_remove_1
theorem dksX1_remove_0 : cX1_remove.data.toList.drop 0 = dktX1_remove_0 := by decide +kernel
theorem dksX1_remove_1 : cX1_remove.data.toList.drop 21 = dktX1_remove_1 := dk_seg dksX1_remove_0 21 rfl rfl
theorem dksX1_remove_2 : cX1_remove.data.toList.drop 43 = dktX1_remove_2 := dk_seg dksX1_remove_1 22 rfl rfl
theorem dksX1_remove_3 : cX1_remove.data.toList.drop 67 = dktX1_remove_3 := dk_seg dksX1_remove_2 24 rfl rfl
theorem dksX1_remove_4 : cX1_remove.data.toList.drop 91 = dktX1_remove_4 := dk_seg dksX1_remove_3 24 rfl rfl
theorem dX1_remove_0 : decode cX1_remove 0 = .ok (.aload_n 0, 1) := dk_42 (dk_at dksX1_remove_0 0 rfl rfl)
theorem dX1_remove_1 : decode cX1_remove 1 = .ok (.iload_n 1, 1) := dk_27 (dk_at dksX1_remove_0 1 rfl rfl)
theorem dX1_remove_2 : decode cX1_remove 2 = .ok (.invokevirtual 119, 3) := dk_182 0 119 (dk_at dksX1_remove_0 2 rfl rfl)
theorem dX1_remove_5 : decode cX1_remove 5 = .ok (.astore_n 2, 1) := dk_77 (dk_at dksX1_remove_0 5 rfl rfl)
theorem dX1_remove_6 : decode cX1_remove 6 = .ok (.aload_n 0, 1) := dk_42 (dk_at dksX1_remove_0 6 rfl rfl)
theorem dX1_remove_7 : decode cX1_remove 7 = .ok (.getfield 27, 3) := dk_180 0 27 (dk_at dksX1_remove_0 7 rfl rfl)
theorem dX1_remove_10 : decode cX1_remove 10 = .ok (.iload_n 1, 1) := dk_27 (dk_at dksX1_remove_0 10 rfl rfl)
theorem dX1_remove_11 : decode cX1_remove 11 = .ok (.aconst_null, 1) := dk_1 (dk_at dksX1_remove_0 11 rfl rfl)
theorem dX1_remove_12 : decode cX1_remove 12 = .ok (.aastore, 1) := dk_83 (dk_at dksX1_remove_0 12 rfl rfl)
theorem dX1_remove_13 : decode cX1_remove 13 = .ok (.aload_n 2, 1) := dk_44 (dk_at dksX1_remove_0 13 rfl rfl)
theorem dX1_remove_14 : decode cX1_remove 14 = .ok (.getfield 88, 3) := dk_180 0 88 (dk_at dksX1_remove_0 14 rfl rfl)
theorem dX1_remove_17 : decode cX1_remove 17 = .ok (.getfield 92, 3) := dk_180 0 92 (dk_at dksX1_remove_0 17 rfl rfl)
theorem dX1_remove_20 : decode cX1_remove 20 = .ok (.aload_n 2, 1) := dk_44 (dk_at dksX1_remove_0 20 rfl rfl)
theorem dX1_remove_21 : decode cX1_remove 21 = .ok (.invokeinterface 149 2, 5) := by decide +kernel
theorem dX1_remove_26 : decode cX1_remove 26 = .ok (.istore_n 3, 1) := dk_62 (dk_at dksX1_remove_1 5 rfl rfl)
theorem dX1_remove_27 : decode cX1_remove 27 = .ok (.aload_n 2, 1) := dk_44 (dk_at dksX1_remove_1 6 rfl rfl)
theorem dX1_remove_28 : decode cX1_remove 28 = .ok (.getfield 88, 3) := dk_180 0 88 (dk_at dksX1_remove_1 7 rfl rfl)
theorem dX1_remove_31 : decode cX1_remove 31 = .ok (.invokevirtual 152, 3) := dk_182 0 152 (dk_at dksX1_remove_1 10 rfl rfl)
theorem dX1_remove_34 : decode cX1_remove 34 = .ok (.astore 4, 2) := dk_58 4 (dk_at dksX1_remove_1 13 rfl rfl)
theorem dX1_remove_36 : decode cX1_remove 36 = .ok (.aload 4, 2) := dk_25 4 (dk_at dksX1_remove_1 15 rfl rfl)
theorem dX1_remove_38 : decode cX1_remove 38 = .ok (.invokeinterface 156 1, 5) := by decide +kernel
theorem dX1_remove_43 : decode cX1_remove 43 = .ok (.ifCond .eq 48, 3) := dk_153 0 48 (dk_at dksX1_remove_2 0 rfl rfl)
theorem dX1_remove_46 : decode cX1_remove 46 = .ok (.aload 4, 2) := dk_25 4 (dk_at dksX1_remove_2 3 rfl rfl)
theorem dX1_remove_48 : decode cX1_remove 48 = .ok (.invokeinterface 161 1, 5) := by decide +kernel
theorem dX1_remove_53 : decode cX1_remove 53 = .ok (.checkcast 25, 3) := dk_192 0 25 (dk_at dksX1_remove_2 10 rfl rfl)
theorem dX1_remove_56 : decode cX1_remove 56 = .ok (.astore 5, 2) := dk_58 5 (dk_at dksX1_remove_2 13 rfl rfl)
theorem dX1_remove_58 : decode cX1_remove 58 = .ok (.aload 5, 2) := dk_25 5 (dk_at dksX1_remove_2 15 rfl rfl)
theorem dX1_remove_60 : decode cX1_remove 60 = .ok (.getfield 165, 3) := dk_180 0 165 (dk_at dksX1_remove_2 17 rfl rfl)
theorem dX1_remove_63 : decode cX1_remove 63 = .ok (.aload_n 2, 1) := dk_44 (dk_at dksX1_remove_2 20 rfl rfl)
theorem dX1_remove_64 : decode cX1_remove 64 = .ok (.if_acmp .ne 9, 3) := dk_166 0 9 (dk_at dksX1_remove_2 21 rfl rfl)
theorem dX1_remove_67 : decode cX1_remove 67 = .ok (.aload 5, 2) := dk_25 5 (dk_at dksX1_remove_3 0 rfl rfl)
theorem dX1_remove_69 : decode cX1_remove 69 = .ok (.aconst_null, 1) := dk_1 (dk_at dksX1_remove_3 2 rfl rfl)
theorem dX1_remove_70 : decode cX1_remove 70 = .ok (.putfield 165, 3) := dk_181 0 165 (dk_at dksX1_remove_3 3 rfl rfl)
theorem dX1_remove_73 : decode cX1_remove 73 = .ok (.aload 5, 2) := dk_25 5 (dk_at dksX1_remove_3 6 rfl rfl)
theorem dX1_remove_75 : decode cX1_remove 75 = .ok (.getfield 169, 3) := dk_180 0 169 (dk_at dksX1_remove_3 8 rfl rfl)
theorem dX1_remove_78 : decode cX1_remove 78 = .ok (.aload_n 2, 1) := dk_44 (dk_at dksX1_remove_3 11 rfl rfl)
theorem dX1_remove_79 : decode cX1_remove 79 = .ok (.if_acmp .ne 9, 3) := dk_166 0 9 (dk_at dksX1_remove_3 12 rfl rfl)
theorem dX1_remove_82 : decode cX1_remove 82 = .ok (.aload 5, 2) := dk_25 5 (dk_at dksX1_remove_3 15 rfl rfl)
theorem dX1_remove_84 : decode cX1_remove 84 = .ok (.aconst_null, 1) := dk_1 (dk_at dksX1_remove_3 17 rfl rfl)
theorem dX1_remove_85 : decode cX1_remove 85 = .ok (.putfield 169, 3) := dk_181 0 169 (dk_at dksX1_remove_3 18 rfl rfl)
theorem dX1_remove_88 : decode cX1_remove 88 = .ok (.goto (-52), 3) := dk_167 255 204 (dk_at dksX1_remove_3 21 rfl rfl)
theorem dX1_remove_91 : decode cX1_remove 91 = .ok (.aload_n 0, 1) := dk_42 (dk_at dksX1_remove_4 0 rfl rfl)
theorem dX1_remove_92 : decode cX1_remove 92 = .ok (.getfield 31, 3) := dk_180 0 31 (dk_at dksX1_remove_4 1 rfl rfl)
theorem dX1_remove_95 : decode cX1_remove 95 = .ok (.invokeinterface 54 1, 5) := by decide +kernel
theorem dX1_remove_100 : decode cX1_remove 100 = .ok (.aload_n 2, 1) := dk_44 (dk_at dksX1_remove_4 9 rfl rfl)
theorem dX1_remove_101 : decode cX1_remove 101 = .ok (.getfield 88, 3) := dk_180 0 88 (dk_at dksX1_remove_4 10 rfl rfl)
theorem dX1_remove_104 : decode cX1_remove 104 = .ok (.getfield 92, 3) := dk_180 0 92 (dk_at dksX1_remove_4 13 rfl rfl)
theorem dX1_remove_107 : decode cX1_remove 107 = .ok (.invokeinterface 48 1, 5) := by decide +kernel
theorem dX1_remove_112 : decode cX1_remove 112 = .ok (.ireturn, 1) := dk_172 (dk_at dksX1_remove_4 21 rfl rfl)
abbrev cX1_order : ByteArray := prog_1_method_17_code
def yX1_order : MethodName := ⟨RX1, "order", "(II)I"⟩
def dkwX1_order_3 : List UInt8 := [185, 0, 54, 1, 0, 21, 5, 172]
abbrev dktX1_order_3 : List UInt8 := dkwX1_order_3 ++ []
def dkwX1_order_2 : List UInt8 := [185, 0, 176, 2, 0, 192, 0, 25, 58, 6, 25, 4, 28, 25, 6, 185, 0, 178, 3, 0, 42, 180, 0, 31]
abbrev dktX1_order_2 : List UInt8 := dkwX1_order_2 ++ dktX1_order_3
def dkwX1_order_1 : List UInt8 := [4, 100, 184, 0, 65, 184, 0, 102, 25, 4, 45, 185, 0, 172, 2, 0, 54, 5, 25, 4, 21, 5]
abbrev dktX1_order_1 : List UInt8 := dkwX1_order_1 ++ dktX1_order_2
def dkwX1_order_0 : List UInt8 := [42, 27, 182, 0, 119, 78, 45, 180, 0, 88, 180, 0, 92, 58, 4, 28, 3, 25, 4, 185, 0, 48, 1, 0]
abbrev dktX1_order_0 : List UInt8 := dkwX1_order_0 ++ dktX1_order_1
theorem dksX1_order_0 : cX1_order.data.toList.drop 0 = dktX1_order_0 := by decide +kernel
theorem dksX1_order_1 : cX1_order.data.toList.drop 24 = dktX1_order_1 := dk_seg dksX1_order_0 24 rfl rfl
theorem dksX1_order_2 : cX1_order.data.toList.drop 46 = dktX1_order_2 := dk_seg dksX1_order_1 22 rfl rfl
theorem dksX1_order_3 : cX1_order.data.toList.drop 70 = dktX1_order_3 := dk_seg dksX1_order_2 24 rfl rfl
theorem dX1_order_0 : decode cX1_order 0 = .ok (.aload_n 0, 1) := dk_42 (dk_at dksX1_order_0 0 rfl rfl)
theorem dX1_order_1 : decode cX1_order 1 = .ok (.iload_n 1, 1) := dk_27 (dk_at dksX1_order_0 1 rfl rfl)
theorem dX1_order_2 : decode cX1_order 2 = .ok (.invokevirtual 119, 3) := dk_182 0 119 (dk_at dksX1_order_0 2 rfl rfl)
theorem dX1_order_5 : decode cX1_order 5 = .ok (.astore_n 3, 1) := dk_78 (dk_at dksX1_order_0 5 rfl rfl)
theorem dX1_order_6 : decode cX1_order 6 = .ok (.aload_n 3, 1) := dk_45 (dk_at dksX1_order_0 6 rfl rfl)
theorem dX1_order_7 : decode cX1_order 7 = .ok (.getfield 88, 3) := dk_180 0 88 (dk_at dksX1_order_0 7 rfl rfl)
theorem dX1_order_10 : decode cX1_order 10 = .ok (.getfield 92, 3) := dk_180 0 92 (dk_at dksX1_order_0 10 rfl rfl)
theorem dX1_order_13 : decode cX1_order 13 = .ok (.astore 4, 2) := dk_58 4 (dk_at dksX1_order_0 13 rfl rfl)
theorem dX1_order_15 : decode cX1_order 15 = .ok (.iload_n 2, 1) := dk_28 (dk_at dksX1_order_0 15 rfl rfl)
theorem dX1_order_16 : decode cX1_order 16 = .ok (.iconst 0, 1) := dk_3 (dk_at dksX1_order_0 16 rfl rfl)
theorem dX1_order_17 : decode cX1_order 17 = .ok (.aload 4, 2) := dk_25 4 (dk_at dksX1_order_0 17 rfl rfl)
theorem dX1_order_19 : decode cX1_order 19 = .ok (.invokeinterface 48 1, 5) := by decide +kernel
theorem dX1_order_24 : decode cX1_order 24 = .ok (.iconst 1, 1) := dk_4 (dk_at dksX1_order_1 0 rfl rfl)
theorem dX1_order_25 : decode cX1_order 25 = .ok (.isub, 1) := dk_100 (dk_at dksX1_order_1 1 rfl rfl)
theorem dX1_order_26 : decode cX1_order 26 = .ok (.invokestatic 65, 3) := dk_184 0 65 (dk_at dksX1_order_1 2 rfl rfl)
theorem dX1_order_29 : decode cX1_order 29 = .ok (.invokestatic 102, 3) := dk_184 0 102 (dk_at dksX1_order_1 5 rfl rfl)
theorem dX1_order_32 : decode cX1_order 32 = .ok (.aload 4, 2) := dk_25 4 (dk_at dksX1_order_1 8 rfl rfl)
theorem dX1_order_34 : decode cX1_order 34 = .ok (.aload_n 3, 1) := dk_45 (dk_at dksX1_order_1 10 rfl rfl)
theorem dX1_order_35 : decode cX1_order 35 = .ok (.invokeinterface 172 2, 5) := by decide +kernel
theorem dX1_order_40 : decode cX1_order 40 = .ok (.istore 5, 2) := dk_54 5 (dk_at dksX1_order_1 16 rfl rfl)
theorem dX1_order_42 : decode cX1_order 42 = .ok (.aload 4, 2) := dk_25 4 (dk_at dksX1_order_1 18 rfl rfl)
theorem dX1_order_44 : decode cX1_order 44 = .ok (.iload 5, 2) := dk_21 5 (dk_at dksX1_order_1 20 rfl rfl)
theorem dX1_order_46 : decode cX1_order 46 = .ok (.invokeinterface 176 2, 5) := by decide +kernel
theorem dX1_order_51 : decode cX1_order 51 = .ok (.checkcast 25, 3) := dk_192 0 25 (dk_at dksX1_order_2 5 rfl rfl)
theorem dX1_order_54 : decode cX1_order 54 = .ok (.astore 6, 2) := dk_58 6 (dk_at dksX1_order_2 8 rfl rfl)
theorem dX1_order_56 : decode cX1_order 56 = .ok (.aload 4, 2) := dk_25 4 (dk_at dksX1_order_2 10 rfl rfl)
theorem dX1_order_58 : decode cX1_order 58 = .ok (.iload_n 2, 1) := dk_28 (dk_at dksX1_order_2 12 rfl rfl)
theorem dX1_order_59 : decode cX1_order 59 = .ok (.aload 6, 2) := dk_25 6 (dk_at dksX1_order_2 13 rfl rfl)
theorem dX1_order_61 : decode cX1_order 61 = .ok (.invokeinterface 178 3, 5) := by decide +kernel
theorem dX1_order_66 : decode cX1_order 66 = .ok (.aload_n 0, 1) := dk_42 (dk_at dksX1_order_2 20 rfl rfl)
theorem dX1_order_67 : decode cX1_order 67 = .ok (.getfield 31, 3) := dk_180 0 31 (dk_at dksX1_order_2 21 rfl rfl)
theorem dX1_order_70 : decode cX1_order 70 = .ok (.invokeinterface 54 1, 5) := by decide +kernel
theorem dX1_order_75 : decode cX1_order 75 = .ok (.iload 5, 2) := dk_21 5 (dk_at dksX1_order_3 5 rfl rfl)
theorem dX1_order_77 : decode cX1_order 77 = .ok (.ireturn, 1) := dk_172 (dk_at dksX1_order_3 7 rfl rfl)
abbrev cX1_setParent : ByteArray := prog_1_method_19_code
def yX1_setParent : MethodName := ⟨RX1, "setParent", "(II)I"⟩
def dkwX1_setParent_3 : List UInt8 := [180, 0, 31, 185, 0, 54, 1, 0, 21, 5, 172]
abbrev dktX1_setParent_3 : List UInt8 := dkwX1_setParent_3 ++ []
def dkwX1_setParent_2 : List UInt8 := [4, 167, 0, 4, 3, 184, 0, 79, 45, 180, 0, 165, 184, 0, 185, 54, 5, 45, 25, 4, 181, 0, 165, 42]
abbrev dktX1_setParent_2 : List UInt8 := dkwX1_setParent_2 ++ dktX1_setParent_3
def dkwX1_setParent_1 : List UInt8 := [198, 0, 24, 25, 4, 180, 0, 88, 45, 180, 0, 88, 166, 0, 16, 25, 4, 45, 182, 0, 181, 154, 0, 7]
abbrev dktX1_setParent_1 : List UInt8 := dkwX1_setParent_1 ++ dktX1_setParent_2
def dkwX1_setParent_0 : List UInt8 := [42, 27, 182, 0, 119, 78, 28, 2, 160, 0, 7, 1, 167, 0, 8, 42, 28, 182, 0, 119, 58, 4, 25, 4]
abbrev dktX1_setParent_0 : List UInt8 := dkwX1_setParent_0 ++ dktX1_setParent_1
theorem dksX1_setParent_0 : cX1_setParent.data.toList.drop 0 = dktX1_setParent_0 := by decide +kernel
theorem dksX1_setParent_1 : cX1_setParent.data.toList.drop 24 = dktX1_setParent_1 := dk_seg dksX1_setParent_0 24 rfl rfl
theorem dksX1_setParent_2 : cX1_setParent.data.toList.drop 48 = dktX1_setParent_2 := dk_seg dksX1_setParent_1 24 rfl rfl
theorem dksX1_setParent_3 : cX1_setParent.data.toList.drop 72 = dktX1_setParent_3 := dk_seg dksX1_setParent_2 24 rfl rfl
theorem dX1_setParent_0 : decode cX1_setParent 0 = .ok (.aload_n 0, 1) := dk_42 (dk_at dksX1_setParent_0 0 rfl rfl)
theorem dX1_setParent_1 : decode cX1_setParent 1 = .ok (.iload_n 1, 1) := dk_27 (dk_at dksX1_setParent_0 1 rfl rfl)
theorem dX1_setParent_2 : decode cX1_setParent 2 = .ok (.invokevirtual 119, 3) := dk_182 0 119 (dk_at dksX1_setParent_0 2 rfl rfl)
theorem dX1_setParent_5 : decode cX1_setParent 5 = .ok (.astore_n 3, 1) := dk_78 (dk_at dksX1_setParent_0 5 rfl rfl)
theorem dX1_setParent_6 : decode cX1_setParent 6 = .ok (.iload_n 2, 1) := dk_28 (dk_at dksX1_setParent_0 6 rfl rfl)
theorem dX1_setParent_7 : decode cX1_setParent 7 = .ok (.iconst (-1), 1) := dk_2 (dk_at dksX1_setParent_0 7 rfl rfl)
theorem dX1_setParent_8 : decode cX1_setParent 8 = .ok (.if_icmp .ne 7, 3) := dk_160 0 7 (dk_at dksX1_setParent_0 8 rfl rfl)
theorem dX1_setParent_11 : decode cX1_setParent 11 = .ok (.aconst_null, 1) := dk_1 (dk_at dksX1_setParent_0 11 rfl rfl)
theorem dX1_setParent_12 : decode cX1_setParent 12 = .ok (.goto 8, 3) := dk_167 0 8 (dk_at dksX1_setParent_0 12 rfl rfl)
theorem dX1_setParent_15 : decode cX1_setParent 15 = .ok (.aload_n 0, 1) := dk_42 (dk_at dksX1_setParent_0 15 rfl rfl)
theorem dX1_setParent_16 : decode cX1_setParent 16 = .ok (.iload_n 2, 1) := dk_28 (dk_at dksX1_setParent_0 16 rfl rfl)
theorem dX1_setParent_17 : decode cX1_setParent 17 = .ok (.invokevirtual 119, 3) := dk_182 0 119 (dk_at dksX1_setParent_0 17 rfl rfl)
theorem dX1_setParent_20 : decode cX1_setParent 20 = .ok (.astore 4, 2) := dk_58 4 (dk_at dksX1_setParent_0 20 rfl rfl)
theorem dX1_setParent_22 : decode cX1_setParent 22 = .ok (.aload 4, 2) := dk_25 4 (dk_at dksX1_setParent_0 22 rfl rfl)
theorem dX1_setParent_24 : decode cX1_setParent 24 = .ok (.ifnull 24, 3) := dk_198 0 24 (dk_at dksX1_setParent_1 0 rfl rfl)
theorem dX1_setParent_27 : decode cX1_setParent 27 = .ok (.aload 4, 2) := dk_25 4 (dk_at dksX1_setParent_1 3 rfl rfl)
theorem dX1_setParent_29 : decode cX1_setParent 29 = .ok (.getfield 88, 3) := dk_180 0 88 (dk_at dksX1_setParent_1 5 rfl rfl)
theorem dX1_setParent_32 : decode cX1_setParent 32 = .ok (.aload_n 3, 1) := dk_45 (dk_at dksX1_setParent_1 8 rfl rfl)
theorem dX1_setParent_33 : decode cX1_setParent 33 = .ok (.getfield 88, 3) := dk_180 0 88 (dk_at dksX1_setParent_1 9 rfl rfl)
theorem dX1_setParent_36 : decode cX1_setParent 36 = .ok (.if_acmp .ne 16, 3) := dk_166 0 16 (dk_at dksX1_setParent_1 12 rfl rfl)
theorem dX1_setParent_39 : decode cX1_setParent 39 = .ok (.aload 4, 2) := dk_25 4 (dk_at dksX1_setParent_1 15 rfl rfl)
theorem dX1_setParent_41 : decode cX1_setParent 41 = .ok (.aload_n 3, 1) := dk_45 (dk_at dksX1_setParent_1 17 rfl rfl)
theorem dX1_setParent_42 : decode cX1_setParent 42 = .ok (.invokevirtual 181, 3) := dk_182 0 181 (dk_at dksX1_setParent_1 18 rfl rfl)
theorem dX1_setParent_45 : decode cX1_setParent 45 = .ok (.ifCond .ne 7, 3) := dk_154 0 7 (dk_at dksX1_setParent_1 21 rfl rfl)
theorem dX1_setParent_48 : decode cX1_setParent 48 = .ok (.iconst 1, 1) := dk_4 (dk_at dksX1_setParent_2 0 rfl rfl)
theorem dX1_setParent_49 : decode cX1_setParent 49 = .ok (.goto 4, 3) := dk_167 0 4 (dk_at dksX1_setParent_2 1 rfl rfl)
theorem dX1_setParent_52 : decode cX1_setParent 52 = .ok (.iconst 0, 1) := dk_3 (dk_at dksX1_setParent_2 4 rfl rfl)
theorem dX1_setParent_53 : decode cX1_setParent 53 = .ok (.invokestatic 79, 3) := dk_184 0 79 (dk_at dksX1_setParent_2 5 rfl rfl)
theorem dX1_setParent_56 : decode cX1_setParent 56 = .ok (.aload_n 3, 1) := dk_45 (dk_at dksX1_setParent_2 8 rfl rfl)
theorem dX1_setParent_57 : decode cX1_setParent 57 = .ok (.getfield 165, 3) := dk_180 0 165 (dk_at dksX1_setParent_2 9 rfl rfl)
theorem dX1_setParent_60 : decode cX1_setParent 60 = .ok (.invokestatic 185, 3) := dk_184 0 185 (dk_at dksX1_setParent_2 12 rfl rfl)
theorem dX1_setParent_63 : decode cX1_setParent 63 = .ok (.istore 5, 2) := dk_54 5 (dk_at dksX1_setParent_2 15 rfl rfl)
theorem dX1_setParent_65 : decode cX1_setParent 65 = .ok (.aload_n 3, 1) := dk_45 (dk_at dksX1_setParent_2 17 rfl rfl)
theorem dX1_setParent_66 : decode cX1_setParent 66 = .ok (.aload 4, 2) := dk_25 4 (dk_at dksX1_setParent_2 18 rfl rfl)
theorem dX1_setParent_68 : decode cX1_setParent 68 = .ok (.putfield 165, 3) := dk_181 0 165 (dk_at dksX1_setParent_2 20 rfl rfl)
theorem dX1_setParent_71 : decode cX1_setParent 71 = .ok (.aload_n 0, 1) := dk_42 (dk_at dksX1_setParent_2 23 rfl rfl)
theorem dX1_setParent_72 : decode cX1_setParent 72 = .ok (.getfield 31, 3) := dk_180 0 31 (dk_at dksX1_setParent_3 0 rfl rfl)
theorem dX1_setParent_75 : decode cX1_setParent 75 = .ok (.invokeinterface 54 1, 5) := by decide +kernel
theorem dX1_setParent_80 : decode cX1_setParent 80 = .ok (.iload 5, 2) := dk_21 5 (dk_at dksX1_setParent_3 8 rfl rfl)
theorem dX1_setParent_82 : decode cX1_setParent 82 = .ok (.ireturn, 1) := dk_172 (dk_at dksX1_setParent_3 10 rfl rfl)
abbrev cX1_numberOf : ByteArray := prog_1_method_18_code
def yX1_numberOf : MethodName := ⟨RX1, "numberOf", "(LShapelayer$Layer;)I"⟩
def dkwX1_numberOf_0 : List UInt8 := [42, 199, 0, 7, 2, 167, 0, 7, 42, 180, 0, 95, 172]
abbrev dktX1_numberOf_0 : List UInt8 := dkwX1_numberOf_0 ++ []
theorem dksX1_numberOf_0 : cX1_numberOf.data.toList.drop 0 = dktX1_numberOf_0 := by decide +kernel
theorem dX1_numberOf_0 : decode cX1_numberOf 0 = .ok (.aload_n 0, 1) := dk_42 (dk_at dksX1_numberOf_0 0 rfl rfl)
theorem dX1_numberOf_1 : decode cX1_numberOf 1 = .ok (.ifnonnull 7, 3) := dk_199 0 7 (dk_at dksX1_numberOf_0 1 rfl rfl)
theorem dX1_numberOf_4 : decode cX1_numberOf 4 = .ok (.iconst (-1), 1) := dk_2 (dk_at dksX1_numberOf_0 4 rfl rfl)
theorem dX1_numberOf_5 : decode cX1_numberOf 5 = .ok (.goto 7, 3) := dk_167 0 7 (dk_at dksX1_numberOf_0 5 rfl rfl)
theorem dX1_numberOf_8 : decode cX1_numberOf 8 = .ok (.aload_n 0, 1) := dk_42 (dk_at dksX1_numberOf_0 8 rfl rfl)
theorem dX1_numberOf_9 : decode cX1_numberOf 9 = .ok (.getfield 95, 3) := dk_180 0 95 (dk_at dksX1_numberOf_0 9 rfl rfl)
theorem dX1_numberOf_12 : decode cX1_numberOf 12 = .ok (.ireturn, 1) := dk_172 (dk_at dksX1_numberOf_0 12 rfl rfl)
abbrev cX1_setMatte : ByteArray := prog_1_method_20_code
def yX1_setMatte : MethodName := ⟨RX1, "setMatte", "(IIZ)I"⟩
def dkwX1_setMatte_3 : List UInt8 := [25, 5, 181, 0, 169, 25, 4, 29, 181, 0, 188, 42, 180, 0, 31, 185, 0, 54, 1, 0, 21, 6, 172]
abbrev dktX1_setMatte_3 : List UInt8 := dkwX1_setMatte_3 ++ []
def dkwX1_setMatte_2 : List UInt8 := [165, 0, 7, 4, 167, 0, 4, 3, 184, 0, 79, 25, 4, 180, 0, 169, 184, 0, 185, 54, 6, 25, 4]
abbrev dktX1_setMatte_2 : List UInt8 := dkwX1_setMatte_2 ++ dktX1_setMatte_3
def dkwX1_setMatte_1 : List UInt8 := [25, 5, 198, 0, 23, 25, 5, 180, 0, 88, 25, 4, 180, 0, 88, 166, 0, 14, 25, 5, 25, 4]
abbrev dktX1_setMatte_1 : List UInt8 := dkwX1_setMatte_1 ++ dktX1_setMatte_2
def dkwX1_setMatte_0 : List UInt8 := [42, 27, 182, 0, 119, 58, 4, 28, 2, 160, 0, 7, 1, 167, 0, 8, 42, 28, 182, 0, 119, 58, 5]
abbrev dktX1_setMatte_0 : List UInt8 := dkwX1_setMatte_0 ++ dktX1_setMatte_1
theorem dksX1_setMatte_0 : cX1_setMatte.data.toList.drop 0 = dktX1_setMatte_0 := by decide +kernel
theorem dksX1_setMatte_1 : cX1_setMatte.data.toList.drop 23 = dktX1_setMatte_1 := dk_seg dksX1_setMatte_0 23 rfl rfl
theorem dksX1_setMatte_2 : cX1_setMatte.data.toList.drop 45 = dktX1_setMatte_2 := dk_seg dksX1_setMatte_1 22 rfl rfl
theorem dksX1_setMatte_3 : cX1_setMatte.data.toList.drop 68 = dktX1_setMatte_3 := dk_seg dksX1_setMatte_2 23 rfl rfl
theorem dX1_setMatte_0 : decode cX1_setMatte 0 = .ok (.aload_n 0, 1) := dk_42 (dk_at dksX1_setMatte_0 0 rfl rfl)
theorem dX1_setMatte_1 : decode cX1_setMatte 1 = .ok (.iload_n 1, 1) := dk_27 (dk_at dksX1_setMatte_0 1 rfl rfl)
theorem dX1_setMatte_2 : decode cX1_setMatte 2 = .ok (.invokevirtual 119, 3) := dk_182 0 119 (dk_at dksX1_setMatte_0 2 rfl rfl)
theorem dX1_setMatte_5 : decode cX1_setMatte 5 = .ok (.astore 4, 2) := dk_58 4 (dk_at dksX1_setMatte_0 5 rfl rfl)
theorem dX1_setMatte_7 : decode cX1_setMatte 7 = .ok (.iload_n 2, 1) := dk_28 (dk_at dksX1_setMatte_0 7 rfl rfl)
theorem dX1_setMatte_8 : decode cX1_setMatte 8 = .ok (.iconst (-1), 1) := dk_2 (dk_at dksX1_setMatte_0 8 rfl rfl)
theorem dX1_setMatte_9 : decode cX1_setMatte 9 = .ok (.if_icmp .ne 7, 3) := dk_160 0 7 (dk_at dksX1_setMatte_0 9 rfl rfl)
theorem dX1_setMatte_12 : decode cX1_setMatte 12 = .ok (.aconst_null, 1) := dk_1 (dk_at dksX1_setMatte_0 12 rfl rfl)
theorem dX1_setMatte_13 : decode cX1_setMatte 13 = .ok (.goto 8, 3) := dk_167 0 8 (dk_at dksX1_setMatte_0 13 rfl rfl)
theorem dX1_setMatte_16 : decode cX1_setMatte 16 = .ok (.aload_n 0, 1) := dk_42 (dk_at dksX1_setMatte_0 16 rfl rfl)
theorem dX1_setMatte_17 : decode cX1_setMatte 17 = .ok (.iload_n 2, 1) := dk_28 (dk_at dksX1_setMatte_0 17 rfl rfl)
theorem dX1_setMatte_18 : decode cX1_setMatte 18 = .ok (.invokevirtual 119, 3) := dk_182 0 119 (dk_at dksX1_setMatte_0 18 rfl rfl)
theorem dX1_setMatte_21 : decode cX1_setMatte 21 = .ok (.astore 5, 2) := dk_58 5 (dk_at dksX1_setMatte_0 21 rfl rfl)
theorem dX1_setMatte_23 : decode cX1_setMatte 23 = .ok (.aload 5, 2) := dk_25 5 (dk_at dksX1_setMatte_1 0 rfl rfl)
theorem dX1_setMatte_25 : decode cX1_setMatte 25 = .ok (.ifnull 23, 3) := dk_198 0 23 (dk_at dksX1_setMatte_1 2 rfl rfl)
theorem dX1_setMatte_28 : decode cX1_setMatte 28 = .ok (.aload 5, 2) := dk_25 5 (dk_at dksX1_setMatte_1 5 rfl rfl)
theorem dX1_setMatte_30 : decode cX1_setMatte 30 = .ok (.getfield 88, 3) := dk_180 0 88 (dk_at dksX1_setMatte_1 7 rfl rfl)
theorem dX1_setMatte_33 : decode cX1_setMatte 33 = .ok (.aload 4, 2) := dk_25 4 (dk_at dksX1_setMatte_1 10 rfl rfl)
theorem dX1_setMatte_35 : decode cX1_setMatte 35 = .ok (.getfield 88, 3) := dk_180 0 88 (dk_at dksX1_setMatte_1 12 rfl rfl)
theorem dX1_setMatte_38 : decode cX1_setMatte 38 = .ok (.if_acmp .ne 14, 3) := dk_166 0 14 (dk_at dksX1_setMatte_1 15 rfl rfl)
theorem dX1_setMatte_41 : decode cX1_setMatte 41 = .ok (.aload 5, 2) := dk_25 5 (dk_at dksX1_setMatte_1 18 rfl rfl)
theorem dX1_setMatte_43 : decode cX1_setMatte 43 = .ok (.aload 4, 2) := dk_25 4 (dk_at dksX1_setMatte_1 20 rfl rfl)
theorem dX1_setMatte_45 : decode cX1_setMatte 45 = .ok (.if_acmp .eq 7, 3) := dk_165 0 7 (dk_at dksX1_setMatte_2 0 rfl rfl)
theorem dX1_setMatte_48 : decode cX1_setMatte 48 = .ok (.iconst 1, 1) := dk_4 (dk_at dksX1_setMatte_2 3 rfl rfl)
theorem dX1_setMatte_49 : decode cX1_setMatte 49 = .ok (.goto 4, 3) := dk_167 0 4 (dk_at dksX1_setMatte_2 4 rfl rfl)
theorem dX1_setMatte_52 : decode cX1_setMatte 52 = .ok (.iconst 0, 1) := dk_3 (dk_at dksX1_setMatte_2 7 rfl rfl)
theorem dX1_setMatte_53 : decode cX1_setMatte 53 = .ok (.invokestatic 79, 3) := dk_184 0 79 (dk_at dksX1_setMatte_2 8 rfl rfl)
theorem dX1_setMatte_56 : decode cX1_setMatte 56 = .ok (.aload 4, 2) := dk_25 4 (dk_at dksX1_setMatte_2 11 rfl rfl)
theorem dX1_setMatte_58 : decode cX1_setMatte 58 = .ok (.getfield 169, 3) := dk_180 0 169 (dk_at dksX1_setMatte_2 13 rfl rfl)
theorem dX1_setMatte_61 : decode cX1_setMatte 61 = .ok (.invokestatic 185, 3) := dk_184 0 185 (dk_at dksX1_setMatte_2 16 rfl rfl)
theorem dX1_setMatte_64 : decode cX1_setMatte 64 = .ok (.istore 6, 2) := dk_54 6 (dk_at dksX1_setMatte_2 19 rfl rfl)
theorem dX1_setMatte_66 : decode cX1_setMatte 66 = .ok (.aload 4, 2) := dk_25 4 (dk_at dksX1_setMatte_2 21 rfl rfl)
theorem dX1_setMatte_68 : decode cX1_setMatte 68 = .ok (.aload 5, 2) := dk_25 5 (dk_at dksX1_setMatte_3 0 rfl rfl)
theorem dX1_setMatte_70 : decode cX1_setMatte 70 = .ok (.putfield 169, 3) := dk_181 0 169 (dk_at dksX1_setMatte_3 2 rfl rfl)
theorem dX1_setMatte_73 : decode cX1_setMatte 73 = .ok (.aload 4, 2) := dk_25 4 (dk_at dksX1_setMatte_3 5 rfl rfl)
theorem dX1_setMatte_75 : decode cX1_setMatte 75 = .ok (.iload_n 3, 1) := dk_29 (dk_at dksX1_setMatte_3 7 rfl rfl)
theorem dX1_setMatte_76 : decode cX1_setMatte 76 = .ok (.putfield 188, 3) := dk_181 0 188 (dk_at dksX1_setMatte_3 8 rfl rfl)
theorem dX1_setMatte_79 : decode cX1_setMatte 79 = .ok (.aload_n 0, 1) := dk_42 (dk_at dksX1_setMatte_3 11 rfl rfl)
theorem dX1_setMatte_80 : decode cX1_setMatte 80 = .ok (.getfield 31, 3) := dk_180 0 31 (dk_at dksX1_setMatte_3 12 rfl rfl)
theorem dX1_setMatte_83 : decode cX1_setMatte 83 = .ok (.invokeinterface 54 1, 5) := by decide +kernel
theorem dX1_setMatte_88 : decode cX1_setMatte 88 = .ok (.iload 6, 2) := dk_21 6 (dk_at dksX1_setMatte_3 20 rfl rfl)
theorem dX1_setMatte_90 : decode cX1_setMatte 90 = .ok (.ireturn, 1) := dk_172 (dk_at dksX1_setMatte_3 22 rfl rfl)
abbrev cX1_setSpan : ByteArray := prog_1_method_21_code
def yX1_setSpan : MethodName := ⟨RX1, "setSpan", "(III)I"⟩
def dkwX1_setSpan_3 : List UInt8 := [185, 0, 54, 1, 0, 21, 5, 172]
abbrev dktX1_setSpan_3 : List UInt8 := dkwX1_setSpan_3 ++ []
def dkwX1_setSpan_2 : List UInt8 := [180, 0, 195, 100, 54, 5, 25, 4, 28, 181, 0, 195, 25, 4, 29, 181, 0, 192, 42, 180, 0, 31]
abbrev dktX1_setSpan_2 : List UInt8 := dkwX1_setSpan_2 ++ dktX1_setSpan_3
def dkwX1_setSpan_1 : List UInt8 := [17, 3, 232, 184, 0, 65, 153, 0, 7, 4, 167, 0, 4, 3, 184, 0, 102, 25, 4, 180, 0, 192, 25, 4]
abbrev dktX1_setSpan_1 : List UInt8 := dkwX1_setSpan_1 ++ dktX1_setSpan_2
def dkwX1_setSpan_0 : List UInt8 := [42, 27, 182, 0, 119, 58, 4, 28, 3, 17, 3, 231, 184, 0, 65, 153, 0, 20, 29, 28, 4, 96]
abbrev dktX1_setSpan_0 : List UInt8 := dkwX1_setSpan_0 ++ dktX1_setSpan_1
theorem dksX1_setSpan_0 : cX1_setSpan.data.toList.drop 0 = dktX1_setSpan_0 := by decide +kernel
theorem dksX1_setSpan_1 : cX1_setSpan.data.toList.drop 22 = dktX1_setSpan_1 := dk_seg dksX1_setSpan_0 22 rfl rfl
theorem dksX1_setSpan_2 : cX1_setSpan.data.toList.drop 46 = dktX1_setSpan_2 := dk_seg dksX1_setSpan_1 24 rfl rfl
theorem dksX1_setSpan_3 : cX1_setSpan.data.toList.drop 68 = dktX1_setSpan_3 := dk_seg dksX1_setSpan_2 22 rfl rfl
theorem dX1_setSpan_0 : decode cX1_setSpan 0 = .ok (.aload_n 0, 1) := dk_42 (dk_at dksX1_setSpan_0 0 rfl rfl)
theorem dX1_setSpan_1 : decode cX1_setSpan 1 = .ok (.iload_n 1, 1) := dk_27 (dk_at dksX1_setSpan_0 1 rfl rfl)
theorem dX1_setSpan_2 : decode cX1_setSpan 2 = .ok (.invokevirtual 119, 3) := dk_182 0 119 (dk_at dksX1_setSpan_0 2 rfl rfl)
theorem dX1_setSpan_5 : decode cX1_setSpan 5 = .ok (.astore 4, 2) := dk_58 4 (dk_at dksX1_setSpan_0 5 rfl rfl)
theorem dX1_setSpan_7 : decode cX1_setSpan 7 = .ok (.iload_n 2, 1) := dk_28 (dk_at dksX1_setSpan_0 7 rfl rfl)
theorem dX1_setSpan_8 : decode cX1_setSpan 8 = .ok (.iconst 0, 1) := dk_3 (dk_at dksX1_setSpan_0 8 rfl rfl)
theorem dX1_setSpan_9 : decode cX1_setSpan 9 = .ok (.sipush 999, 3) := dk_17 3 231 (dk_at dksX1_setSpan_0 9 rfl rfl)
theorem dX1_setSpan_12 : decode cX1_setSpan 12 = .ok (.invokestatic 65, 3) := dk_184 0 65 (dk_at dksX1_setSpan_0 12 rfl rfl)
theorem dX1_setSpan_15 : decode cX1_setSpan 15 = .ok (.ifCond .eq 20, 3) := dk_153 0 20 (dk_at dksX1_setSpan_0 15 rfl rfl)
theorem dX1_setSpan_18 : decode cX1_setSpan 18 = .ok (.iload_n 3, 1) := dk_29 (dk_at dksX1_setSpan_0 18 rfl rfl)
theorem dX1_setSpan_19 : decode cX1_setSpan 19 = .ok (.iload_n 2, 1) := dk_28 (dk_at dksX1_setSpan_0 19 rfl rfl)
theorem dX1_setSpan_20 : decode cX1_setSpan 20 = .ok (.iconst 1, 1) := dk_4 (dk_at dksX1_setSpan_0 20 rfl rfl)
theorem dX1_setSpan_21 : decode cX1_setSpan 21 = .ok (.iadd, 1) := dk_96 (dk_at dksX1_setSpan_0 21 rfl rfl)
theorem dX1_setSpan_22 : decode cX1_setSpan 22 = .ok (.sipush 1000, 3) := dk_17 3 232 (dk_at dksX1_setSpan_1 0 rfl rfl)
theorem dX1_setSpan_25 : decode cX1_setSpan 25 = .ok (.invokestatic 65, 3) := dk_184 0 65 (dk_at dksX1_setSpan_1 3 rfl rfl)
theorem dX1_setSpan_28 : decode cX1_setSpan 28 = .ok (.ifCond .eq 7, 3) := dk_153 0 7 (dk_at dksX1_setSpan_1 6 rfl rfl)
theorem dX1_setSpan_31 : decode cX1_setSpan 31 = .ok (.iconst 1, 1) := dk_4 (dk_at dksX1_setSpan_1 9 rfl rfl)
theorem dX1_setSpan_32 : decode cX1_setSpan 32 = .ok (.goto 4, 3) := dk_167 0 4 (dk_at dksX1_setSpan_1 10 rfl rfl)
theorem dX1_setSpan_35 : decode cX1_setSpan 35 = .ok (.iconst 0, 1) := dk_3 (dk_at dksX1_setSpan_1 13 rfl rfl)
theorem dX1_setSpan_36 : decode cX1_setSpan 36 = .ok (.invokestatic 102, 3) := dk_184 0 102 (dk_at dksX1_setSpan_1 14 rfl rfl)
theorem dX1_setSpan_39 : decode cX1_setSpan 39 = .ok (.aload 4, 2) := dk_25 4 (dk_at dksX1_setSpan_1 17 rfl rfl)
theorem dX1_setSpan_41 : decode cX1_setSpan 41 = .ok (.getfield 192, 3) := dk_180 0 192 (dk_at dksX1_setSpan_1 19 rfl rfl)
theorem dX1_setSpan_44 : decode cX1_setSpan 44 = .ok (.aload 4, 2) := dk_25 4 (dk_at dksX1_setSpan_1 22 rfl rfl)
theorem dX1_setSpan_46 : decode cX1_setSpan 46 = .ok (.getfield 195, 3) := dk_180 0 195 (dk_at dksX1_setSpan_2 0 rfl rfl)
theorem dX1_setSpan_49 : decode cX1_setSpan 49 = .ok (.isub, 1) := dk_100 (dk_at dksX1_setSpan_2 3 rfl rfl)
theorem dX1_setSpan_50 : decode cX1_setSpan 50 = .ok (.istore 5, 2) := dk_54 5 (dk_at dksX1_setSpan_2 4 rfl rfl)
theorem dX1_setSpan_52 : decode cX1_setSpan 52 = .ok (.aload 4, 2) := dk_25 4 (dk_at dksX1_setSpan_2 6 rfl rfl)
theorem dX1_setSpan_54 : decode cX1_setSpan 54 = .ok (.iload_n 2, 1) := dk_28 (dk_at dksX1_setSpan_2 8 rfl rfl)
theorem dX1_setSpan_55 : decode cX1_setSpan 55 = .ok (.putfield 195, 3) := dk_181 0 195 (dk_at dksX1_setSpan_2 9 rfl rfl)
theorem dX1_setSpan_58 : decode cX1_setSpan 58 = .ok (.aload 4, 2) := dk_25 4 (dk_at dksX1_setSpan_2 12 rfl rfl)
theorem dX1_setSpan_60 : decode cX1_setSpan 60 = .ok (.iload_n 3, 1) := dk_29 (dk_at dksX1_setSpan_2 14 rfl rfl)
theorem dX1_setSpan_61 : decode cX1_setSpan 61 = .ok (.putfield 192, 3) := dk_181 0 192 (dk_at dksX1_setSpan_2 15 rfl rfl)
theorem dX1_setSpan_64 : decode cX1_setSpan 64 = .ok (.aload_n 0, 1) := dk_42 (dk_at dksX1_setSpan_2 18 rfl rfl)
theorem dX1_setSpan_65 : decode cX1_setSpan 65 = .ok (.getfield 31, 3) := dk_180 0 31 (dk_at dksX1_setSpan_2 19 rfl rfl)
theorem dX1_setSpan_68 : decode cX1_setSpan 68 = .ok (.invokeinterface 54 1, 5) := by decide +kernel
theorem dX1_setSpan_73 : decode cX1_setSpan 73 = .ok (.iload 5, 2) := dk_21 5 (dk_at dksX1_setSpan_3 5 rfl rfl)
theorem dX1_setSpan_75 : decode cX1_setSpan 75 = .ok (.ireturn, 1) := dk_172 (dk_at dksX1_setSpan_3 7 rfl rfl)
abbrev cX1_key : ByteArray := prog_1_method_24_code
def yX1_key : MethodName := ⟨RX1, "key", "(IIIII)I"⟩
def dkwX1_key_6 : List UInt8 := [185, 0, 54, 1, 0, 25, 6, 180, 0, 216, 185, 0, 48, 1, 0, 172]
abbrev dktX1_key_6 : List UInt8 := dkwX1_key_6 ++ []
def dkwX1_key_5 : List UInt8 := [187, 0, 223, 89, 29, 21, 4, 21, 5, 183, 0, 225, 185, 0, 178, 3, 0, 42, 180, 0, 31]
abbrev dktX1_key_5 : List UInt8 := dkwX1_key_5 ++ dktX1_key_6
def dkwX1_key_4 : List UInt8 := [180, 0, 216, 21, 8, 185, 0, 176, 2, 0, 192, 0, 223, 58, 9, 25, 6, 180, 0, 216, 21, 8]
abbrev dktX1_key_4 : List UInt8 := dkwX1_key_4 ++ dktX1_key_5
def dkwX1_key_3 : List UInt8 := [167, 0, 4, 3, 184, 0, 79, 25, 6, 29, 182, 0, 219, 54, 8, 21, 7, 153, 0, 20, 25, 6]
abbrev dktX1_key_3 : List UInt8 := dkwX1_key_3 ++ dktX1_key_4
def dkwX1_key_2 : List UInt8 := [54, 7, 21, 7, 154, 0, 18, 25, 6, 180, 0, 216, 185, 0, 48, 1, 0, 16, 8, 162, 0, 7, 4]
abbrev dktX1_key_2 : List UInt8 := dkwX1_key_2 ++ dktX1_key_3
def dkwX1_key_1 : List UInt8 := [21, 5, 3, 5, 184, 0, 65, 153, 0, 7, 4, 167, 0, 4, 3, 184, 0, 102, 25, 6, 29, 182, 0, 211]
abbrev dktX1_key_1 : List UInt8 := dkwX1_key_1 ++ dktX1_key_2
def dkwX1_key_0 : List UInt8 := [42, 27, 28, 182, 0, 202, 58, 6, 29, 184, 0, 206, 21, 4, 18, 209, 18, 210, 184, 0, 65, 153, 0, 17]
abbrev dktX1_key_0 : List UInt8 := dkwX1_key_0 ++ dktX1_key_1
theorem dksX1_key_0 : cX1_key.data.toList.drop 0 = dktX1_key_0 := by decide +kernel
theorem dksX1_key_1 : cX1_key.data.toList.drop 24 = dktX1_key_1 := dk_seg dksX1_key_0 24 rfl rfl
theorem dksX1_key_2 : cX1_key.data.toList.drop 48 = dktX1_key_2 := dk_seg dksX1_key_1 24 rfl rfl
theorem dksX1_key_3 : cX1_key.data.toList.drop 71 = dktX1_key_3 := dk_seg dksX1_key_2 23 rfl rfl
theorem dksX1_key_4 : cX1_key.data.toList.drop 93 = dktX1_key_4 := dk_seg dksX1_key_3 22 rfl rfl
theorem dksX1_key_5 : cX1_key.data.toList.drop 115 = dktX1_key_5 := dk_seg dksX1_key_4 22 rfl rfl
theorem dksX1_key_6 : cX1_key.data.toList.drop 136 = dktX1_key_6 := dk_seg dksX1_key_5 21 rfl rfl
theorem dX1_key_0 : decode cX1_key 0 = .ok (.aload_n 0, 1) := dk_42 (dk_at dksX1_key_0 0 rfl rfl)
theorem dX1_key_1 : decode cX1_key 1 = .ok (.iload_n 1, 1) := dk_27 (dk_at dksX1_key_0 1 rfl rfl)
theorem dX1_key_2 : decode cX1_key 2 = .ok (.iload_n 2, 1) := dk_28 (dk_at dksX1_key_0 2 rfl rfl)
theorem dX1_key_3 : decode cX1_key 3 = .ok (.invokevirtual 202, 3) := dk_182 0 202 (dk_at dksX1_key_0 3 rfl rfl)
theorem dX1_key_6 : decode cX1_key 6 = .ok (.astore 6, 2) := dk_58 6 (dk_at dksX1_key_0 6 rfl rfl)
theorem dX1_key_8 : decode cX1_key 8 = .ok (.iload_n 3, 1) := dk_29 (dk_at dksX1_key_0 8 rfl rfl)
theorem dX1_key_9 : decode cX1_key 9 = .ok (.invokestatic 206, 3) := dk_184 0 206 (dk_at dksX1_key_0 9 rfl rfl)
theorem dX1_key_12 : decode cX1_key 12 = .ok (.iload 4, 2) := dk_21 4 (dk_at dksX1_key_0 12 rfl rfl)
theorem dX1_key_14 : decode cX1_key 14 = .ok (.ldc 209, 2) := dk_18 209 (dk_at dksX1_key_0 14 rfl rfl)
theorem dX1_key_16 : decode cX1_key 16 = .ok (.ldc 210, 2) := dk_18 210 (dk_at dksX1_key_0 16 rfl rfl)
theorem dX1_key_18 : decode cX1_key 18 = .ok (.invokestatic 65, 3) := dk_184 0 65 (dk_at dksX1_key_0 18 rfl rfl)
theorem dX1_key_21 : decode cX1_key 21 = .ok (.ifCond .eq 17, 3) := dk_153 0 17 (dk_at dksX1_key_0 21 rfl rfl)
theorem dX1_key_24 : decode cX1_key 24 = .ok (.iload 5, 2) := dk_21 5 (dk_at dksX1_key_1 0 rfl rfl)
theorem dX1_key_26 : decode cX1_key 26 = .ok (.iconst 0, 1) := dk_3 (dk_at dksX1_key_1 2 rfl rfl)
theorem dX1_key_27 : decode cX1_key 27 = .ok (.iconst 2, 1) := dk_5 (dk_at dksX1_key_1 3 rfl rfl)
theorem dX1_key_28 : decode cX1_key 28 = .ok (.invokestatic 65, 3) := dk_184 0 65 (dk_at dksX1_key_1 4 rfl rfl)
theorem dX1_key_31 : decode cX1_key 31 = .ok (.ifCond .eq 7, 3) := dk_153 0 7 (dk_at dksX1_key_1 7 rfl rfl)
theorem dX1_key_34 : decode cX1_key 34 = .ok (.iconst 1, 1) := dk_4 (dk_at dksX1_key_1 10 rfl rfl)
theorem dX1_key_35 : decode cX1_key 35 = .ok (.goto 4, 3) := dk_167 0 4 (dk_at dksX1_key_1 11 rfl rfl)
theorem dX1_key_38 : decode cX1_key 38 = .ok (.iconst 0, 1) := dk_3 (dk_at dksX1_key_1 14 rfl rfl)
theorem dX1_key_39 : decode cX1_key 39 = .ok (.invokestatic 102, 3) := dk_184 0 102 (dk_at dksX1_key_1 15 rfl rfl)
theorem dX1_key_42 : decode cX1_key 42 = .ok (.aload 6, 2) := dk_25 6 (dk_at dksX1_key_1 18 rfl rfl)
theorem dX1_key_44 : decode cX1_key 44 = .ok (.iload_n 3, 1) := dk_29 (dk_at dksX1_key_1 20 rfl rfl)
theorem dX1_key_45 : decode cX1_key 45 = .ok (.invokevirtual 211, 3) := dk_182 0 211 (dk_at dksX1_key_1 21 rfl rfl)
theorem dX1_key_48 : decode cX1_key 48 = .ok (.istore 7, 2) := dk_54 7 (dk_at dksX1_key_2 0 rfl rfl)
theorem dX1_key_50 : decode cX1_key 50 = .ok (.iload 7, 2) := dk_21 7 (dk_at dksX1_key_2 2 rfl rfl)
theorem dX1_key_52 : decode cX1_key 52 = .ok (.ifCond .ne 18, 3) := dk_154 0 18 (dk_at dksX1_key_2 4 rfl rfl)
theorem dX1_key_55 : decode cX1_key 55 = .ok (.aload 6, 2) := dk_25 6 (dk_at dksX1_key_2 7 rfl rfl)
theorem dX1_key_57 : decode cX1_key 57 = .ok (.getfield 216, 3) := dk_180 0 216 (dk_at dksX1_key_2 9 rfl rfl)
theorem dX1_key_60 : decode cX1_key 60 = .ok (.invokeinterface 48 1, 5) := by decide +kernel
theorem dX1_key_65 : decode cX1_key 65 = .ok (.bipush 8, 2) := dk_16 8 (dk_at dksX1_key_2 17 rfl rfl)
theorem dX1_key_67 : decode cX1_key 67 = .ok (.if_icmp .ge 7, 3) := dk_162 0 7 (dk_at dksX1_key_2 19 rfl rfl)
theorem dX1_key_70 : decode cX1_key 70 = .ok (.iconst 1, 1) := dk_4 (dk_at dksX1_key_2 22 rfl rfl)
theorem dX1_key_71 : decode cX1_key 71 = .ok (.goto 4, 3) := dk_167 0 4 (dk_at dksX1_key_3 0 rfl rfl)
theorem dX1_key_74 : decode cX1_key 74 = .ok (.iconst 0, 1) := dk_3 (dk_at dksX1_key_3 3 rfl rfl)
theorem dX1_key_75 : decode cX1_key 75 = .ok (.invokestatic 79, 3) := dk_184 0 79 (dk_at dksX1_key_3 4 rfl rfl)
theorem dX1_key_78 : decode cX1_key 78 = .ok (.aload 6, 2) := dk_25 6 (dk_at dksX1_key_3 7 rfl rfl)
theorem dX1_key_80 : decode cX1_key 80 = .ok (.iload_n 3, 1) := dk_29 (dk_at dksX1_key_3 9 rfl rfl)
theorem dX1_key_81 : decode cX1_key 81 = .ok (.invokevirtual 219, 3) := dk_182 0 219 (dk_at dksX1_key_3 10 rfl rfl)
theorem dX1_key_84 : decode cX1_key 84 = .ok (.istore 8, 2) := dk_54 8 (dk_at dksX1_key_3 13 rfl rfl)
theorem dX1_key_86 : decode cX1_key 86 = .ok (.iload 7, 2) := dk_21 7 (dk_at dksX1_key_3 15 rfl rfl)
theorem dX1_key_88 : decode cX1_key 88 = .ok (.ifCond .eq 20, 3) := dk_153 0 20 (dk_at dksX1_key_3 17 rfl rfl)
theorem dX1_key_91 : decode cX1_key 91 = .ok (.aload 6, 2) := dk_25 6 (dk_at dksX1_key_3 20 rfl rfl)
theorem dX1_key_93 : decode cX1_key 93 = .ok (.getfield 216, 3) := dk_180 0 216 (dk_at dksX1_key_4 0 rfl rfl)
theorem dX1_key_96 : decode cX1_key 96 = .ok (.iload 8, 2) := dk_21 8 (dk_at dksX1_key_4 3 rfl rfl)
theorem dX1_key_98 : decode cX1_key 98 = .ok (.invokeinterface 176 2, 5) := by decide +kernel
theorem dX1_key_103 : decode cX1_key 103 = .ok (.checkcast 223, 3) := dk_192 0 223 (dk_at dksX1_key_4 10 rfl rfl)
theorem dX1_key_106 : decode cX1_key 106 = .ok (.astore 9, 2) := dk_58 9 (dk_at dksX1_key_4 13 rfl rfl)
theorem dX1_key_108 : decode cX1_key 108 = .ok (.aload 6, 2) := dk_25 6 (dk_at dksX1_key_4 15 rfl rfl)
theorem dX1_key_110 : decode cX1_key 110 = .ok (.getfield 216, 3) := dk_180 0 216 (dk_at dksX1_key_4 17 rfl rfl)
theorem dX1_key_113 : decode cX1_key 113 = .ok (.iload 8, 2) := dk_21 8 (dk_at dksX1_key_4 20 rfl rfl)
theorem dX1_key_115 : decode cX1_key 115 = .ok (.new 223, 3) := dk_187 0 223 (dk_at dksX1_key_5 0 rfl rfl)
theorem dX1_key_118 : decode cX1_key 118 = .ok (.dup, 1) := dk_89 (dk_at dksX1_key_5 3 rfl rfl)
theorem dX1_key_119 : decode cX1_key 119 = .ok (.iload_n 3, 1) := dk_29 (dk_at dksX1_key_5 4 rfl rfl)
theorem dX1_key_120 : decode cX1_key 120 = .ok (.iload 4, 2) := dk_21 4 (dk_at dksX1_key_5 5 rfl rfl)
theorem dX1_key_122 : decode cX1_key 122 = .ok (.iload 5, 2) := dk_21 5 (dk_at dksX1_key_5 7 rfl rfl)
theorem dX1_key_124 : decode cX1_key 124 = .ok (.invokespecial 225, 3) := dk_183 0 225 (dk_at dksX1_key_5 9 rfl rfl)
theorem dX1_key_127 : decode cX1_key 127 = .ok (.invokeinterface 178 3, 5) := by decide +kernel
theorem dX1_key_132 : decode cX1_key 132 = .ok (.aload_n 0, 1) := dk_42 (dk_at dksX1_key_5 17 rfl rfl)
theorem dX1_key_133 : decode cX1_key 133 = .ok (.getfield 31, 3) := dk_180 0 31 (dk_at dksX1_key_5 18 rfl rfl)
theorem dX1_key_136 : decode cX1_key 136 = .ok (.invokeinterface 54 1, 5) := by decide +kernel
theorem dX1_key_141 : decode cX1_key 141 = .ok (.aload 6, 2) := dk_25 6 (dk_at dksX1_key_6 5 rfl rfl)
theorem dX1_key_143 : decode cX1_key 143 = .ok (.getfield 216, 3) := dk_180 0 216 (dk_at dksX1_key_6 7 rfl rfl)
theorem dX1_key_146 : decode cX1_key 146 = .ok (.invokeinterface 48 1, 5) := by decide +kernel
theorem dX1_key_151 : decode cX1_key 151 = .ok (.ireturn, 1) := dk_172 (dk_at dksX1_key_6 15 rfl rfl)
abbrev cX1_keyed : ByteArray := prog_1_method_23_code
def yX1_keyed : MethodName := ⟨RX1, "keyed", "(II)LShapelayer$Keyed;"⟩
def dkwX1_keyed_0 : List UInt8 := [42, 27, 182, 0, 119, 78, 28, 3, 16, 7, 184, 0, 65, 184, 0, 69, 45, 180, 0, 198, 28, 50, 176]
abbrev dktX1_keyed_0 : List UInt8 := dkwX1_keyed_0 ++ []
theorem dksX1_keyed_0 : cX1_keyed.data.toList.drop 0 = dktX1_keyed_0 := by decide +kernel
theorem dX1_keyed_0 : decode cX1_keyed 0 = .ok (.aload_n 0, 1) := dk_42 (dk_at dksX1_keyed_0 0 rfl rfl)
theorem dX1_keyed_1 : decode cX1_keyed 1 = .ok (.iload_n 1, 1) := dk_27 (dk_at dksX1_keyed_0 1 rfl rfl)
theorem dX1_keyed_2 : decode cX1_keyed 2 = .ok (.invokevirtual 119, 3) := dk_182 0 119 (dk_at dksX1_keyed_0 2 rfl rfl)
theorem dX1_keyed_5 : decode cX1_keyed 5 = .ok (.astore_n 3, 1) := dk_78 (dk_at dksX1_keyed_0 5 rfl rfl)
theorem dX1_keyed_6 : decode cX1_keyed 6 = .ok (.iload_n 2, 1) := dk_28 (dk_at dksX1_keyed_0 6 rfl rfl)
theorem dX1_keyed_7 : decode cX1_keyed 7 = .ok (.iconst 0, 1) := dk_3 (dk_at dksX1_keyed_0 7 rfl rfl)
theorem dX1_keyed_8 : decode cX1_keyed 8 = .ok (.bipush 7, 2) := dk_16 7 (dk_at dksX1_keyed_0 8 rfl rfl)
theorem dX1_keyed_10 : decode cX1_keyed 10 = .ok (.invokestatic 65, 3) := dk_184 0 65 (dk_at dksX1_keyed_0 10 rfl rfl)
theorem dX1_keyed_13 : decode cX1_keyed 13 = .ok (.invokestatic 69, 3) := dk_184 0 69 (dk_at dksX1_keyed_0 13 rfl rfl)
theorem dX1_keyed_16 : decode cX1_keyed 16 = .ok (.aload_n 3, 1) := dk_45 (dk_at dksX1_keyed_0 16 rfl rfl)
theorem dX1_keyed_17 : decode cX1_keyed 17 = .ok (.getfield 198, 3) := dk_180 0 198 (dk_at dksX1_keyed_0 17 rfl rfl)
theorem dX1_keyed_20 : decode cX1_keyed 20 = .ok (.iload_n 2, 1) := dk_28 (dk_at dksX1_keyed_0 20 rfl rfl)
theorem dX1_keyed_21 : decode cX1_keyed 21 = .ok (.aaload, 1) := dk_50 (dk_at dksX1_keyed_0 21 rfl rfl)
theorem dX1_keyed_22 : decode cX1_keyed 22 = .ok (.areturn, 1) := dk_176 (dk_at dksX1_keyed_0 22 rfl rfl)
abbrev cX1_checkTime : ByteArray := prog_1_method_22_code
def yX1_checkTime : MethodName := ⟨RX1, "checkTime", "(I)V"⟩
def dkwX1_checkTime_0 : List UInt8 := [26, 3, 17, 3, 231, 184, 0, 65, 184, 0, 102, 177]
abbrev dktX1_checkTime_0 : List UInt8 := dkwX1_checkTime_0 ++ []
theorem dksX1_checkTime_0 : cX1_checkTime.data.toList.drop 0 = dktX1_checkTime_0 := by decide +kernel
theorem dX1_checkTime_0 : decode cX1_checkTime 0 = .ok (.iload_n 0, 1) := dk_26 (dk_at dksX1_checkTime_0 0 rfl rfl)
theorem dX1_checkTime_1 : decode cX1_checkTime 1 = .ok (.iconst 0, 1) := dk_3 (dk_at dksX1_checkTime_0 1 rfl rfl)
theorem dX1_checkTime_2 : decode cX1_checkTime 2 = .ok (.sipush 999, 3) := dk_17 3 231 (dk_at dksX1_checkTime_0 2 rfl rfl)
theorem dX1_checkTime_5 : decode cX1_checkTime 5 = .ok (.invokestatic 65, 3) := dk_184 0 65 (dk_at dksX1_checkTime_0 5 rfl rfl)
theorem dX1_checkTime_8 : decode cX1_checkTime 8 = .ok (.invokestatic 102, 3) := dk_184 0 102 (dk_at dksX1_checkTime_0 8 rfl rfl)
theorem dX1_checkTime_11 : decode cX1_checkTime 11 = .ok (.return_, 1) := dk_177 (dk_at dksX1_checkTime_0 11 rfl rfl)
abbrev cX1_unkey : ByteArray := prog_1_method_25_code
def yX1_unkey : MethodName := ⟨RX1, "unkey", "(III)I"⟩
def dkwX1_unkey_2 : List UInt8 := [180, 0, 31, 185, 0, 54, 1, 0, 25, 5, 180, 0, 231, 172]
abbrev dktX1_unkey_2 : List UInt8 := dkwX1_unkey_2 ++ []
def dkwX1_unkey_1 : List UInt8 := [191, 25, 4, 180, 0, 216, 25, 4, 29, 182, 0, 219, 185, 0, 176, 2, 0, 192, 0, 223, 58, 5, 42]
abbrev dktX1_unkey_1 : List UInt8 := dkwX1_unkey_1 ++ dktX1_unkey_2
def dkwX1_unkey_0 : List UInt8 := [42, 27, 28, 182, 0, 202, 58, 4, 25, 4, 29, 182, 0, 211, 154, 0, 11, 187, 0, 228, 89, 183, 0, 230]
abbrev dktX1_unkey_0 : List UInt8 := dkwX1_unkey_0 ++ dktX1_unkey_1
theorem dksX1_unkey_0 : cX1_unkey.data.toList.drop 0 = dktX1_unkey_0 := by decide +kernel
theorem dksX1_unkey_1 : cX1_unkey.data.toList.drop 24 = dktX1_unkey_1 := dk_seg dksX1_unkey_0 24 rfl rfl
theorem dksX1_unkey_2 : cX1_unkey.data.toList.drop 47 = dktX1_unkey_2 := dk_seg dksX1_unkey_1 23 rfl rfl
theorem dX1_unkey_0 : decode cX1_unkey 0 = .ok (.aload_n 0, 1) := dk_42 (dk_at dksX1_unkey_0 0 rfl rfl)
theorem dX1_unkey_1 : decode cX1_unkey 1 = .ok (.iload_n 1, 1) := dk_27 (dk_at dksX1_unkey_0 1 rfl rfl)
theorem dX1_unkey_2 : decode cX1_unkey 2 = .ok (.iload_n 2, 1) := dk_28 (dk_at dksX1_unkey_0 2 rfl rfl)
theorem dX1_unkey_3 : decode cX1_unkey 3 = .ok (.invokevirtual 202, 3) := dk_182 0 202 (dk_at dksX1_unkey_0 3 rfl rfl)
theorem dX1_unkey_6 : decode cX1_unkey 6 = .ok (.astore 4, 2) := dk_58 4 (dk_at dksX1_unkey_0 6 rfl rfl)
theorem dX1_unkey_8 : decode cX1_unkey 8 = .ok (.aload 4, 2) := dk_25 4 (dk_at dksX1_unkey_0 8 rfl rfl)
theorem dX1_unkey_10 : decode cX1_unkey 10 = .ok (.iload_n 3, 1) := dk_29 (dk_at dksX1_unkey_0 10 rfl rfl)
theorem dX1_unkey_11 : decode cX1_unkey 11 = .ok (.invokevirtual 211, 3) := dk_182 0 211 (dk_at dksX1_unkey_0 11 rfl rfl)
theorem dX1_unkey_14 : decode cX1_unkey 14 = .ok (.ifCond .ne 11, 3) := dk_154 0 11 (dk_at dksX1_unkey_0 14 rfl rfl)
theorem dX1_unkey_17 : decode cX1_unkey 17 = .ok (.new 228, 3) := dk_187 0 228 (dk_at dksX1_unkey_0 17 rfl rfl)
theorem dX1_unkey_20 : decode cX1_unkey 20 = .ok (.dup, 1) := dk_89 (dk_at dksX1_unkey_0 20 rfl rfl)
theorem dX1_unkey_21 : decode cX1_unkey 21 = .ok (.invokespecial 230, 3) := dk_183 0 230 (dk_at dksX1_unkey_0 21 rfl rfl)
theorem dX1_unkey_24 : decode cX1_unkey 24 = .ok (.athrow, 1) := dk_191 (dk_at dksX1_unkey_1 0 rfl rfl)
theorem dX1_unkey_25 : decode cX1_unkey 25 = .ok (.aload 4, 2) := dk_25 4 (dk_at dksX1_unkey_1 1 rfl rfl)
theorem dX1_unkey_27 : decode cX1_unkey 27 = .ok (.getfield 216, 3) := dk_180 0 216 (dk_at dksX1_unkey_1 3 rfl rfl)
theorem dX1_unkey_30 : decode cX1_unkey 30 = .ok (.aload 4, 2) := dk_25 4 (dk_at dksX1_unkey_1 6 rfl rfl)
theorem dX1_unkey_32 : decode cX1_unkey 32 = .ok (.iload_n 3, 1) := dk_29 (dk_at dksX1_unkey_1 8 rfl rfl)
theorem dX1_unkey_33 : decode cX1_unkey 33 = .ok (.invokevirtual 219, 3) := dk_182 0 219 (dk_at dksX1_unkey_1 9 rfl rfl)
theorem dX1_unkey_36 : decode cX1_unkey 36 = .ok (.invokeinterface 176 2, 5) := by decide +kernel
theorem dX1_unkey_41 : decode cX1_unkey 41 = .ok (.checkcast 223, 3) := dk_192 0 223 (dk_at dksX1_unkey_1 17 rfl rfl)
theorem dX1_unkey_44 : decode cX1_unkey 44 = .ok (.astore 5, 2) := dk_58 5 (dk_at dksX1_unkey_1 20 rfl rfl)
theorem dX1_unkey_46 : decode cX1_unkey 46 = .ok (.aload_n 0, 1) := dk_42 (dk_at dksX1_unkey_1 22 rfl rfl)
theorem dX1_unkey_47 : decode cX1_unkey 47 = .ok (.getfield 31, 3) := dk_180 0 31 (dk_at dksX1_unkey_2 0 rfl rfl)
theorem dX1_unkey_50 : decode cX1_unkey 50 = .ok (.invokeinterface 54 1, 5) := by decide +kernel
theorem dX1_unkey_55 : decode cX1_unkey 55 = .ok (.aload 5, 2) := dk_25 5 (dk_at dksX1_unkey_2 8 rfl rfl)
theorem dX1_unkey_57 : decode cX1_unkey 57 = .ok (.getfield 231, 3) := dk_180 0 231 (dk_at dksX1_unkey_2 10 rfl rfl)
theorem dX1_unkey_60 : decode cX1_unkey 60 = .ok (.ireturn, 1) := dk_172 (dk_at dksX1_unkey_2 13 rfl rfl)
abbrev cX1_value : ByteArray := prog_1_method_26_code
def yX1_value : MethodName := ⟨RX1, "value", "(III)I"⟩
def dkwX1_value_0 : List UInt8 := [42, 27, 28, 182, 0, 202, 58, 4, 29, 184, 0, 206, 42, 180, 0, 27, 27, 50, 28, 29, 182, 0, 232, 172]
abbrev dktX1_value_0 : List UInt8 := dkwX1_value_0 ++ []
theorem dksX1_value_0 : cX1_value.data.toList.drop 0 = dktX1_value_0 := by decide +kernel
theorem dX1_value_0 : decode cX1_value 0 = .ok (.aload_n 0, 1) := dk_42 (dk_at dksX1_value_0 0 rfl rfl)
theorem dX1_value_1 : decode cX1_value 1 = .ok (.iload_n 1, 1) := dk_27 (dk_at dksX1_value_0 1 rfl rfl)
theorem dX1_value_2 : decode cX1_value 2 = .ok (.iload_n 2, 1) := dk_28 (dk_at dksX1_value_0 2 rfl rfl)
theorem dX1_value_3 : decode cX1_value 3 = .ok (.invokevirtual 202, 3) := dk_182 0 202 (dk_at dksX1_value_0 3 rfl rfl)
theorem dX1_value_6 : decode cX1_value 6 = .ok (.astore 4, 2) := dk_58 4 (dk_at dksX1_value_0 6 rfl rfl)
theorem dX1_value_8 : decode cX1_value 8 = .ok (.iload_n 3, 1) := dk_29 (dk_at dksX1_value_0 8 rfl rfl)
theorem dX1_value_9 : decode cX1_value 9 = .ok (.invokestatic 206, 3) := dk_184 0 206 (dk_at dksX1_value_0 9 rfl rfl)
theorem dX1_value_12 : decode cX1_value 12 = .ok (.aload_n 0, 1) := dk_42 (dk_at dksX1_value_0 12 rfl rfl)
theorem dX1_value_13 : decode cX1_value 13 = .ok (.getfield 27, 3) := dk_180 0 27 (dk_at dksX1_value_0 13 rfl rfl)
theorem dX1_value_16 : decode cX1_value 16 = .ok (.iload_n 1, 1) := dk_27 (dk_at dksX1_value_0 16 rfl rfl)
theorem dX1_value_17 : decode cX1_value 17 = .ok (.aaload, 1) := dk_50 (dk_at dksX1_value_0 17 rfl rfl)
theorem dX1_value_18 : decode cX1_value 18 = .ok (.iload_n 2, 1) := dk_28 (dk_at dksX1_value_0 18 rfl rfl)
theorem dX1_value_19 : decode cX1_value 19 = .ok (.iload_n 3, 1) := dk_29 (dk_at dksX1_value_0 19 rfl rfl)
theorem dX1_value_20 : decode cX1_value 20 = .ok (.invokevirtual 232, 3) := dk_182 0 232 (dk_at dksX1_value_0 20 rfl rfl)
theorem dX1_value_23 : decode cX1_value 23 = .ok (.ireturn, 1) := dk_172 (dk_at dksX1_value_0 23 rfl rfl)
abbrev cX1_map : ByteArray := prog_1_method_27_code
def yX1_map : MethodName := ⟨RX1, "map", "(IIIIZ)J"⟩
def dkwX1_map_3 : List UInt8 := [167, 0, 4, 3, 47, 173]
abbrev dktX1_map_3 : List UInt8 := dkwX1_map_3 ++ []
def dkwX1_map_2 : List UInt8 := [25, 6, 28, 1, 29, 133, 21, 4, 133, 25, 7, 182, 0, 235, 25, 7, 21, 5, 153, 0, 7, 4]
abbrev dktX1_map_2 : List UInt8 := dkwX1_map_2 ++ dktX1_map_3
def dkwX1_map_1 : List UInt8 := [18, 209, 18, 210, 184, 0, 65, 153, 0, 7, 4, 167, 0, 4, 3, 184, 0, 102, 5, 188, 11, 58, 7]
abbrev dktX1_map_1 : List UInt8 := dkwX1_map_1 ++ dktX1_map_2
def dkwX1_map_0 : List UInt8 := [42, 27, 182, 0, 119, 58, 6, 28, 184, 0, 206, 29, 18, 209, 18, 210, 184, 0, 65, 153, 0, 19, 21, 4]
abbrev dktX1_map_0 : List UInt8 := dkwX1_map_0 ++ dktX1_map_1
theorem dksX1_map_0 : cX1_map.data.toList.drop 0 = dktX1_map_0 := by decide +kernel
theorem dksX1_map_1 : cX1_map.data.toList.drop 24 = dktX1_map_1 := dk_seg dksX1_map_0 24 rfl rfl
theorem dksX1_map_2 : cX1_map.data.toList.drop 47 = dktX1_map_2 := dk_seg dksX1_map_1 23 rfl rfl
theorem dksX1_map_3 : cX1_map.data.toList.drop 69 = dktX1_map_3 := dk_seg dksX1_map_2 22 rfl rfl
theorem dX1_map_0 : decode cX1_map 0 = .ok (.aload_n 0, 1) := dk_42 (dk_at dksX1_map_0 0 rfl rfl)
theorem dX1_map_1 : decode cX1_map 1 = .ok (.iload_n 1, 1) := dk_27 (dk_at dksX1_map_0 1 rfl rfl)
theorem dX1_map_2 : decode cX1_map 2 = .ok (.invokevirtual 119, 3) := dk_182 0 119 (dk_at dksX1_map_0 2 rfl rfl)
theorem dX1_map_5 : decode cX1_map 5 = .ok (.astore 6, 2) := dk_58 6 (dk_at dksX1_map_0 5 rfl rfl)
theorem dX1_map_7 : decode cX1_map 7 = .ok (.iload_n 2, 1) := dk_28 (dk_at dksX1_map_0 7 rfl rfl)
theorem dX1_map_8 : decode cX1_map 8 = .ok (.invokestatic 206, 3) := dk_184 0 206 (dk_at dksX1_map_0 8 rfl rfl)
theorem dX1_map_11 : decode cX1_map 11 = .ok (.iload_n 3, 1) := dk_29 (dk_at dksX1_map_0 11 rfl rfl)
theorem dX1_map_12 : decode cX1_map 12 = .ok (.ldc 209, 2) := dk_18 209 (dk_at dksX1_map_0 12 rfl rfl)
theorem dX1_map_14 : decode cX1_map 14 = .ok (.ldc 210, 2) := dk_18 210 (dk_at dksX1_map_0 14 rfl rfl)
theorem dX1_map_16 : decode cX1_map 16 = .ok (.invokestatic 65, 3) := dk_184 0 65 (dk_at dksX1_map_0 16 rfl rfl)
theorem dX1_map_19 : decode cX1_map 19 = .ok (.ifCond .eq 19, 3) := dk_153 0 19 (dk_at dksX1_map_0 19 rfl rfl)
theorem dX1_map_22 : decode cX1_map 22 = .ok (.iload 4, 2) := dk_21 4 (dk_at dksX1_map_0 22 rfl rfl)
theorem dX1_map_24 : decode cX1_map 24 = .ok (.ldc 209, 2) := dk_18 209 (dk_at dksX1_map_1 0 rfl rfl)
theorem dX1_map_26 : decode cX1_map 26 = .ok (.ldc 210, 2) := dk_18 210 (dk_at dksX1_map_1 2 rfl rfl)
theorem dX1_map_28 : decode cX1_map 28 = .ok (.invokestatic 65, 3) := dk_184 0 65 (dk_at dksX1_map_1 4 rfl rfl)
theorem dX1_map_31 : decode cX1_map 31 = .ok (.ifCond .eq 7, 3) := dk_153 0 7 (dk_at dksX1_map_1 7 rfl rfl)
theorem dX1_map_34 : decode cX1_map 34 = .ok (.iconst 1, 1) := dk_4 (dk_at dksX1_map_1 10 rfl rfl)
theorem dX1_map_35 : decode cX1_map 35 = .ok (.goto 4, 3) := dk_167 0 4 (dk_at dksX1_map_1 11 rfl rfl)
theorem dX1_map_38 : decode cX1_map 38 = .ok (.iconst 0, 1) := dk_3 (dk_at dksX1_map_1 14 rfl rfl)
theorem dX1_map_39 : decode cX1_map 39 = .ok (.invokestatic 102, 3) := dk_184 0 102 (dk_at dksX1_map_1 15 rfl rfl)
theorem dX1_map_42 : decode cX1_map 42 = .ok (.iconst 2, 1) := dk_5 (dk_at dksX1_map_1 18 rfl rfl)
theorem dX1_map_43 : decode cX1_map 43 = .ok (.newarray .long, 2) := dk_188_11 (dk_at dksX1_map_1 19 rfl rfl)
theorem dX1_map_45 : decode cX1_map 45 = .ok (.astore 7, 2) := dk_58 7 (dk_at dksX1_map_1 21 rfl rfl)
theorem dX1_map_47 : decode cX1_map 47 = .ok (.aload 6, 2) := dk_25 6 (dk_at dksX1_map_2 0 rfl rfl)
theorem dX1_map_49 : decode cX1_map 49 = .ok (.iload_n 2, 1) := dk_28 (dk_at dksX1_map_2 2 rfl rfl)
theorem dX1_map_50 : decode cX1_map 50 = .ok (.aconst_null, 1) := dk_1 (dk_at dksX1_map_2 3 rfl rfl)
theorem dX1_map_51 : decode cX1_map 51 = .ok (.iload_n 3, 1) := dk_29 (dk_at dksX1_map_2 4 rfl rfl)
theorem dX1_map_52 : decode cX1_map 52 = .ok (.i2l, 1) := dk_133 (dk_at dksX1_map_2 5 rfl rfl)
theorem dX1_map_53 : decode cX1_map 53 = .ok (.iload 4, 2) := dk_21 4 (dk_at dksX1_map_2 6 rfl rfl)
theorem dX1_map_55 : decode cX1_map 55 = .ok (.i2l, 1) := dk_133 (dk_at dksX1_map_2 8 rfl rfl)
theorem dX1_map_56 : decode cX1_map 56 = .ok (.aload 7, 2) := dk_25 7 (dk_at dksX1_map_2 9 rfl rfl)
theorem dX1_map_58 : decode cX1_map 58 = .ok (.invokevirtual 235, 3) := dk_182 0 235 (dk_at dksX1_map_2 11 rfl rfl)
theorem dX1_map_61 : decode cX1_map 61 = .ok (.aload 7, 2) := dk_25 7 (dk_at dksX1_map_2 14 rfl rfl)
theorem dX1_map_63 : decode cX1_map 63 = .ok (.iload 5, 2) := dk_21 5 (dk_at dksX1_map_2 16 rfl rfl)
theorem dX1_map_65 : decode cX1_map 65 = .ok (.ifCond .eq 7, 3) := dk_153 0 7 (dk_at dksX1_map_2 18 rfl rfl)
theorem dX1_map_68 : decode cX1_map 68 = .ok (.iconst 1, 1) := dk_4 (dk_at dksX1_map_2 21 rfl rfl)
theorem dX1_map_69 : decode cX1_map 69 = .ok (.goto 4, 3) := dk_167 0 4 (dk_at dksX1_map_3 0 rfl rfl)
theorem dX1_map_72 : decode cX1_map 72 = .ok (.iconst 0, 1) := dk_3 (dk_at dksX1_map_3 3 rfl rfl)
theorem dX1_map_73 : decode cX1_map 73 = .ok (.laload, 1) := dk_47 (dk_at dksX1_map_3 4 rfl rfl)
theorem dX1_map_74 : decode cX1_map 74 = .ok (.lreturn, 1) := dk_173 (dk_at dksX1_map_3 5 rfl rfl)
abbrev cX1_left : ByteArray := prog_1_method_28_code
def yX1_left : MethodName := ⟨RX1, "left", "(II)I"⟩
def dkwX1_left_1 : List UInt8 := [25, 4, 28, 182, 0, 239, 167, 0, 4, 3, 172]
abbrev dktX1_left_1 : List UInt8 := dkwX1_left_1 ++ []
def dkwX1_left_0 : List UInt8 := [42, 27, 182, 0, 119, 78, 28, 184, 0, 206, 45, 193, 0, 114, 153, 0, 18, 45, 192, 0, 114, 58, 4]
abbrev dktX1_left_0 : List UInt8 := dkwX1_left_0 ++ dktX1_left_1
theorem dksX1_left_0 : cX1_left.data.toList.drop 0 = dktX1_left_0 := by decide +kernel
theorem dksX1_left_1 : cX1_left.data.toList.drop 23 = dktX1_left_1 := dk_seg dksX1_left_0 23 rfl rfl
theorem dX1_left_0 : decode cX1_left 0 = .ok (.aload_n 0, 1) := dk_42 (dk_at dksX1_left_0 0 rfl rfl)
theorem dX1_left_1 : decode cX1_left 1 = .ok (.iload_n 1, 1) := dk_27 (dk_at dksX1_left_0 1 rfl rfl)
theorem dX1_left_2 : decode cX1_left 2 = .ok (.invokevirtual 119, 3) := dk_182 0 119 (dk_at dksX1_left_0 2 rfl rfl)
theorem dX1_left_5 : decode cX1_left 5 = .ok (.astore_n 3, 1) := dk_78 (dk_at dksX1_left_0 5 rfl rfl)
theorem dX1_left_6 : decode cX1_left 6 = .ok (.iload_n 2, 1) := dk_28 (dk_at dksX1_left_0 6 rfl rfl)
theorem dX1_left_7 : decode cX1_left 7 = .ok (.invokestatic 206, 3) := dk_184 0 206 (dk_at dksX1_left_0 7 rfl rfl)
theorem dX1_left_10 : decode cX1_left 10 = .ok (.aload_n 3, 1) := dk_45 (dk_at dksX1_left_0 10 rfl rfl)
theorem dX1_left_11 : decode cX1_left 11 = .ok (.instanceof 114, 3) := dk_193 0 114 (dk_at dksX1_left_0 11 rfl rfl)
theorem dX1_left_14 : decode cX1_left 14 = .ok (.ifCond .eq 18, 3) := dk_153 0 18 (dk_at dksX1_left_0 14 rfl rfl)
theorem dX1_left_17 : decode cX1_left 17 = .ok (.aload_n 3, 1) := dk_45 (dk_at dksX1_left_0 17 rfl rfl)
theorem dX1_left_18 : decode cX1_left 18 = .ok (.checkcast 114, 3) := dk_192 0 114 (dk_at dksX1_left_0 18 rfl rfl)
theorem dX1_left_21 : decode cX1_left 21 = .ok (.astore 4, 2) := dk_58 4 (dk_at dksX1_left_0 21 rfl rfl)
theorem dX1_left_23 : decode cX1_left 23 = .ok (.aload 4, 2) := dk_25 4 (dk_at dksX1_left_1 0 rfl rfl)
theorem dX1_left_25 : decode cX1_left 25 = .ok (.iload_n 2, 1) := dk_28 (dk_at dksX1_left_1 2 rfl rfl)
theorem dX1_left_26 : decode cX1_left 26 = .ok (.invokevirtual 239, 3) := dk_182 0 239 (dk_at dksX1_left_1 3 rfl rfl)
theorem dX1_left_29 : decode cX1_left 29 = .ok (.goto 4, 3) := dk_167 0 4 (dk_at dksX1_left_1 6 rfl rfl)
theorem dX1_left_32 : decode cX1_left 32 = .ok (.iconst 0, 1) := dk_3 (dk_at dksX1_left_1 9 rfl rfl)
theorem dX1_left_33 : decode cX1_left 33 = .ok (.ireturn, 1) := dk_172 (dk_at dksX1_left_1 10 rfl rfl)
abbrev cX1_cell : ByteArray := prog_1_method_32_code
def yX1_cell : MethodName := ⟨RX1, "cell", "(IIII)I"⟩
def dkwX1_cell_2 : List UInt8 := [21, 4, 182, 1, 16, 172]
abbrev dktX1_cell_2 : List UInt8 := dkwX1_cell_2 ++ []
def dkwX1_cell_1 : List UInt8 := [16, 11, 184, 0, 65, 153, 0, 7, 4, 167, 0, 4, 3, 184, 0, 102, 42, 25, 5, 28, 182, 1, 13, 29]
abbrev dktX1_cell_1 : List UInt8 := dkwX1_cell_1 ++ dktX1_cell_2
def dkwX1_cell_0 : List UInt8 := [42, 27, 182, 0, 98, 58, 5, 28, 184, 0, 206, 29, 3, 16, 15, 184, 0, 65, 153, 0, 18, 21, 4, 3]
abbrev dktX1_cell_0 : List UInt8 := dkwX1_cell_0 ++ dktX1_cell_1
theorem dksX1_cell_0 : cX1_cell.data.toList.drop 0 = dktX1_cell_0 := by decide +kernel
theorem dksX1_cell_1 : cX1_cell.data.toList.drop 24 = dktX1_cell_1 := dk_seg dksX1_cell_0 24 rfl rfl
theorem dksX1_cell_2 : cX1_cell.data.toList.drop 48 = dktX1_cell_2 := dk_seg dksX1_cell_1 24 rfl rfl
theorem dX1_cell_0 : decode cX1_cell 0 = .ok (.aload_n 0, 1) := dk_42 (dk_at dksX1_cell_0 0 rfl rfl)
theorem dX1_cell_1 : decode cX1_cell 1 = .ok (.iload_n 1, 1) := dk_27 (dk_at dksX1_cell_0 1 rfl rfl)
theorem dX1_cell_2 : decode cX1_cell 2 = .ok (.invokevirtual 98, 3) := dk_182 0 98 (dk_at dksX1_cell_0 2 rfl rfl)
theorem dX1_cell_5 : decode cX1_cell 5 = .ok (.astore 5, 2) := dk_58 5 (dk_at dksX1_cell_0 5 rfl rfl)
theorem dX1_cell_7 : decode cX1_cell 7 = .ok (.iload_n 2, 1) := dk_28 (dk_at dksX1_cell_0 7 rfl rfl)
theorem dX1_cell_8 : decode cX1_cell 8 = .ok (.invokestatic 206, 3) := dk_184 0 206 (dk_at dksX1_cell_0 8 rfl rfl)
theorem dX1_cell_11 : decode cX1_cell 11 = .ok (.iload_n 3, 1) := dk_29 (dk_at dksX1_cell_0 11 rfl rfl)
theorem dX1_cell_12 : decode cX1_cell 12 = .ok (.iconst 0, 1) := dk_3 (dk_at dksX1_cell_0 12 rfl rfl)
theorem dX1_cell_13 : decode cX1_cell 13 = .ok (.bipush 15, 2) := dk_16 15 (dk_at dksX1_cell_0 13 rfl rfl)
theorem dX1_cell_15 : decode cX1_cell 15 = .ok (.invokestatic 65, 3) := dk_184 0 65 (dk_at dksX1_cell_0 15 rfl rfl)
theorem dX1_cell_18 : decode cX1_cell 18 = .ok (.ifCond .eq 18, 3) := dk_153 0 18 (dk_at dksX1_cell_0 18 rfl rfl)
theorem dX1_cell_21 : decode cX1_cell 21 = .ok (.iload 4, 2) := dk_21 4 (dk_at dksX1_cell_0 21 rfl rfl)
theorem dX1_cell_23 : decode cX1_cell 23 = .ok (.iconst 0, 1) := dk_3 (dk_at dksX1_cell_0 23 rfl rfl)
theorem dX1_cell_24 : decode cX1_cell 24 = .ok (.bipush 11, 2) := dk_16 11 (dk_at dksX1_cell_1 0 rfl rfl)
theorem dX1_cell_26 : decode cX1_cell 26 = .ok (.invokestatic 65, 3) := dk_184 0 65 (dk_at dksX1_cell_1 2 rfl rfl)
theorem dX1_cell_29 : decode cX1_cell 29 = .ok (.ifCond .eq 7, 3) := dk_153 0 7 (dk_at dksX1_cell_1 5 rfl rfl)
theorem dX1_cell_32 : decode cX1_cell 32 = .ok (.iconst 1, 1) := dk_4 (dk_at dksX1_cell_1 8 rfl rfl)
theorem dX1_cell_33 : decode cX1_cell 33 = .ok (.goto 4, 3) := dk_167 0 4 (dk_at dksX1_cell_1 9 rfl rfl)
theorem dX1_cell_36 : decode cX1_cell 36 = .ok (.iconst 0, 1) := dk_3 (dk_at dksX1_cell_1 12 rfl rfl)
theorem dX1_cell_37 : decode cX1_cell 37 = .ok (.invokestatic 102, 3) := dk_184 0 102 (dk_at dksX1_cell_1 13 rfl rfl)
theorem dX1_cell_40 : decode cX1_cell 40 = .ok (.aload_n 0, 1) := dk_42 (dk_at dksX1_cell_1 16 rfl rfl)
theorem dX1_cell_41 : decode cX1_cell 41 = .ok (.aload 5, 2) := dk_25 5 (dk_at dksX1_cell_1 17 rfl rfl)
theorem dX1_cell_43 : decode cX1_cell 43 = .ok (.iload_n 2, 1) := dk_28 (dk_at dksX1_cell_1 19 rfl rfl)
theorem dX1_cell_44 : decode cX1_cell 44 = .ok (.invokevirtual 269, 3) := dk_182 1 13 (dk_at dksX1_cell_1 20 rfl rfl)
theorem dX1_cell_47 : decode cX1_cell 47 = .ok (.iload_n 3, 1) := dk_29 (dk_at dksX1_cell_1 23 rfl rfl)
theorem dX1_cell_48 : decode cX1_cell 48 = .ok (.iload 4, 2) := dk_21 4 (dk_at dksX1_cell_2 0 rfl rfl)
theorem dX1_cell_50 : decode cX1_cell 50 = .ok (.invokevirtual 272, 3) := dk_182 1 16 (dk_at dksX1_cell_2 2 rfl rfl)
theorem dX1_cell_53 : decode cX1_cell 53 = .ok (.ireturn, 1) := dk_172 (dk_at dksX1_cell_2 5 rfl rfl)
abbrev cX1_frame : ByteArray := prog_1_method_30_code
def yX1_frame : MethodName := ⟨RX1, "frame", "(LShapelayer$Composition;I)LShapelayer$Raster;"⟩
def dkwX1_frame_6 : List UInt8 := [185, 0, 84, 2, 0, 87, 45, 180, 1, 0, 176]
abbrev dktX1_frame_6 : List UInt8 := dkwX1_frame_6 ++ []
def dkwX1_frame_5 : List UInt8 := [187, 0, 249, 89, 43, 28, 42, 43, 28, 182, 1, 3, 182, 1, 7, 183, 1, 10, 78, 42, 180, 0, 31, 45]
abbrev dktX1_frame_5 : List UInt8 := dkwX1_frame_5 ++ dktX1_frame_6
def dkwX1_frame_4 : List UInt8 := [185, 0, 48, 1, 0, 16, 6, 160, 0, 17, 42, 180, 0, 31, 3, 185, 0, 176, 2, 0, 192, 0, 249, 78]
abbrev dktX1_frame_4 : List UInt8 := dkwX1_frame_4 ++ dktX1_frame_5
def dkwX1_frame_3 : List UInt8 := [185, 0, 73, 2, 0, 192, 0, 249, 180, 1, 0, 176, 132, 3, 1, 167, 255, 183, 42, 180, 0, 31]
abbrev dktX1_frame_3 : List UInt8 := dkwX1_frame_3 ++ dktX1_frame_4
def dkwX1_frame_2 : List UInt8 := [185, 0, 73, 2, 0, 192, 0, 249, 180, 0, 253, 28, 160, 0, 20, 42, 180, 0, 31, 29]
abbrev dktX1_frame_2 : List UInt8 := dkwX1_frame_2 ++ dktX1_frame_3
def dkwX1_frame_1 : List UInt8 := [185, 0, 73, 2, 0, 192, 0, 249, 180, 0, 251, 43, 166, 0, 40, 42, 180, 0, 31, 29]
abbrev dktX1_frame_1 : List UInt8 := dkwX1_frame_1 ++ dktX1_frame_2
def dkwX1_frame_0 : List UInt8 := [3, 62, 29, 42, 180, 0, 31, 185, 0, 48, 1, 0, 162, 0, 66, 42, 180, 0, 31, 29]
abbrev dktX1_frame_0 : List UInt8 := dkwX1_frame_0 ++ dktX1_frame_1
theorem dksX1_frame_0 : cX1_frame.data.toList.drop 0 = dktX1_frame_0 := by decide +kernel
theorem dksX1_frame_1 : cX1_frame.data.toList.drop 20 = dktX1_frame_1 := dk_seg dksX1_frame_0 20 rfl rfl
theorem dksX1_frame_2 : cX1_frame.data.toList.drop 40 = dktX1_frame_2 := dk_seg dksX1_frame_1 20 rfl rfl
theorem dksX1_frame_3 : cX1_frame.data.toList.drop 60 = dktX1_frame_3 := dk_seg dksX1_frame_2 20 rfl rfl
theorem dksX1_frame_4 : cX1_frame.data.toList.drop 82 = dktX1_frame_4 := dk_seg dksX1_frame_3 22 rfl rfl
theorem dksX1_frame_5 : cX1_frame.data.toList.drop 106 = dktX1_frame_5 := dk_seg dksX1_frame_4 24 rfl rfl
theorem dksX1_frame_6 : cX1_frame.data.toList.drop 130 = dktX1_frame_6 := dk_seg dksX1_frame_5 24 rfl rfl
theorem dX1_frame_0 : decode cX1_frame 0 = .ok (.iconst 0, 1) := dk_3 (dk_at dksX1_frame_0 0 rfl rfl)
theorem dX1_frame_1 : decode cX1_frame 1 = .ok (.istore_n 3, 1) := dk_62 (dk_at dksX1_frame_0 1 rfl rfl)
theorem dX1_frame_2 : decode cX1_frame 2 = .ok (.iload_n 3, 1) := dk_29 (dk_at dksX1_frame_0 2 rfl rfl)
theorem dX1_frame_3 : decode cX1_frame 3 = .ok (.aload_n 0, 1) := dk_42 (dk_at dksX1_frame_0 3 rfl rfl)
theorem dX1_frame_4 : decode cX1_frame 4 = .ok (.getfield 31, 3) := dk_180 0 31 (dk_at dksX1_frame_0 4 rfl rfl)
theorem dX1_frame_7 : decode cX1_frame 7 = .ok (.invokeinterface 48 1, 5) := by decide +kernel
theorem dX1_frame_12 : decode cX1_frame 12 = .ok (.if_icmp .ge 66, 3) := dk_162 0 66 (dk_at dksX1_frame_0 12 rfl rfl)
theorem dX1_frame_15 : decode cX1_frame 15 = .ok (.aload_n 0, 1) := dk_42 (dk_at dksX1_frame_0 15 rfl rfl)
theorem dX1_frame_16 : decode cX1_frame 16 = .ok (.getfield 31, 3) := dk_180 0 31 (dk_at dksX1_frame_0 16 rfl rfl)
theorem dX1_frame_19 : decode cX1_frame 19 = .ok (.iload_n 3, 1) := dk_29 (dk_at dksX1_frame_0 19 rfl rfl)
theorem dX1_frame_20 : decode cX1_frame 20 = .ok (.invokeinterface 73 2, 5) := by decide +kernel
theorem dX1_frame_25 : decode cX1_frame 25 = .ok (.checkcast 249, 3) := dk_192 0 249 (dk_at dksX1_frame_1 5 rfl rfl)
theorem dX1_frame_28 : decode cX1_frame 28 = .ok (.getfield 251, 3) := dk_180 0 251 (dk_at dksX1_frame_1 8 rfl rfl)
theorem dX1_frame_31 : decode cX1_frame 31 = .ok (.aload_n 1, 1) := dk_43 (dk_at dksX1_frame_1 11 rfl rfl)
theorem dX1_frame_32 : decode cX1_frame 32 = .ok (.if_acmp .ne 40, 3) := dk_166 0 40 (dk_at dksX1_frame_1 12 rfl rfl)
theorem dX1_frame_35 : decode cX1_frame 35 = .ok (.aload_n 0, 1) := dk_42 (dk_at dksX1_frame_1 15 rfl rfl)
theorem dX1_frame_36 : decode cX1_frame 36 = .ok (.getfield 31, 3) := dk_180 0 31 (dk_at dksX1_frame_1 16 rfl rfl)
theorem dX1_frame_39 : decode cX1_frame 39 = .ok (.iload_n 3, 1) := dk_29 (dk_at dksX1_frame_1 19 rfl rfl)
theorem dX1_frame_40 : decode cX1_frame 40 = .ok (.invokeinterface 73 2, 5) := by decide +kernel
theorem dX1_frame_45 : decode cX1_frame 45 = .ok (.checkcast 249, 3) := dk_192 0 249 (dk_at dksX1_frame_2 5 rfl rfl)
theorem dX1_frame_48 : decode cX1_frame 48 = .ok (.getfield 253, 3) := dk_180 0 253 (dk_at dksX1_frame_2 8 rfl rfl)
theorem dX1_frame_51 : decode cX1_frame 51 = .ok (.iload_n 2, 1) := dk_28 (dk_at dksX1_frame_2 11 rfl rfl)
theorem dX1_frame_52 : decode cX1_frame 52 = .ok (.if_icmp .ne 20, 3) := dk_160 0 20 (dk_at dksX1_frame_2 12 rfl rfl)
theorem dX1_frame_55 : decode cX1_frame 55 = .ok (.aload_n 0, 1) := dk_42 (dk_at dksX1_frame_2 15 rfl rfl)
theorem dX1_frame_56 : decode cX1_frame 56 = .ok (.getfield 31, 3) := dk_180 0 31 (dk_at dksX1_frame_2 16 rfl rfl)
theorem dX1_frame_59 : decode cX1_frame 59 = .ok (.iload_n 3, 1) := dk_29 (dk_at dksX1_frame_2 19 rfl rfl)
theorem dX1_frame_60 : decode cX1_frame 60 = .ok (.invokeinterface 73 2, 5) := by decide +kernel
theorem dX1_frame_65 : decode cX1_frame 65 = .ok (.checkcast 249, 3) := dk_192 0 249 (dk_at dksX1_frame_3 5 rfl rfl)
theorem dX1_frame_68 : decode cX1_frame 68 = .ok (.getfield 256, 3) := dk_180 1 0 (dk_at dksX1_frame_3 8 rfl rfl)
theorem dX1_frame_71 : decode cX1_frame 71 = .ok (.areturn, 1) := dk_176 (dk_at dksX1_frame_3 11 rfl rfl)
theorem dX1_frame_72 : decode cX1_frame 72 = .ok (.iinc 3 1, 3) := dk_132 3 1 (dk_at dksX1_frame_3 12 rfl rfl)
theorem dX1_frame_75 : decode cX1_frame 75 = .ok (.goto (-73), 3) := dk_167 255 183 (dk_at dksX1_frame_3 15 rfl rfl)
theorem dX1_frame_78 : decode cX1_frame 78 = .ok (.aload_n 0, 1) := dk_42 (dk_at dksX1_frame_3 18 rfl rfl)
theorem dX1_frame_79 : decode cX1_frame 79 = .ok (.getfield 31, 3) := dk_180 0 31 (dk_at dksX1_frame_3 19 rfl rfl)
theorem dX1_frame_82 : decode cX1_frame 82 = .ok (.invokeinterface 48 1, 5) := by decide +kernel
theorem dX1_frame_87 : decode cX1_frame 87 = .ok (.bipush 6, 2) := dk_16 6 (dk_at dksX1_frame_4 5 rfl rfl)
theorem dX1_frame_89 : decode cX1_frame 89 = .ok (.if_icmp .ne 17, 3) := dk_160 0 17 (dk_at dksX1_frame_4 7 rfl rfl)
theorem dX1_frame_92 : decode cX1_frame 92 = .ok (.aload_n 0, 1) := dk_42 (dk_at dksX1_frame_4 10 rfl rfl)
theorem dX1_frame_93 : decode cX1_frame 93 = .ok (.getfield 31, 3) := dk_180 0 31 (dk_at dksX1_frame_4 11 rfl rfl)
theorem dX1_frame_96 : decode cX1_frame 96 = .ok (.iconst 0, 1) := dk_3 (dk_at dksX1_frame_4 14 rfl rfl)
theorem dX1_frame_97 : decode cX1_frame 97 = .ok (.invokeinterface 176 2, 5) := by decide +kernel
theorem dX1_frame_102 : decode cX1_frame 102 = .ok (.checkcast 249, 3) := dk_192 0 249 (dk_at dksX1_frame_4 20 rfl rfl)
theorem dX1_frame_105 : decode cX1_frame 105 = .ok (.astore_n 3, 1) := dk_78 (dk_at dksX1_frame_4 23 rfl rfl)
theorem dX1_frame_106 : decode cX1_frame 106 = .ok (.new 249, 3) := dk_187 0 249 (dk_at dksX1_frame_5 0 rfl rfl)
theorem dX1_frame_109 : decode cX1_frame 109 = .ok (.dup, 1) := dk_89 (dk_at dksX1_frame_5 3 rfl rfl)
theorem dX1_frame_110 : decode cX1_frame 110 = .ok (.aload_n 1, 1) := dk_43 (dk_at dksX1_frame_5 4 rfl rfl)
theorem dX1_frame_111 : decode cX1_frame 111 = .ok (.iload_n 2, 1) := dk_28 (dk_at dksX1_frame_5 5 rfl rfl)
theorem dX1_frame_112 : decode cX1_frame 112 = .ok (.aload_n 0, 1) := dk_42 (dk_at dksX1_frame_5 6 rfl rfl)
theorem dX1_frame_113 : decode cX1_frame 113 = .ok (.aload_n 1, 1) := dk_43 (dk_at dksX1_frame_5 7 rfl rfl)
theorem dX1_frame_114 : decode cX1_frame 114 = .ok (.iload_n 2, 1) := dk_28 (dk_at dksX1_frame_5 8 rfl rfl)
theorem dX1_frame_115 : decode cX1_frame 115 = .ok (.invokevirtual 259, 3) := dk_182 1 3 (dk_at dksX1_frame_5 9 rfl rfl)
theorem dX1_frame_118 : decode cX1_frame 118 = .ok (.invokevirtual 263, 3) := dk_182 1 7 (dk_at dksX1_frame_5 12 rfl rfl)
theorem dX1_frame_121 : decode cX1_frame 121 = .ok (.invokespecial 266, 3) := dk_183 1 10 (dk_at dksX1_frame_5 15 rfl rfl)
theorem dX1_frame_124 : decode cX1_frame 124 = .ok (.astore_n 3, 1) := dk_78 (dk_at dksX1_frame_5 18 rfl rfl)
theorem dX1_frame_125 : decode cX1_frame 125 = .ok (.aload_n 0, 1) := dk_42 (dk_at dksX1_frame_5 19 rfl rfl)
theorem dX1_frame_126 : decode cX1_frame 126 = .ok (.getfield 31, 3) := dk_180 0 31 (dk_at dksX1_frame_5 20 rfl rfl)
theorem dX1_frame_129 : decode cX1_frame 129 = .ok (.aload_n 3, 1) := dk_45 (dk_at dksX1_frame_5 23 rfl rfl)
theorem dX1_frame_130 : decode cX1_frame 130 = .ok (.invokeinterface 84 2, 5) := by decide +kernel
theorem dX1_frame_135 : decode cX1_frame 135 = .ok (.pop, 1) := dk_87 (dk_at dksX1_frame_6 5 rfl rfl)
theorem dX1_frame_136 : decode cX1_frame 136 = .ok (.aload_n 3, 1) := dk_45 (dk_at dksX1_frame_6 6 rfl rfl)
theorem dX1_frame_137 : decode cX1_frame 137 = .ok (.getfield 256, 3) := dk_180 1 0 (dk_at dksX1_frame_6 7 rfl rfl)
theorem dX1_frame_140 : decode cX1_frame 140 = .ok (.areturn, 1) := dk_176 (dk_at dksX1_frame_6 10 rfl rfl)
abbrev cX1_drawn : ByteArray := prog_1_method_29_code
def yX1_drawn : MethodName := ⟨RX1, "drawn", "(LShapelayer$Composition;I)LShapelayer$Raster;"⟩
def dkwX1_drawn_0 : List UInt8 := [43, 28, 1, 42, 180, 0, 44, 182, 0, 242, 182, 0, 245, 42, 180, 0, 44, 176]
abbrev dktX1_drawn_0 : List UInt8 := dkwX1_drawn_0 ++ []
theorem dksX1_drawn_0 : cX1_drawn.data.toList.drop 0 = dktX1_drawn_0 := by decide +kernel
theorem dX1_drawn_0 : decode cX1_drawn 0 = .ok (.aload_n 1, 1) := dk_43 (dk_at dksX1_drawn_0 0 rfl rfl)
theorem dX1_drawn_1 : decode cX1_drawn 1 = .ok (.iload_n 2, 1) := dk_28 (dk_at dksX1_drawn_0 1 rfl rfl)
theorem dX1_drawn_2 : decode cX1_drawn 2 = .ok (.aconst_null, 1) := dk_1 (dk_at dksX1_drawn_0 2 rfl rfl)
theorem dX1_drawn_3 : decode cX1_drawn 3 = .ok (.aload_n 0, 1) := dk_42 (dk_at dksX1_drawn_0 3 rfl rfl)
theorem dX1_drawn_4 : decode cX1_drawn 4 = .ok (.getfield 44, 3) := dk_180 0 44 (dk_at dksX1_drawn_0 4 rfl rfl)
theorem dX1_drawn_7 : decode cX1_drawn 7 = .ok (.invokevirtual 242, 3) := dk_182 0 242 (dk_at dksX1_drawn_0 7 rfl rfl)
theorem dX1_drawn_10 : decode cX1_drawn 10 = .ok (.invokevirtual 245, 3) := dk_182 0 245 (dk_at dksX1_drawn_0 10 rfl rfl)
theorem dX1_drawn_13 : decode cX1_drawn 13 = .ok (.aload_n 0, 1) := dk_42 (dk_at dksX1_drawn_0 13 rfl rfl)
theorem dX1_drawn_14 : decode cX1_drawn 14 = .ok (.getfield 44, 3) := dk_180 0 44 (dk_at dksX1_drawn_0 14 rfl rfl)
theorem dX1_drawn_17 : decode cX1_drawn 17 = .ok (.areturn, 1) := dk_176 (dk_at dksX1_drawn_0 17 rfl rfl)
abbrev cX1_covered : ByteArray := prog_1_method_33_code
def yX1_covered : MethodName := ⟨RX1, "covered", "(II)I"⟩
def dkwX1_covered_0 : List UInt8 := [42, 27, 28, 182, 1, 19, 182, 1, 23, 172]
abbrev dktX1_covered_0 : List UInt8 := dkwX1_covered_0 ++ []
theorem dksX1_covered_0 : cX1_covered.data.toList.drop 0 = dktX1_covered_0 := by decide +kernel
theorem dX1_covered_0 : decode cX1_covered 0 = .ok (.aload_n 0, 1) := dk_42 (dk_at dksX1_covered_0 0 rfl rfl)
theorem dX1_covered_1 : decode cX1_covered 1 = .ok (.iload_n 1, 1) := dk_27 (dk_at dksX1_covered_0 1 rfl rfl)
theorem dX1_covered_2 : decode cX1_covered 2 = .ok (.iload_n 2, 1) := dk_28 (dk_at dksX1_covered_0 2 rfl rfl)
theorem dX1_covered_3 : decode cX1_covered 3 = .ok (.invokevirtual 275, 3) := dk_182 1 19 (dk_at dksX1_covered_0 3 rfl rfl)
theorem dX1_covered_6 : decode cX1_covered 6 = .ok (.invokevirtual 279, 3) := dk_182 1 23 (dk_at dksX1_covered_0 6 rfl rfl)
theorem dX1_covered_9 : decode cX1_covered 9 = .ok (.ireturn, 1) := dk_172 (dk_at dksX1_covered_0 9 rfl rfl)
abbrev cX1_asked : ByteArray := prog_1_method_31_code
def yX1_asked : MethodName := ⟨RX1, "asked", "(II)LShapelayer$Raster;"⟩
def dkwX1_asked_0 : List UInt8 := [42, 27, 182, 0, 98, 78, 28, 184, 0, 206, 42, 45, 28, 182, 1, 13, 176]
abbrev dktX1_asked_0 : List UInt8 := dkwX1_asked_0 ++ []
theorem dksX1_asked_0 : cX1_asked.data.toList.drop 0 = dktX1_asked_0 := by decide +kernel
theorem dX1_asked_0 : decode cX1_asked 0 = .ok (.aload_n 0, 1) := dk_42 (dk_at dksX1_asked_0 0 rfl rfl)
theorem dX1_asked_1 : decode cX1_asked 1 = .ok (.iload_n 1, 1) := dk_27 (dk_at dksX1_asked_0 1 rfl rfl)
theorem dX1_asked_2 : decode cX1_asked 2 = .ok (.invokevirtual 98, 3) := dk_182 0 98 (dk_at dksX1_asked_0 2 rfl rfl)
theorem dX1_asked_5 : decode cX1_asked 5 = .ok (.astore_n 3, 1) := dk_78 (dk_at dksX1_asked_0 5 rfl rfl)
theorem dX1_asked_6 : decode cX1_asked 6 = .ok (.iload_n 2, 1) := dk_28 (dk_at dksX1_asked_0 6 rfl rfl)
theorem dX1_asked_7 : decode cX1_asked 7 = .ok (.invokestatic 206, 3) := dk_184 0 206 (dk_at dksX1_asked_0 7 rfl rfl)
theorem dX1_asked_10 : decode cX1_asked 10 = .ok (.aload_n 0, 1) := dk_42 (dk_at dksX1_asked_0 10 rfl rfl)
theorem dX1_asked_11 : decode cX1_asked 11 = .ok (.aload_n 3, 1) := dk_45 (dk_at dksX1_asked_0 11 rfl rfl)
theorem dX1_asked_12 : decode cX1_asked 12 = .ok (.iload_n 2, 1) := dk_28 (dk_at dksX1_asked_0 12 rfl rfl)
theorem dX1_asked_13 : decode cX1_asked 13 = .ok (.invokevirtual 269, 3) := dk_182 1 13 (dk_at dksX1_asked_0 13 rfl rfl)
theorem dX1_asked_16 : decode cX1_asked 16 = .ok (.areturn, 1) := dk_176 (dk_at dksX1_asked_0 16 rfl rfl)
abbrev cX1_checksum : ByteArray := prog_1_method_34_code
def yX1_checksum : MethodName := ⟨RX1, "checksum", "(II)I"⟩
def dkwX1_checksum_2 : List UInt8 := [167, 255, 231, 29, 172]
abbrev dktX1_checksum_2 : List UInt8 := dkwX1_checksum_2 ++ []
def dkwX1_checksum_1 : List UInt8 := [21, 5, 162, 0, 24, 25, 4, 21, 6, 51, 54, 7, 16, 31, 29, 104, 21, 7, 96, 62, 132, 6, 1]
abbrev dktX1_checksum_1 : List UInt8 := dkwX1_checksum_1 ++ dktX1_checksum_2
def dkwX1_checksum_0 : List UInt8 := [3, 62, 42, 27, 28, 182, 1, 19, 180, 1, 26, 58, 4, 25, 4, 190, 54, 5, 3, 54, 6, 21, 6]
abbrev dktX1_checksum_0 : List UInt8 := dkwX1_checksum_0 ++ dktX1_checksum_1
theorem dksX1_checksum_0 : cX1_checksum.data.toList.drop 0 = dktX1_checksum_0 := by decide +kernel
theorem dksX1_checksum_1 : cX1_checksum.data.toList.drop 23 = dktX1_checksum_1 := dk_seg dksX1_checksum_0 23 rfl rfl
theorem dksX1_checksum_2 : cX1_checksum.data.toList.drop 46 = dktX1_checksum_2 := dk_seg dksX1_checksum_1 23 rfl rfl
theorem dX1_checksum_0 : decode cX1_checksum 0 = .ok (.iconst 0, 1) := dk_3 (dk_at dksX1_checksum_0 0 rfl rfl)
theorem dX1_checksum_1 : decode cX1_checksum 1 = .ok (.istore_n 3, 1) := dk_62 (dk_at dksX1_checksum_0 1 rfl rfl)
theorem dX1_checksum_2 : decode cX1_checksum 2 = .ok (.aload_n 0, 1) := dk_42 (dk_at dksX1_checksum_0 2 rfl rfl)
theorem dX1_checksum_3 : decode cX1_checksum 3 = .ok (.iload_n 1, 1) := dk_27 (dk_at dksX1_checksum_0 3 rfl rfl)
theorem dX1_checksum_4 : decode cX1_checksum 4 = .ok (.iload_n 2, 1) := dk_28 (dk_at dksX1_checksum_0 4 rfl rfl)
theorem dX1_checksum_5 : decode cX1_checksum 5 = .ok (.invokevirtual 275, 3) := dk_182 1 19 (dk_at dksX1_checksum_0 5 rfl rfl)
theorem dX1_checksum_8 : decode cX1_checksum 8 = .ok (.getfield 282, 3) := dk_180 1 26 (dk_at dksX1_checksum_0 8 rfl rfl)
theorem dX1_checksum_11 : decode cX1_checksum 11 = .ok (.astore 4, 2) := dk_58 4 (dk_at dksX1_checksum_0 11 rfl rfl)
theorem dX1_checksum_13 : decode cX1_checksum 13 = .ok (.aload 4, 2) := dk_25 4 (dk_at dksX1_checksum_0 13 rfl rfl)
theorem dX1_checksum_15 : decode cX1_checksum 15 = .ok (.arraylength, 1) := dk_190 (dk_at dksX1_checksum_0 15 rfl rfl)
theorem dX1_checksum_16 : decode cX1_checksum 16 = .ok (.istore 5, 2) := dk_54 5 (dk_at dksX1_checksum_0 16 rfl rfl)
theorem dX1_checksum_18 : decode cX1_checksum 18 = .ok (.iconst 0, 1) := dk_3 (dk_at dksX1_checksum_0 18 rfl rfl)
theorem dX1_checksum_19 : decode cX1_checksum 19 = .ok (.istore 6, 2) := dk_54 6 (dk_at dksX1_checksum_0 19 rfl rfl)
theorem dX1_checksum_21 : decode cX1_checksum 21 = .ok (.iload 6, 2) := dk_21 6 (dk_at dksX1_checksum_0 21 rfl rfl)
theorem dX1_checksum_23 : decode cX1_checksum 23 = .ok (.iload 5, 2) := dk_21 5 (dk_at dksX1_checksum_1 0 rfl rfl)
theorem dX1_checksum_25 : decode cX1_checksum 25 = .ok (.if_icmp .ge 24, 3) := dk_162 0 24 (dk_at dksX1_checksum_1 2 rfl rfl)
theorem dX1_checksum_28 : decode cX1_checksum 28 = .ok (.aload 4, 2) := dk_25 4 (dk_at dksX1_checksum_1 5 rfl rfl)
theorem dX1_checksum_30 : decode cX1_checksum 30 = .ok (.iload 6, 2) := dk_21 6 (dk_at dksX1_checksum_1 7 rfl rfl)
theorem dX1_checksum_32 : decode cX1_checksum 32 = .ok (.baload, 1) := dk_51 (dk_at dksX1_checksum_1 9 rfl rfl)
theorem dX1_checksum_33 : decode cX1_checksum 33 = .ok (.istore 7, 2) := dk_54 7 (dk_at dksX1_checksum_1 10 rfl rfl)
theorem dX1_checksum_35 : decode cX1_checksum 35 = .ok (.bipush 31, 2) := dk_16 31 (dk_at dksX1_checksum_1 12 rfl rfl)
theorem dX1_checksum_37 : decode cX1_checksum 37 = .ok (.iload_n 3, 1) := dk_29 (dk_at dksX1_checksum_1 14 rfl rfl)
theorem dX1_checksum_38 : decode cX1_checksum 38 = .ok (.imul, 1) := dk_104 (dk_at dksX1_checksum_1 15 rfl rfl)
theorem dX1_checksum_39 : decode cX1_checksum 39 = .ok (.iload 7, 2) := dk_21 7 (dk_at dksX1_checksum_1 16 rfl rfl)
theorem dX1_checksum_41 : decode cX1_checksum 41 = .ok (.iadd, 1) := dk_96 (dk_at dksX1_checksum_1 18 rfl rfl)
theorem dX1_checksum_42 : decode cX1_checksum 42 = .ok (.istore_n 3, 1) := dk_62 (dk_at dksX1_checksum_1 19 rfl rfl)
theorem dX1_checksum_43 : decode cX1_checksum 43 = .ok (.iinc 6 1, 3) := dk_132 6 1 (dk_at dksX1_checksum_1 20 rfl rfl)
theorem dX1_checksum_46 : decode cX1_checksum 46 = .ok (.goto (-25), 3) := dk_167 255 231 (dk_at dksX1_checksum_2 0 rfl rfl)
theorem dX1_checksum_49 : decode cX1_checksum 49 = .ok (.iload_n 3, 1) := dk_29 (dk_at dksX1_checksum_2 3 rfl rfl)
theorem dX1_checksum_50 : decode cX1_checksum 50 = .ok (.ireturn, 1) := dk_172 (dk_at dksX1_checksum_2 4 rfl rfl)
abbrev cX1_playErrors : ByteArray := prog_1_method_35_code
def yX1_playErrors : MethodName := ⟨RX1, "playErrors", "(III)I"⟩
def dkwX1_playErrors_3 : List UInt8 := [167, 255, 212, 21, 5, 172]
abbrev dktX1_playErrors_3 : List UInt8 := dkwX1_playErrors_3 ++ []
def dkwX1_playErrors_2 : List UInt8 := [182, 1, 13, 42, 25, 4, 21, 6, 182, 1, 3, 182, 1, 30, 154, 0, 6, 132, 5, 1, 132, 6, 1]
abbrev dktX1_playErrors_2 : List UInt8 := dkwX1_playErrors_2 ++ dktX1_playErrors_3
def dkwX1_playErrors_1 : List UInt8 := [28, 54, 6, 21, 6, 28, 29, 96, 162, 0, 42, 21, 6, 17, 3, 231, 163, 0, 34, 42, 25, 4, 21, 6]
abbrev dktX1_playErrors_1 : List UInt8 := dkwX1_playErrors_1 ++ dktX1_playErrors_2
def dkwX1_playErrors_0 : List UInt8 := [42, 27, 182, 0, 98, 58, 4, 28, 184, 0, 206, 29, 4, 16, 20, 184, 0, 65, 184, 0, 102, 3, 54, 5]
abbrev dktX1_playErrors_0 : List UInt8 := dkwX1_playErrors_0 ++ dktX1_playErrors_1
theorem dksX1_playErrors_0 : cX1_playErrors.data.toList.drop 0 = dktX1_playErrors_0 := by decide +kernel
theorem dksX1_playErrors_1 : cX1_playErrors.data.toList.drop 24 = dktX1_playErrors_1 := dk_seg dksX1_playErrors_0 24 rfl rfl
theorem dksX1_playErrors_2 : cX1_playErrors.data.toList.drop 48 = dktX1_playErrors_2 := dk_seg dksX1_playErrors_1 24 rfl rfl
theorem dksX1_playErrors_3 : cX1_playErrors.data.toList.drop 71 = dktX1_playErrors_3 := dk_seg dksX1_playErrors_2 23 rfl rfl
theorem dX1_playErrors_0 : decode cX1_playErrors 0 = .ok (.aload_n 0, 1) := dk_42 (dk_at dksX1_playErrors_0 0 rfl rfl)
theorem dX1_playErrors_1 : decode cX1_playErrors 1 = .ok (.iload_n 1, 1) := dk_27 (dk_at dksX1_playErrors_0 1 rfl rfl)
theorem dX1_playErrors_2 : decode cX1_playErrors 2 = .ok (.invokevirtual 98, 3) := dk_182 0 98 (dk_at dksX1_playErrors_0 2 rfl rfl)
theorem dX1_playErrors_5 : decode cX1_playErrors 5 = .ok (.astore 4, 2) := dk_58 4 (dk_at dksX1_playErrors_0 5 rfl rfl)
theorem dX1_playErrors_7 : decode cX1_playErrors 7 = .ok (.iload_n 2, 1) := dk_28 (dk_at dksX1_playErrors_0 7 rfl rfl)
theorem dX1_playErrors_8 : decode cX1_playErrors 8 = .ok (.invokestatic 206, 3) := dk_184 0 206 (dk_at dksX1_playErrors_0 8 rfl rfl)
theorem dX1_playErrors_11 : decode cX1_playErrors 11 = .ok (.iload_n 3, 1) := dk_29 (dk_at dksX1_playErrors_0 11 rfl rfl)
theorem dX1_playErrors_12 : decode cX1_playErrors 12 = .ok (.iconst 1, 1) := dk_4 (dk_at dksX1_playErrors_0 12 rfl rfl)
theorem dX1_playErrors_13 : decode cX1_playErrors 13 = .ok (.bipush 20, 2) := dk_16 20 (dk_at dksX1_playErrors_0 13 rfl rfl)
theorem dX1_playErrors_15 : decode cX1_playErrors 15 = .ok (.invokestatic 65, 3) := dk_184 0 65 (dk_at dksX1_playErrors_0 15 rfl rfl)
theorem dX1_playErrors_18 : decode cX1_playErrors 18 = .ok (.invokestatic 102, 3) := dk_184 0 102 (dk_at dksX1_playErrors_0 18 rfl rfl)
theorem dX1_playErrors_21 : decode cX1_playErrors 21 = .ok (.iconst 0, 1) := dk_3 (dk_at dksX1_playErrors_0 21 rfl rfl)
theorem dX1_playErrors_22 : decode cX1_playErrors 22 = .ok (.istore 5, 2) := dk_54 5 (dk_at dksX1_playErrors_0 22 rfl rfl)
theorem dX1_playErrors_24 : decode cX1_playErrors 24 = .ok (.iload_n 2, 1) := dk_28 (dk_at dksX1_playErrors_1 0 rfl rfl)
theorem dX1_playErrors_25 : decode cX1_playErrors 25 = .ok (.istore 6, 2) := dk_54 6 (dk_at dksX1_playErrors_1 1 rfl rfl)
theorem dX1_playErrors_27 : decode cX1_playErrors 27 = .ok (.iload 6, 2) := dk_21 6 (dk_at dksX1_playErrors_1 3 rfl rfl)
theorem dX1_playErrors_29 : decode cX1_playErrors 29 = .ok (.iload_n 2, 1) := dk_28 (dk_at dksX1_playErrors_1 5 rfl rfl)
theorem dX1_playErrors_30 : decode cX1_playErrors 30 = .ok (.iload_n 3, 1) := dk_29 (dk_at dksX1_playErrors_1 6 rfl rfl)
theorem dX1_playErrors_31 : decode cX1_playErrors 31 = .ok (.iadd, 1) := dk_96 (dk_at dksX1_playErrors_1 7 rfl rfl)
theorem dX1_playErrors_32 : decode cX1_playErrors 32 = .ok (.if_icmp .ge 42, 3) := dk_162 0 42 (dk_at dksX1_playErrors_1 8 rfl rfl)
theorem dX1_playErrors_35 : decode cX1_playErrors 35 = .ok (.iload 6, 2) := dk_21 6 (dk_at dksX1_playErrors_1 11 rfl rfl)
theorem dX1_playErrors_37 : decode cX1_playErrors 37 = .ok (.sipush 999, 3) := dk_17 3 231 (dk_at dksX1_playErrors_1 13 rfl rfl)
theorem dX1_playErrors_40 : decode cX1_playErrors 40 = .ok (.if_icmp .gt 34, 3) := dk_163 0 34 (dk_at dksX1_playErrors_1 16 rfl rfl)
theorem dX1_playErrors_43 : decode cX1_playErrors 43 = .ok (.aload_n 0, 1) := dk_42 (dk_at dksX1_playErrors_1 19 rfl rfl)
theorem dX1_playErrors_44 : decode cX1_playErrors 44 = .ok (.aload 4, 2) := dk_25 4 (dk_at dksX1_playErrors_1 20 rfl rfl)
theorem dX1_playErrors_46 : decode cX1_playErrors 46 = .ok (.iload 6, 2) := dk_21 6 (dk_at dksX1_playErrors_1 22 rfl rfl)
theorem dX1_playErrors_48 : decode cX1_playErrors 48 = .ok (.invokevirtual 269, 3) := dk_182 1 13 (dk_at dksX1_playErrors_2 0 rfl rfl)
theorem dX1_playErrors_51 : decode cX1_playErrors 51 = .ok (.aload_n 0, 1) := dk_42 (dk_at dksX1_playErrors_2 3 rfl rfl)
theorem dX1_playErrors_52 : decode cX1_playErrors 52 = .ok (.aload 4, 2) := dk_25 4 (dk_at dksX1_playErrors_2 4 rfl rfl)
theorem dX1_playErrors_54 : decode cX1_playErrors 54 = .ok (.iload 6, 2) := dk_21 6 (dk_at dksX1_playErrors_2 6 rfl rfl)
theorem dX1_playErrors_56 : decode cX1_playErrors 56 = .ok (.invokevirtual 259, 3) := dk_182 1 3 (dk_at dksX1_playErrors_2 8 rfl rfl)
theorem dX1_playErrors_59 : decode cX1_playErrors 59 = .ok (.invokevirtual 286, 3) := dk_182 1 30 (dk_at dksX1_playErrors_2 11 rfl rfl)
theorem dX1_playErrors_62 : decode cX1_playErrors 62 = .ok (.ifCond .ne 6, 3) := dk_154 0 6 (dk_at dksX1_playErrors_2 14 rfl rfl)
theorem dX1_playErrors_65 : decode cX1_playErrors 65 = .ok (.iinc 5 1, 3) := dk_132 5 1 (dk_at dksX1_playErrors_2 17 rfl rfl)
theorem dX1_playErrors_68 : decode cX1_playErrors 68 = .ok (.iinc 6 1, 3) := dk_132 6 1 (dk_at dksX1_playErrors_2 20 rfl rfl)
theorem dX1_playErrors_71 : decode cX1_playErrors 71 = .ok (.goto (-44), 3) := dk_167 255 212 (dk_at dksX1_playErrors_3 0 rfl rfl)
theorem dX1_playErrors_74 : decode cX1_playErrors 74 = .ok (.iload 5, 2) := dk_21 5 (dk_at dksX1_playErrors_3 3 rfl rfl)
theorem dX1_playErrors_76 : decode cX1_playErrors 76 = .ok (.ireturn, 1) := dk_172 (dk_at dksX1_playErrors_3 5 rfl rfl)
abbrev cX1_writeRow : ByteArray := prog_1_method_36_code
def yX1_writeRow : MethodName := ⟨RX1, "writeRow", "(III)I"⟩
def dkwX1_writeRow_4 : List UInt8 := [182, 1, 37, 87, 132, 6, 255, 167, 255, 199, 42, 180, 0, 37, 182, 1, 41, 182, 1, 34, 172]
abbrev dktX1_writeRow_4 : List UInt8 := dkwX1_writeRow_4 ++ []
def dkwX1_writeRow_3 : List UInt8 := [158, 0, 27, 42, 180, 0, 37, 21, 7, 154, 0, 8, 16, 46, 167, 0, 9, 16, 48, 21, 7, 96, 146]
abbrev dktX1_writeRow_3 : List UInt8 := dkwX1_writeRow_3 ++ dktX1_writeRow_4
def dkwX1_writeRow_2 : List UInt8 := [25, 5, 21, 6, 29, 182, 1, 16, 54, 7, 21, 7, 154, 0, 13, 42, 180, 0, 37, 182, 1, 34]
abbrev dktX1_writeRow_2 : List UInt8 := dkwX1_writeRow_2 ++ dktX1_writeRow_3
def dkwX1_writeRow_1 : List UInt8 := [28, 182, 1, 13, 58, 5, 42, 180, 0, 37, 3, 182, 0, 61, 16, 15, 54, 6, 21, 6, 155, 0, 58]
abbrev dktX1_writeRow_1 : List UInt8 := dkwX1_writeRow_1 ++ dktX1_writeRow_2
def dkwX1_writeRow_0 : List UInt8 := [42, 27, 182, 0, 98, 58, 4, 28, 184, 0, 206, 29, 3, 16, 11, 184, 0, 65, 184, 0, 102, 42, 25, 4]
abbrev dktX1_writeRow_0 : List UInt8 := dkwX1_writeRow_0 ++ dktX1_writeRow_1
theorem dksX1_writeRow_0 : cX1_writeRow.data.toList.drop 0 = dktX1_writeRow_0 := by decide +kernel
theorem dksX1_writeRow_1 : cX1_writeRow.data.toList.drop 24 = dktX1_writeRow_1 := dk_seg dksX1_writeRow_0 24 rfl rfl
theorem dksX1_writeRow_2 : cX1_writeRow.data.toList.drop 47 = dktX1_writeRow_2 := dk_seg dksX1_writeRow_1 23 rfl rfl
theorem dksX1_writeRow_3 : cX1_writeRow.data.toList.drop 69 = dktX1_writeRow_3 := dk_seg dksX1_writeRow_2 22 rfl rfl
theorem dksX1_writeRow_4 : cX1_writeRow.data.toList.drop 92 = dktX1_writeRow_4 := dk_seg dksX1_writeRow_3 23 rfl rfl
theorem dX1_writeRow_0 : decode cX1_writeRow 0 = .ok (.aload_n 0, 1) := dk_42 (dk_at dksX1_writeRow_0 0 rfl rfl)
theorem dX1_writeRow_1 : decode cX1_writeRow 1 = .ok (.iload_n 1, 1) := dk_27 (dk_at dksX1_writeRow_0 1 rfl rfl)
theorem dX1_writeRow_2 : decode cX1_writeRow 2 = .ok (.invokevirtual 98, 3) := dk_182 0 98 (dk_at dksX1_writeRow_0 2 rfl rfl)
theorem dX1_writeRow_5 : decode cX1_writeRow 5 = .ok (.astore 4, 2) := dk_58 4 (dk_at dksX1_writeRow_0 5 rfl rfl)
theorem dX1_writeRow_7 : decode cX1_writeRow 7 = .ok (.iload_n 2, 1) := dk_28 (dk_at dksX1_writeRow_0 7 rfl rfl)
theorem dX1_writeRow_8 : decode cX1_writeRow 8 = .ok (.invokestatic 206, 3) := dk_184 0 206 (dk_at dksX1_writeRow_0 8 rfl rfl)
theorem dX1_writeRow_11 : decode cX1_writeRow 11 = .ok (.iload_n 3, 1) := dk_29 (dk_at dksX1_writeRow_0 11 rfl rfl)
theorem dX1_writeRow_12 : decode cX1_writeRow 12 = .ok (.iconst 0, 1) := dk_3 (dk_at dksX1_writeRow_0 12 rfl rfl)
theorem dX1_writeRow_13 : decode cX1_writeRow 13 = .ok (.bipush 11, 2) := dk_16 11 (dk_at dksX1_writeRow_0 13 rfl rfl)
theorem dX1_writeRow_15 : decode cX1_writeRow 15 = .ok (.invokestatic 65, 3) := dk_184 0 65 (dk_at dksX1_writeRow_0 15 rfl rfl)
theorem dX1_writeRow_18 : decode cX1_writeRow 18 = .ok (.invokestatic 102, 3) := dk_184 0 102 (dk_at dksX1_writeRow_0 18 rfl rfl)
theorem dX1_writeRow_21 : decode cX1_writeRow 21 = .ok (.aload_n 0, 1) := dk_42 (dk_at dksX1_writeRow_0 21 rfl rfl)
theorem dX1_writeRow_22 : decode cX1_writeRow 22 = .ok (.aload 4, 2) := dk_25 4 (dk_at dksX1_writeRow_0 22 rfl rfl)
theorem dX1_writeRow_24 : decode cX1_writeRow 24 = .ok (.iload_n 2, 1) := dk_28 (dk_at dksX1_writeRow_1 0 rfl rfl)
theorem dX1_writeRow_25 : decode cX1_writeRow 25 = .ok (.invokevirtual 269, 3) := dk_182 1 13 (dk_at dksX1_writeRow_1 1 rfl rfl)
theorem dX1_writeRow_28 : decode cX1_writeRow 28 = .ok (.astore 5, 2) := dk_58 5 (dk_at dksX1_writeRow_1 4 rfl rfl)
theorem dX1_writeRow_30 : decode cX1_writeRow 30 = .ok (.aload_n 0, 1) := dk_42 (dk_at dksX1_writeRow_1 6 rfl rfl)
theorem dX1_writeRow_31 : decode cX1_writeRow 31 = .ok (.getfield 37, 3) := dk_180 0 37 (dk_at dksX1_writeRow_1 7 rfl rfl)
theorem dX1_writeRow_34 : decode cX1_writeRow 34 = .ok (.iconst 0, 1) := dk_3 (dk_at dksX1_writeRow_1 10 rfl rfl)
theorem dX1_writeRow_35 : decode cX1_writeRow 35 = .ok (.invokevirtual 61, 3) := dk_182 0 61 (dk_at dksX1_writeRow_1 11 rfl rfl)
theorem dX1_writeRow_38 : decode cX1_writeRow 38 = .ok (.bipush 15, 2) := dk_16 15 (dk_at dksX1_writeRow_1 14 rfl rfl)
theorem dX1_writeRow_40 : decode cX1_writeRow 40 = .ok (.istore 6, 2) := dk_54 6 (dk_at dksX1_writeRow_1 16 rfl rfl)
theorem dX1_writeRow_42 : decode cX1_writeRow 42 = .ok (.iload 6, 2) := dk_21 6 (dk_at dksX1_writeRow_1 18 rfl rfl)
theorem dX1_writeRow_44 : decode cX1_writeRow 44 = .ok (.ifCond .lt 58, 3) := dk_155 0 58 (dk_at dksX1_writeRow_1 20 rfl rfl)
theorem dX1_writeRow_47 : decode cX1_writeRow 47 = .ok (.aload 5, 2) := dk_25 5 (dk_at dksX1_writeRow_2 0 rfl rfl)
theorem dX1_writeRow_49 : decode cX1_writeRow 49 = .ok (.iload 6, 2) := dk_21 6 (dk_at dksX1_writeRow_2 2 rfl rfl)
theorem dX1_writeRow_51 : decode cX1_writeRow 51 = .ok (.iload_n 3, 1) := dk_29 (dk_at dksX1_writeRow_2 4 rfl rfl)
theorem dX1_writeRow_52 : decode cX1_writeRow 52 = .ok (.invokevirtual 272, 3) := dk_182 1 16 (dk_at dksX1_writeRow_2 5 rfl rfl)
theorem dX1_writeRow_55 : decode cX1_writeRow 55 = .ok (.istore 7, 2) := dk_54 7 (dk_at dksX1_writeRow_2 8 rfl rfl)
theorem dX1_writeRow_57 : decode cX1_writeRow 57 = .ok (.iload 7, 2) := dk_21 7 (dk_at dksX1_writeRow_2 10 rfl rfl)
theorem dX1_writeRow_59 : decode cX1_writeRow 59 = .ok (.ifCond .ne 13, 3) := dk_154 0 13 (dk_at dksX1_writeRow_2 12 rfl rfl)
theorem dX1_writeRow_62 : decode cX1_writeRow 62 = .ok (.aload_n 0, 1) := dk_42 (dk_at dksX1_writeRow_2 15 rfl rfl)
theorem dX1_writeRow_63 : decode cX1_writeRow 63 = .ok (.getfield 37, 3) := dk_180 0 37 (dk_at dksX1_writeRow_2 16 rfl rfl)
theorem dX1_writeRow_66 : decode cX1_writeRow 66 = .ok (.invokevirtual 290, 3) := dk_182 1 34 (dk_at dksX1_writeRow_2 19 rfl rfl)
theorem dX1_writeRow_69 : decode cX1_writeRow 69 = .ok (.ifCond .le 27, 3) := dk_158 0 27 (dk_at dksX1_writeRow_3 0 rfl rfl)
theorem dX1_writeRow_72 : decode cX1_writeRow 72 = .ok (.aload_n 0, 1) := dk_42 (dk_at dksX1_writeRow_3 3 rfl rfl)
theorem dX1_writeRow_73 : decode cX1_writeRow 73 = .ok (.getfield 37, 3) := dk_180 0 37 (dk_at dksX1_writeRow_3 4 rfl rfl)
theorem dX1_writeRow_76 : decode cX1_writeRow 76 = .ok (.iload 7, 2) := dk_21 7 (dk_at dksX1_writeRow_3 7 rfl rfl)
theorem dX1_writeRow_78 : decode cX1_writeRow 78 = .ok (.ifCond .ne 8, 3) := dk_154 0 8 (dk_at dksX1_writeRow_3 9 rfl rfl)
theorem dX1_writeRow_81 : decode cX1_writeRow 81 = .ok (.bipush 46, 2) := dk_16 46 (dk_at dksX1_writeRow_3 12 rfl rfl)
theorem dX1_writeRow_83 : decode cX1_writeRow 83 = .ok (.goto 9, 3) := dk_167 0 9 (dk_at dksX1_writeRow_3 14 rfl rfl)
theorem dX1_writeRow_86 : decode cX1_writeRow 86 = .ok (.bipush 48, 2) := dk_16 48 (dk_at dksX1_writeRow_3 17 rfl rfl)
theorem dX1_writeRow_88 : decode cX1_writeRow 88 = .ok (.iload 7, 2) := dk_21 7 (dk_at dksX1_writeRow_3 19 rfl rfl)
theorem dX1_writeRow_90 : decode cX1_writeRow 90 = .ok (.iadd, 1) := dk_96 (dk_at dksX1_writeRow_3 21 rfl rfl)
theorem dX1_writeRow_91 : decode cX1_writeRow 91 = .ok (.i2c, 1) := dk_146 (dk_at dksX1_writeRow_3 22 rfl rfl)
theorem dX1_writeRow_92 : decode cX1_writeRow 92 = .ok (.invokevirtual 293, 3) := dk_182 1 37 (dk_at dksX1_writeRow_4 0 rfl rfl)
theorem dX1_writeRow_95 : decode cX1_writeRow 95 = .ok (.pop, 1) := dk_87 (dk_at dksX1_writeRow_4 3 rfl rfl)
theorem dX1_writeRow_96 : decode cX1_writeRow 96 = .ok (.iinc 6 (-1), 3) := dk_132 6 255 (dk_at dksX1_writeRow_4 4 rfl rfl)
theorem dX1_writeRow_99 : decode cX1_writeRow 99 = .ok (.goto (-57), 3) := dk_167 255 199 (dk_at dksX1_writeRow_4 7 rfl rfl)
theorem dX1_writeRow_102 : decode cX1_writeRow 102 = .ok (.aload_n 0, 1) := dk_42 (dk_at dksX1_writeRow_4 10 rfl rfl)
theorem dX1_writeRow_103 : decode cX1_writeRow 103 = .ok (.getfield 37, 3) := dk_180 0 37 (dk_at dksX1_writeRow_4 11 rfl rfl)
theorem dX1_writeRow_106 : decode cX1_writeRow 106 = .ok (.invokevirtual 297, 3) := dk_182 1 41 (dk_at dksX1_writeRow_4 14 rfl rfl)
theorem dX1_writeRow_109 : decode cX1_writeRow 109 = .ok (.invokevirtual 290, 3) := dk_182 1 34 (dk_at dksX1_writeRow_4 17 rfl rfl)
theorem dX1_writeRow_112 : decode cX1_writeRow 112 = .ok (.ireturn, 1) := dk_172 (dk_at dksX1_writeRow_4 20 rfl rfl)
abbrev cX1_write : ByteArray := prog_1_method_37_code
def yX1_write : MethodName := ⟨RX1, "write", "(I)I"⟩
def dkwX1_write_1 : List UInt8 := [182, 1, 49, 3, 44, 182, 1, 52, 182, 1, 55, 87, 42, 180, 0, 37, 182, 1, 34, 172]
abbrev dktX1_write_1 : List UInt8 := dkwX1_write_1 ++ []
def dkwX1_write_0 : List UInt8 := [42, 27, 182, 0, 119, 77, 42, 180, 0, 37, 3, 182, 0, 61, 42, 180, 0, 37, 44, 182, 1, 45]
abbrev dktX1_write_0 : List UInt8 := dkwX1_write_0 ++ dktX1_write_1
theorem dksX1_write_0 : cX1_write.data.toList.drop 0 = dktX1_write_0 := by decide +kernel
theorem dksX1_write_1 : cX1_write.data.toList.drop 22 = dktX1_write_1 := dk_seg dksX1_write_0 22 rfl rfl
theorem dX1_write_0 : decode cX1_write 0 = .ok (.aload_n 0, 1) := dk_42 (dk_at dksX1_write_0 0 rfl rfl)
theorem dX1_write_1 : decode cX1_write 1 = .ok (.iload_n 1, 1) := dk_27 (dk_at dksX1_write_0 1 rfl rfl)
theorem dX1_write_2 : decode cX1_write 2 = .ok (.invokevirtual 119, 3) := dk_182 0 119 (dk_at dksX1_write_0 2 rfl rfl)
theorem dX1_write_5 : decode cX1_write 5 = .ok (.astore_n 2, 1) := dk_77 (dk_at dksX1_write_0 5 rfl rfl)
theorem dX1_write_6 : decode cX1_write 6 = .ok (.aload_n 0, 1) := dk_42 (dk_at dksX1_write_0 6 rfl rfl)
theorem dX1_write_7 : decode cX1_write 7 = .ok (.getfield 37, 3) := dk_180 0 37 (dk_at dksX1_write_0 7 rfl rfl)
theorem dX1_write_10 : decode cX1_write 10 = .ok (.iconst 0, 1) := dk_3 (dk_at dksX1_write_0 10 rfl rfl)
theorem dX1_write_11 : decode cX1_write 11 = .ok (.invokevirtual 61, 3) := dk_182 0 61 (dk_at dksX1_write_0 11 rfl rfl)
theorem dX1_write_14 : decode cX1_write 14 = .ok (.aload_n 0, 1) := dk_42 (dk_at dksX1_write_0 14 rfl rfl)
theorem dX1_write_15 : decode cX1_write 15 = .ok (.getfield 37, 3) := dk_180 0 37 (dk_at dksX1_write_0 15 rfl rfl)
theorem dX1_write_18 : decode cX1_write 18 = .ok (.aload_n 2, 1) := dk_44 (dk_at dksX1_write_0 18 rfl rfl)
theorem dX1_write_19 : decode cX1_write 19 = .ok (.invokevirtual 301, 3) := dk_182 1 45 (dk_at dksX1_write_0 19 rfl rfl)
theorem dX1_write_22 : decode cX1_write 22 = .ok (.invokevirtual 305, 3) := dk_182 1 49 (dk_at dksX1_write_1 0 rfl rfl)
theorem dX1_write_25 : decode cX1_write 25 = .ok (.iconst 0, 1) := dk_3 (dk_at dksX1_write_1 3 rfl rfl)
theorem dX1_write_26 : decode cX1_write 26 = .ok (.aload_n 2, 1) := dk_44 (dk_at dksX1_write_1 4 rfl rfl)
theorem dX1_write_27 : decode cX1_write 27 = .ok (.invokevirtual 308, 3) := dk_182 1 52 (dk_at dksX1_write_1 5 rfl rfl)
theorem dX1_write_30 : decode cX1_write 30 = .ok (.invokevirtual 311, 3) := dk_182 1 55 (dk_at dksX1_write_1 8 rfl rfl)
theorem dX1_write_33 : decode cX1_write 33 = .ok (.pop, 1) := dk_87 (dk_at dksX1_write_1 11 rfl rfl)
theorem dX1_write_34 : decode cX1_write 34 = .ok (.aload_n 0, 1) := dk_42 (dk_at dksX1_write_1 12 rfl rfl)
theorem dX1_write_35 : decode cX1_write 35 = .ok (.getfield 37, 3) := dk_180 0 37 (dk_at dksX1_write_1 13 rfl rfl)
theorem dX1_write_38 : decode cX1_write 38 = .ok (.invokevirtual 290, 3) := dk_182 1 34 (dk_at dksX1_write_1 16 rfl rfl)
theorem dX1_write_41 : decode cX1_write 41 = .ok (.ireturn, 1) := dk_172 (dk_at dksX1_write_1 19 rfl rfl)
abbrev cX1_coveredPart : ByteArray := prog_1_method_40_code
def yX1_coveredPart : MethodName := ⟨RX1, "coveredPart", "(II)F"⟩
def dkwX1_coveredPart_0 : List UInt8 := [42, 27, 28, 182, 1, 65, 134, 19, 1, 68, 110, 174]
abbrev dktX1_coveredPart_0 : List UInt8 := dkwX1_coveredPart_0 ++ []
theorem dksX1_coveredPart_0 : cX1_coveredPart.data.toList.drop 0 = dktX1_coveredPart_0 := by decide +kernel
theorem dX1_coveredPart_0 : decode cX1_coveredPart 0 = .ok (.aload_n 0, 1) := dk_42 (dk_at dksX1_coveredPart_0 0 rfl rfl)
theorem dX1_coveredPart_1 : decode cX1_coveredPart 1 = .ok (.iload_n 1, 1) := dk_27 (dk_at dksX1_coveredPart_0 1 rfl rfl)
theorem dX1_coveredPart_2 : decode cX1_coveredPart 2 = .ok (.iload_n 2, 1) := dk_28 (dk_at dksX1_coveredPart_0 2 rfl rfl)
theorem dX1_coveredPart_3 : decode cX1_coveredPart 3 = .ok (.invokevirtual 321, 3) := dk_182 1 65 (dk_at dksX1_coveredPart_0 3 rfl rfl)
theorem dX1_coveredPart_6 : decode cX1_coveredPart 6 = .ok (.i2f, 1) := dk_134 (dk_at dksX1_coveredPart_0 6 rfl rfl)
theorem dX1_coveredPart_7 : decode cX1_coveredPart 7 = .ok (.ldc_w 324, 3) := dk_19 1 68 (dk_at dksX1_coveredPart_0 7 rfl rfl)
theorem dX1_coveredPart_10 : decode cX1_coveredPart 10 = .ok (.fdiv, 1) := dk_110 (dk_at dksX1_coveredPart_0 10 rfl rfl)
theorem dX1_coveredPart_11 : decode cX1_coveredPart 11 = .ok (.freturn, 1) := dk_174 (dk_at dksX1_coveredPart_0 11 rfl rfl)
theorem q59 : (Jvm.Cond.initialized "Shapelayer") ∈ lw_all := lw_g (lw_at lw_m1 1 rfl) rfl
theorem q105 : (Jvm.Cond.instantiable "Shapelayer" (6 : Nat)) ∈ lw_all := lw_g (lw_at lw_m1 47 rfl) rfl
theorem q107 : (Jvm.Cond.instanceMethod ({ cls := "Shapelayer", name := "<init>", desc := "()V" } : Jvm.MethodName)) ∈ lw_all := lw_g (lw_at lw_m1 49 rfl) rfl
theorem q108 : (Jvm.Cond.code ({ cls := "Shapelayer", name := "<init>", desc := "()V" } : Jvm.MethodName) prog_1_method_5_code (1 : Nat) (Option.none : Option Jvm.ClassFile.FieldType)) ∈ lw_all := lw_g (lw_at lw_m1 50 rfl) rfl
theorem q109 : (Jvm.Cond.methodLink "Shapelayer" (13 : Nat) ({ cls := "java/lang/Object", name := "<init>", desc := "()V" } : Jvm.MethodName)) ∈ lw_all := lw_g (lw_at lw_m1 51 rfl) rfl
theorem q112 : (Jvm.Cond.classLink "Shapelayer" (16 : Nat) "java/util/ArrayList") ∈ lw_all := lw_g (lw_at lw_m1 54 rfl) rfl
theorem q114 : (Jvm.Cond.methodLink "Shapelayer" (18 : Nat) ({ cls := "java/util/ArrayList", name := "<init>", desc := "()V" } : Jvm.MethodName)) ∈ lw_all := lw_g (lw_at lw_m1 56 rfl) rfl
theorem q138 : (Jvm.Cond.classLink "Shapelayer" (25 : Nat) "Shapelayer$Layer") ∈ lw_all := lw_g (lw_at lw_m1 80 rfl) rfl
theorem q140 : (Jvm.Cond.classLink "Shapelayer" (34 : Nat) "java/lang/StringBuilder") ∈ lw_all := lw_g (lw_at lw_m1 82 rfl) rfl
theorem q142 : (Jvm.Cond.methodLink "Shapelayer" (36 : Nat) ({ cls := "java/lang/StringBuilder", name := "<init>", desc := "()V" } : Jvm.MethodName)) ∈ lw_all := lw_g (lw_at lw_m1 84 rfl) rfl
theorem q173 : (Jvm.Cond.classLink "Shapelayer" (41 : Nat) "Shapelayer$Raster") ∈ lw_all := lw_g (lw_at lw_m1 115 rfl) rfl
theorem q175 : (Jvm.Cond.methodLinkNest "Shapelayer" (43 : Nat) ({ cls := "Shapelayer$Raster", name := "<init>", desc := "()V" } : Jvm.MethodName) "Shapelayer") ∈ lw_tbl := lw_at lw_m1 117 rfl
theorem q180 : (Jvm.Cond.fieldLinkNest "Shapelayer" (282 : Nat) "Shapelayer$Raster" "cells" "[B" "Shapelayer") ∈ lw_tbl := lw_at lw_m1 122 rfl
theorem q201 : (Jvm.Cond.fieldLink "Shapelayer" (19 : Nat) "Shapelayer" "compositions" "Ljava/util/List;") ∈ lw_all := lw_g (lw_at lw_m1 143 rfl) rfl
theorem q202 : (Jvm.Cond.fieldLink "Shapelayer" (27 : Nat) "Shapelayer" "made" "[LShapelayer$Layer;") ∈ lw_all := lw_g (lw_at lw_m1 144 rfl) rfl
theorem q203 : (Jvm.Cond.fieldLink "Shapelayer" (57 : Nat) "Shapelayer" "madeCount" "I") ∈ lw_all := lw_g (lw_at lw_m1 145 rfl) rfl
theorem q204 : (Jvm.Cond.fieldLink "Shapelayer" (31 : Nat) "Shapelayer" "kept" "Ljava/util/List;") ∈ lw_all := lw_g (lw_at lw_m1 146 rfl) rfl
theorem q205 : (Jvm.Cond.fieldLink "Shapelayer" (37 : Nat) "Shapelayer" "output" "Ljava/lang/StringBuilder;") ∈ lw_all := lw_g (lw_at lw_m1 147 rfl) rfl
theorem q206 : (Jvm.Cond.fieldLink "Shapelayer" (44 : Nat) "Shapelayer" "drawing" "LShapelayer$Raster;") ∈ lw_all := lw_g (lw_at lw_m1 148 rfl) rfl
theorem q207 : (Jvm.Cond.laysFinal "Shapelayer" "Shapelayer" "compositions" "Ljava/util/List;") ∈ lw_all := lw_g (lw_at lw_m1 149 rfl) rfl
theorem q208 : (Jvm.Cond.soleField "Shapelayer" "compositions") ∈ lw_all := lw_g (lw_at lw_m1 150 rfl) rfl
theorem q209 : (Jvm.Cond.lays "Shapelayer" "Shapelayer" "made" "[LShapelayer$Layer;") ∈ lw_all := lw_g (lw_at lw_m1 151 rfl) rfl
theorem q210 : (Jvm.Cond.soleField "Shapelayer" "made") ∈ lw_all := lw_g (lw_at lw_m1 152 rfl) rfl
theorem q211 : (Jvm.Cond.lays "Shapelayer" "Shapelayer" "madeCount" "I") ∈ lw_all := lw_g (lw_at lw_m1 153 rfl) rfl
theorem q212 : (Jvm.Cond.soleField "Shapelayer" "madeCount") ∈ lw_all := lw_g (lw_at lw_m1 154 rfl) rfl
theorem q213 : (Jvm.Cond.laysFinal "Shapelayer" "Shapelayer" "kept" "Ljava/util/List;") ∈ lw_all := lw_g (lw_at lw_m1 155 rfl) rfl
theorem q214 : (Jvm.Cond.soleField "Shapelayer" "kept") ∈ lw_all := lw_g (lw_at lw_m1 156 rfl) rfl
theorem q215 : (Jvm.Cond.laysFinal "Shapelayer" "Shapelayer" "output" "Ljava/lang/StringBuilder;") ∈ lw_all := lw_g (lw_at lw_m1 157 rfl) rfl
theorem q216 : (Jvm.Cond.soleField "Shapelayer" "output") ∈ lw_all := lw_g (lw_at lw_m1 158 rfl) rfl
theorem q217 : (Jvm.Cond.laysFinal "Shapelayer" "Shapelayer" "drawing" "LShapelayer$Raster;") ∈ lw_all := lw_g (lw_at lw_m1 159 rfl) rfl
theorem q218 : (Jvm.Cond.soleField "Shapelayer" "drawing") ∈ lw_all := lw_g (lw_at lw_m1 160 rfl) rfl
theorem q219 : (Jvm.Cond.superclass "Shapelayer" "java/lang/Object") ∈ lw_all := lw_g (lw_at lw_m1 161 rfl) rfl
theorem q221 : (Jvm.Cond.instanceMethod ({ cls := "Shapelayer", name := "clear", desc := "()I" } : Jvm.MethodName)) ∈ lw_all := lw_g (lw_at lw_m1 163 rfl) rfl
theorem q222 : (Jvm.Cond.selects "Shapelayer" ({ cls := "Shapelayer", name := "clear", desc := "()I" } : Jvm.MethodName) ({ cls := "Shapelayer", name := "clear", desc := "()I" } : Jvm.MethodName)) ∈ lw_all := lw_g (lw_at lw_m1 164 rfl) rfl
theorem q223 : (Jvm.Cond.code ({ cls := "Shapelayer", name := "clear", desc := "()I" } : Jvm.MethodName) prog_1_method_6_code (2 : Nat) (Option.some Jvm.ClassFile.FieldType.int)) ∈ lw_all := lw_g (lw_at lw_m1 165 rfl) rfl
theorem q224 : (Jvm.Cond.interfaceEntry "Shapelayer" (48 : Nat)) ∈ lw_tbl := lw_at lw_m1 166 rfl
theorem q225 : (Jvm.Cond.methodLink "Shapelayer" (48 : Nat) ({ cls := "java/util/List", name := "size", desc := "()I" } : Jvm.MethodName)) ∈ lw_all := lw_g (lw_at lw_m1 167 rfl) rfl
theorem q234 : (Jvm.Cond.interfaceEntry "Shapelayer" (54 : Nat)) ∈ lw_tbl := lw_at lw_m1 176 rfl
theorem q235 : (Jvm.Cond.methodLink "Shapelayer" (54 : Nat) ({ cls := "java/util/List", name := "clear", desc := "()V" } : Jvm.MethodName)) ∈ lw_all := lw_g (lw_at lw_m1 177 rfl) rfl
theorem q243 : (Jvm.Cond.methodLink "Shapelayer" (61 : Nat) ({ cls := "java/lang/StringBuilder", name := "setLength", desc := "(I)V" } : Jvm.MethodName)) ∈ lw_all := lw_g (lw_at lw_m1 185 rfl) rfl
theorem q589 : (Jvm.Cond.instanceMethod ({ cls := "Shapelayer", name := "outputByte", desc := "(I)I" } : Jvm.MethodName)) ∈ lw_all := lw_g (lw_at lw_m3 51 rfl) rfl
theorem q590 : (Jvm.Cond.selects "Shapelayer" ({ cls := "Shapelayer", name := "outputByte", desc := "(I)I" } : Jvm.MethodName) ({ cls := "Shapelayer", name := "outputByte", desc := "(I)I" } : Jvm.MethodName)) ∈ lw_all := lw_g (lw_at lw_m3 52 rfl) rfl
theorem q591 : (Jvm.Cond.code ({ cls := "Shapelayer", name := "outputByte", desc := "(I)I" } : Jvm.MethodName) prog_1_method_38_code (2 : Nat) (Option.some Jvm.ClassFile.FieldType.int)) ∈ lw_all := lw_g (lw_at lw_m3 53 rfl) rfl
theorem q592 : (Jvm.Cond.methodLink "Shapelayer" (290 : Nat) ({ cls := "java/lang/StringBuilder", name := "length", desc := "()I" } : Jvm.MethodName)) ∈ lw_all := lw_g (lw_at lw_m3 54 rfl) rfl
theorem q593 : (Jvm.Cond.methodLink "Shapelayer" (65 : Nat) ({ cls := "Shapelayer", name := "isBetween", desc := "(III)Z" } : Jvm.MethodName)) ∈ lw_all := lw_g (lw_at lw_m3 55 rfl) rfl
theorem q594 : (Jvm.Cond.static ({ cls := "Shapelayer", name := "isBetween", desc := "(III)Z" } : Jvm.MethodName)) ∈ lw_all := lw_g (lw_at lw_m3 56 rfl) rfl
theorem q595 : (Jvm.Cond.code ({ cls := "Shapelayer", name := "isBetween", desc := "(III)Z" } : Jvm.MethodName) prog_1_method_1_code (3 : Nat) (Option.some Jvm.ClassFile.FieldType.boolean)) ∈ lw_all := lw_g (lw_at lw_m3 57 rfl) rfl
theorem q596 : (Jvm.Cond.methodLink "Shapelayer" (315 : Nat) ({ cls := "java/lang/StringBuilder", name := "charAt", desc := "(I)C" } : Jvm.MethodName)) ∈ lw_all := lw_g (lw_at lw_m3 58 rfl) rfl
theorem q612 : (Jvm.Cond.instanceMethod ({ cls := "Shapelayer", name := "meanKeys", desc := "()D" } : Jvm.MethodName)) ∈ lw_all := lw_g (lw_at lw_m3 74 rfl) rfl
theorem q613 : (Jvm.Cond.selects "Shapelayer" ({ cls := "Shapelayer", name := "meanKeys", desc := "()D" } : Jvm.MethodName) ({ cls := "Shapelayer", name := "meanKeys", desc := "()D" } : Jvm.MethodName)) ∈ lw_all := lw_g (lw_at lw_m3 75 rfl) rfl
theorem q614 : (Jvm.Cond.code ({ cls := "Shapelayer", name := "meanKeys", desc := "()D" } : Jvm.MethodName) prog_1_method_39_code (4 : Nat) (Option.some Jvm.ClassFile.FieldType.double)) ∈ lw_all := lw_g (lw_at lw_m3 76 rfl) rfl
theorem q615 : (Jvm.Cond.methodLink "Shapelayer" (319 : Nat) ({ cls := "Shapelayer$Layer", name := "keys", desc := "()I" } : Jvm.MethodName)) ∈ lw_all := lw_g (lw_at lw_m3 77 rfl) rfl
theorem q630 : (Jvm.Cond.instanceMethod ({ cls := "Shapelayer", name := "addComposition", desc := "()I" } : Jvm.MethodName)) ∈ lw_all := lw_g (lw_at lw_m3 92 rfl) rfl
theorem q631 : (Jvm.Cond.selects "Shapelayer" ({ cls := "Shapelayer", name := "addComposition", desc := "()I" } : Jvm.MethodName) ({ cls := "Shapelayer", name := "addComposition", desc := "()I" } : Jvm.MethodName)) ∈ lw_all := lw_g (lw_at lw_m3 93 rfl) rfl
theorem q632 : (Jvm.Cond.code ({ cls := "Shapelayer", name := "addComposition", desc := "()I" } : Jvm.MethodName) prog_1_method_9_code (1 : Nat) (Option.some Jvm.ClassFile.FieldType.int)) ∈ lw_all := lw_g (lw_at lw_m3 94 rfl) rfl
theorem q633 : (Jvm.Cond.methodLink "Shapelayer" (79 : Nat) ({ cls := "Shapelayer", name := "checkState", desc := "(Z)V" } : Jvm.MethodName)) ∈ lw_all := lw_g (lw_at lw_m3 95 rfl) rfl
theorem q634 : (Jvm.Cond.static ({ cls := "Shapelayer", name := "checkState", desc := "(Z)V" } : Jvm.MethodName)) ∈ lw_all := lw_g (lw_at lw_m3 96 rfl) rfl
theorem q635 : (Jvm.Cond.code ({ cls := "Shapelayer", name := "checkState", desc := "(Z)V" } : Jvm.MethodName) prog_1_method_3_code (1 : Nat) (Option.none : Option Jvm.ClassFile.FieldType)) ∈ lw_all := lw_g (lw_at lw_m3 97 rfl) rfl
theorem q636 : (Jvm.Cond.classLink "Shapelayer" (7 : Nat) "java/lang/IllegalStateException") ∈ lw_all := lw_g (lw_at lw_m3 98 rfl) rfl
theorem q645 : (Jvm.Cond.methodLink "Shapelayer" (9 : Nat) ({ cls := "java/lang/IllegalStateException", name := "<init>", desc := "()V" } : Jvm.MethodName)) ∈ lw_all := lw_g (lw_at lw_m3 107 rfl) rfl
theorem q657 : (Jvm.Cond.classLink "Shapelayer" (77 : Nat) "Shapelayer$Composition") ∈ lw_all := lw_g (lw_at lw_m3 119 rfl) rfl
theorem q659 : (Jvm.Cond.methodLink "Shapelayer" (82 : Nat) ({ cls := "Shapelayer$Composition", name := "<init>", desc := "(I)V" } : Jvm.MethodName)) ∈ lw_all := lw_g (lw_at lw_m3 121 rfl) rfl
theorem q669 : (Jvm.Cond.fieldLinkNest "Shapelayer" (92 : Nat) "Shapelayer$Composition" "layers" "Ljava/util/List;" "Shapelayer") ∈ lw_tbl := lw_at lw_m3 131 rfl
theorem q675 : (Jvm.Cond.interfaceEntry "Shapelayer" (84 : Nat)) ∈ lw_tbl := lw_at lw_m3 137 rfl
theorem q676 : (Jvm.Cond.methodLink "Shapelayer" (84 : Nat) ({ cls := "java/util/List", name := "add", desc := "(Ljava/lang/Object;)Z" } : Jvm.MethodName)) ∈ lw_all := lw_g (lw_at lw_m3 138 rfl) rfl
theorem q703 : (Jvm.Cond.selects "Shapelayer" ({ cls := "java/lang/Object", name := "getClass", desc := "()Ljava/lang/Class;" } : Jvm.MethodName) ({ cls := "java/lang/Object", name := "getClass", desc := "()Ljava/lang/Class;" } : Jvm.MethodName)) ∈ lw_all := lw_g (lw_at lw_m3 165 rfl) rfl
theorem q745 : (Jvm.Cond.instanceMethod ({ cls := "Shapelayer", name := "addRect", desc := "(IIII)I" } : Jvm.MethodName)) ∈ lw_all := lw_g (lw_at lw_m3 207 rfl) rfl
theorem q746 : (Jvm.Cond.selects "Shapelayer" ({ cls := "Shapelayer", name := "addRect", desc := "(IIII)I" } : Jvm.MethodName) ({ cls := "Shapelayer", name := "addRect", desc := "(IIII)I" } : Jvm.MethodName)) ∈ lw_all := lw_g (lw_at lw_m3 208 rfl) rfl
theorem q747 : (Jvm.Cond.code ({ cls := "Shapelayer", name := "addRect", desc := "(IIII)I" } : Jvm.MethodName) prog_1_method_11_code (6 : Nat) (Option.some Jvm.ClassFile.FieldType.int)) ∈ lw_all := lw_g (lw_at lw_m3 209 rfl) rfl
theorem q748 : (Jvm.Cond.methodLink "Shapelayer" (98 : Nat) ({ cls := "Shapelayer", name := "composition", desc := "(I)LShapelayer$Composition;" } : Jvm.MethodName)) ∈ lw_all := lw_g (lw_at lw_m3 210 rfl) rfl
theorem q749 : (Jvm.Cond.privateMethod ({ cls := "Shapelayer", name := "composition", desc := "(I)LShapelayer$Composition;" } : Jvm.MethodName)) ∈ lw_tbl := lw_at lw_m3 211 rfl
theorem q750 : (Jvm.Cond.instanceMethod ({ cls := "Shapelayer", name := "composition", desc := "(I)LShapelayer$Composition;" } : Jvm.MethodName)) ∈ lw_all := lw_g (lw_at lw_m3 212 rfl) rfl
theorem q751 : (Jvm.Cond.code ({ cls := "Shapelayer", name := "composition", desc := "(I)LShapelayer$Composition;" } : Jvm.MethodName) prog_1_method_7_code (2 : Nat) (Option.some (Jvm.ClassFile.FieldType.object "Shapelayer$Composition"))) ∈ lw_all := lw_g (lw_at lw_m3 213 rfl) rfl
theorem q752 : (Jvm.Cond.methodLink "Shapelayer" (69 : Nat) ({ cls := "Shapelayer", name := "checkIndex", desc := "(Z)V" } : Jvm.MethodName)) ∈ lw_all := lw_g (lw_at lw_m3 214 rfl) rfl
theorem q753 : (Jvm.Cond.static ({ cls := "Shapelayer", name := "checkIndex", desc := "(Z)V" } : Jvm.MethodName)) ∈ lw_all := lw_g (lw_at lw_m3 215 rfl) rfl
theorem q754 : (Jvm.Cond.code ({ cls := "Shapelayer", name := "checkIndex", desc := "(Z)V" } : Jvm.MethodName) prog_1_method_4_code (1 : Nat) (Option.none : Option Jvm.ClassFile.FieldType)) ∈ lw_all := lw_g (lw_at lw_m3 216 rfl) rfl
theorem q755 : (Jvm.Cond.classLink "Shapelayer" (10 : Nat) "java/lang/IndexOutOfBoundsException") ∈ lw_all := lw_g (lw_at lw_m3 217 rfl) rfl
theorem q764 : (Jvm.Cond.methodLink "Shapelayer" (12 : Nat) ({ cls := "java/lang/IndexOutOfBoundsException", name := "<init>", desc := "()V" } : Jvm.MethodName)) ∈ lw_all := lw_g (lw_at lw_m3 226 rfl) rfl
theorem q770 : (Jvm.Cond.interfaceEntry "Shapelayer" (73 : Nat)) ∈ lw_tbl := lw_at lw_m3 232 rfl
theorem q771 : (Jvm.Cond.methodLink "Shapelayer" (73 : Nat) ({ cls := "java/util/List", name := "get", desc := "(I)Ljava/lang/Object;" } : Jvm.MethodName)) ∈ lw_all := lw_g (lw_at lw_m3 233 rfl) rfl
theorem q787 : (Jvm.Cond.methodLink "Shapelayer" (102 : Nat) ({ cls := "Shapelayer", name := "checkArgument", desc := "(Z)V" } : Jvm.MethodName)) ∈ lw_all := lw_g (lw_at lw_m4 9 rfl) rfl
theorem q788 : (Jvm.Cond.static ({ cls := "Shapelayer", name := "checkArgument", desc := "(Z)V" } : Jvm.MethodName)) ∈ lw_all := lw_g (lw_at lw_m4 10 rfl) rfl
theorem q789 : (Jvm.Cond.code ({ cls := "Shapelayer", name := "checkArgument", desc := "(Z)V" } : Jvm.MethodName) prog_1_method_2_code (1 : Nat) (Option.none : Option Jvm.ClassFile.FieldType)) ∈ lw_all := lw_g (lw_at lw_m4 11 rfl) rfl
theorem q790 : (Jvm.Cond.classLink "Shapelayer" (1 : Nat) "java/lang/IllegalArgumentException") ∈ lw_all := lw_g (lw_at lw_m4 12 rfl) rfl
theorem q791 : (Jvm.Cond.methodLink "Shapelayer" (3 : Nat) ({ cls := "java/lang/IllegalArgumentException", name := "<init>", desc := "()V" } : Jvm.MethodName)) ∈ lw_all := lw_g (lw_at lw_m4 13 rfl) rfl
theorem q795 : (Jvm.Cond.classLink "Shapelayer" (105 : Nat) "Shapelayer$Rect") ∈ lw_all := lw_g (lw_at lw_m4 17 rfl) rfl
theorem q797 : (Jvm.Cond.methodLink "Shapelayer" (107 : Nat) ({ cls := "Shapelayer$Rect", name := "<init>", desc := "(ILShapelayer$Composition;I[I)V" } : Jvm.MethodName)) ∈ lw_all := lw_g (lw_at lw_m4 19 rfl) rfl
theorem q811 : (Jvm.Cond.laysStatic "Shapelayer" "FIRST" "[I") ∈ lw_tbl := lw_at lw_m4 33 rfl
theorem q821 : (Jvm.Cond.fieldLinkNest "Shapelayer" (216 : Nat) "Shapelayer$Keyed" "keys" "Ljava/util/List;" "Shapelayer") ∈ lw_tbl := lw_at lw_m4 43 rfl
theorem q836 : (Jvm.Cond.fieldLink "Shapelayer" (95 : Nat) "Shapelayer$Layer" "number" "I") ∈ lw_all := lw_g (lw_at lw_m4 58 rfl) rfl
theorem q838 : (Jvm.Cond.fieldLink "Shapelayer" (88 : Nat) "Shapelayer$Layer" "owner" "LShapelayer$Composition;") ∈ lw_all := lw_g (lw_at lw_m4 60 rfl) rfl
theorem q840 : (Jvm.Cond.fieldLinkNest "Shapelayer" (198 : Nat) "Shapelayer$Layer" "values" "[LShapelayer$Keyed;" "Shapelayer") ∈ lw_tbl := lw_at lw_m4 62 rfl
theorem q842 : (Jvm.Cond.fieldLinkNest "Shapelayer" (165 : Nat) "Shapelayer$Layer" "parent" "LShapelayer$Layer;" "Shapelayer") ∈ lw_tbl := lw_at lw_m4 64 rfl
theorem q845 : (Jvm.Cond.fieldLinkNest "Shapelayer" (169 : Nat) "Shapelayer$Layer" "matte" "LShapelayer$Layer;" "Shapelayer") ∈ lw_tbl := lw_at lw_m4 67 rfl
theorem q848 : (Jvm.Cond.fieldLinkNest "Shapelayer" (188 : Nat) "Shapelayer$Layer" "isInverted" "Z" "Shapelayer") ∈ lw_tbl := lw_at lw_m4 70 rfl
theorem q852 : (Jvm.Cond.fieldLink "Shapelayer" (195 : Nat) "Shapelayer$Layer" "from" "I") ∈ lw_all := lw_g (lw_at lw_m4 74 rfl) rfl
theorem q854 : (Jvm.Cond.fieldLinkNest "Shapelayer" (192 : Nat) "Shapelayer$Layer" "end" "I" "Shapelayer") ∈ lw_tbl := lw_at lw_m4 76 rfl
theorem q878 : (Jvm.Cond.methodLink "Shapelayer" (110 : Nat) ({ cls := "Shapelayer", name := "put", desc := "(LShapelayer$Layer;)I" } : Jvm.MethodName)) ∈ lw_all := lw_g (lw_at lw_m4 100 rfl) rfl
theorem q879 : (Jvm.Cond.privateMethod ({ cls := "Shapelayer", name := "put", desc := "(LShapelayer$Layer;)I" } : Jvm.MethodName)) ∈ lw_tbl := lw_at lw_m4 101 rfl
theorem q880 : (Jvm.Cond.instanceMethod ({ cls := "Shapelayer", name := "put", desc := "(LShapelayer$Layer;)I" } : Jvm.MethodName)) ∈ lw_all := lw_g (lw_at lw_m4 102 rfl) rfl
theorem q881 : (Jvm.Cond.code ({ cls := "Shapelayer", name := "put", desc := "(LShapelayer$Layer;)I" } : Jvm.MethodName) prog_1_method_10_code (2 : Nat) (Option.some Jvm.ClassFile.FieldType.int)) ∈ lw_all := lw_g (lw_at lw_m4 103 rfl) rfl
theorem q886 : (Jvm.Cond.instanceMethod ({ cls := "Shapelayer", name := "addStroke", desc := "(II)I" } : Jvm.MethodName)) ∈ lw_all := lw_g (lw_at lw_m4 108 rfl) rfl
theorem q887 : (Jvm.Cond.selects "Shapelayer" ({ cls := "Shapelayer", name := "addStroke", desc := "(II)I" } : Jvm.MethodName) ({ cls := "Shapelayer", name := "addStroke", desc := "(II)I" } : Jvm.MethodName)) ∈ lw_all := lw_g (lw_at lw_m4 109 rfl) rfl
theorem q888 : (Jvm.Cond.code ({ cls := "Shapelayer", name := "addStroke", desc := "(II)I" } : Jvm.MethodName) prog_1_method_12_code (4 : Nat) (Option.some Jvm.ClassFile.FieldType.int)) ∈ lw_all := lw_g (lw_at lw_m4 110 rfl) rfl
theorem q889 : (Jvm.Cond.classLink "Shapelayer" (114 : Nat) "Shapelayer$Stroke") ∈ lw_all := lw_g (lw_at lw_m4 111 rfl) rfl
theorem q891 : (Jvm.Cond.methodLink "Shapelayer" (116 : Nat) ({ cls := "Shapelayer$Stroke", name := "<init>", desc := "(ILShapelayer$Composition;I)V" } : Jvm.MethodName)) ∈ lw_all := lw_g (lw_at lw_m4 113 rfl) rfl
theorem q898 : (Jvm.Cond.fieldLinkNest "Shapelayer" (123 : Nat) "Shapelayer$Stroke" "points" "Ljava/util/List;" "Shapelayer") ∈ lw_tbl := lw_at lw_m4 120 rfl
theorem q918 : (Jvm.Cond.instanceMethod ({ cls := "Shapelayer", name := "addPoint", desc := "(III)I" } : Jvm.MethodName)) ∈ lw_all := lw_g (lw_at lw_m4 140 rfl) rfl
theorem q919 : (Jvm.Cond.selects "Shapelayer" ({ cls := "Shapelayer", name := "addPoint", desc := "(III)I" } : Jvm.MethodName) ({ cls := "Shapelayer", name := "addPoint", desc := "(III)I" } : Jvm.MethodName)) ∈ lw_all := lw_g (lw_at lw_m4 141 rfl) rfl
theorem q920 : (Jvm.Cond.code ({ cls := "Shapelayer", name := "addPoint", desc := "(III)I" } : Jvm.MethodName) prog_1_method_13_code (7 : Nat) (Option.some Jvm.ClassFile.FieldType.int)) ∈ lw_all := lw_g (lw_at lw_m4 142 rfl) rfl
theorem q921 : (Jvm.Cond.methodLink "Shapelayer" (119 : Nat) ({ cls := "Shapelayer", name := "layer", desc := "(I)LShapelayer$Layer;" } : Jvm.MethodName)) ∈ lw_all := lw_g (lw_at lw_m4 143 rfl) rfl
theorem q922 : (Jvm.Cond.privateMethod ({ cls := "Shapelayer", name := "layer", desc := "(I)LShapelayer$Layer;" } : Jvm.MethodName)) ∈ lw_tbl := lw_at lw_m4 144 rfl
theorem q923 : (Jvm.Cond.instanceMethod ({ cls := "Shapelayer", name := "layer", desc := "(I)LShapelayer$Layer;" } : Jvm.MethodName)) ∈ lw_all := lw_g (lw_at lw_m4 145 rfl) rfl
theorem q924 : (Jvm.Cond.code ({ cls := "Shapelayer", name := "layer", desc := "(I)LShapelayer$Layer;" } : Jvm.MethodName) prog_1_method_8_code (2 : Nat) (Option.some (Jvm.ClassFile.FieldType.object "Shapelayer$Layer"))) ∈ lw_all := lw_g (lw_at lw_m4 146 rfl) rfl
theorem q925 : (Jvm.Cond.interfaceEntry "Shapelayer" (126 : Nat)) ∈ lw_tbl := lw_at lw_m4 147 rfl
theorem q926 : (Jvm.Cond.methodLink "Shapelayer" (126 : Nat) ({ cls := "java/util/List", name := "isEmpty", desc := "()Z" } : Jvm.MethodName)) ∈ lw_all := lw_g (lw_at lw_m4 148 rfl) rfl
theorem q934 : (Jvm.Cond.classLink "Shapelayer" (130 : Nat) "[I") ∈ lw_all := lw_g (lw_at lw_m4 156 rfl) rfl
theorem q935 : (Jvm.Cond.methodLink "Shapelayer" (132 : Nat) ({ cls := "Shapelayer$Stroke", name := "add", desc := "(II)I" } : Jvm.MethodName)) ∈ lw_all := lw_g (lw_at lw_m4 157 rfl) rfl
theorem q958 : (Jvm.Cond.instanceMethod ({ cls := "Shapelayer", name := "addNested", desc := "(II)I" } : Jvm.MethodName)) ∈ lw_all := lw_g (lw_at lw_m4 180 rfl) rfl
theorem q959 : (Jvm.Cond.selects "Shapelayer" ({ cls := "Shapelayer", name := "addNested", desc := "(II)I" } : Jvm.MethodName) ({ cls := "Shapelayer", name := "addNested", desc := "(II)I" } : Jvm.MethodName)) ∈ lw_all := lw_g (lw_at lw_m4 181 rfl) rfl
theorem q960 : (Jvm.Cond.code ({ cls := "Shapelayer", name := "addNested", desc := "(II)I" } : Jvm.MethodName) prog_1_method_14_code (5 : Nat) (Option.some Jvm.ClassFile.FieldType.int)) ∈ lw_all := lw_g (lw_at lw_m4 182 rfl) rfl
theorem q961 : (Jvm.Cond.methodLink "Shapelayer" (135 : Nat) ({ cls := "Shapelayer$Composition", name := "has", desc := "(LShapelayer$Composition;)Z" } : Jvm.MethodName)) ∈ lw_all := lw_g (lw_at lw_m4 183 rfl) rfl
theorem q1029 : (Jvm.Cond.classLink "Shapelayer" (139 : Nat) "Shapelayer$Nested") ∈ lw_all := lw_g (lw_at lw_m5 11 rfl) rfl
theorem q1031 : (Jvm.Cond.methodLink "Shapelayer" (141 : Nat) ({ cls := "Shapelayer$Nested", name := "<init>", desc := "(ILShapelayer$Composition;LShapelayer$Composition;)V" } : Jvm.MethodName)) ∈ lw_all := lw_g (lw_at lw_m5 13 rfl) rfl
theorem q1052 : (Jvm.Cond.instanceMethod ({ cls := "Shapelayer", name := "addNull", desc := "(I)I" } : Jvm.MethodName)) ∈ lw_all := lw_g (lw_at lw_m5 34 rfl) rfl
theorem q1053 : (Jvm.Cond.selects "Shapelayer" ({ cls := "Shapelayer", name := "addNull", desc := "(I)I" } : Jvm.MethodName) ({ cls := "Shapelayer", name := "addNull", desc := "(I)I" } : Jvm.MethodName)) ∈ lw_all := lw_g (lw_at lw_m5 35 rfl) rfl
theorem q1054 : (Jvm.Cond.code ({ cls := "Shapelayer", name := "addNull", desc := "(I)I" } : Jvm.MethodName) prog_1_method_15_code (3 : Nat) (Option.some Jvm.ClassFile.FieldType.int)) ∈ lw_all := lw_g (lw_at lw_m5 36 rfl) rfl
theorem q1055 : (Jvm.Cond.classLink "Shapelayer" (144 : Nat) "Shapelayer$Null") ∈ lw_all := lw_g (lw_at lw_m5 37 rfl) rfl
theorem q1057 : (Jvm.Cond.methodLink "Shapelayer" (146 : Nat) ({ cls := "Shapelayer$Null", name := "<init>", desc := "(ILShapelayer$Composition;)V" } : Jvm.MethodName)) ∈ lw_all := lw_g (lw_at lw_m5 39 rfl) rfl
theorem q1074 : (Jvm.Cond.instanceMethod ({ cls := "Shapelayer", name := "remove", desc := "(I)I" } : Jvm.MethodName)) ∈ lw_all := lw_g (lw_at lw_m5 56 rfl) rfl
theorem q1075 : (Jvm.Cond.selects "Shapelayer" ({ cls := "Shapelayer", name := "remove", desc := "(I)I" } : Jvm.MethodName) ({ cls := "Shapelayer", name := "remove", desc := "(I)I" } : Jvm.MethodName)) ∈ lw_all := lw_g (lw_at lw_m5 57 rfl) rfl
theorem q1076 : (Jvm.Cond.code ({ cls := "Shapelayer", name := "remove", desc := "(I)I" } : Jvm.MethodName) prog_1_method_16_code (6 : Nat) (Option.some Jvm.ClassFile.FieldType.int)) ∈ lw_all := lw_g (lw_at lw_m5 58 rfl) rfl
theorem q1077 : (Jvm.Cond.interfaceEntry "Shapelayer" (149 : Nat)) ∈ lw_tbl := lw_at lw_m5 59 rfl
theorem q1078 : (Jvm.Cond.methodLink "Shapelayer" (149 : Nat) ({ cls := "java/util/List", name := "remove", desc := "(Ljava/lang/Object;)Z" } : Jvm.MethodName)) ∈ lw_all := lw_g (lw_at lw_m5 60 rfl) rfl
theorem q1090 : (Jvm.Cond.selects "Shapelayer" ({ cls := "java/lang/Object", name := "equals", desc := "(Ljava/lang/Object;)Z" } : Jvm.MethodName) ({ cls := "java/lang/Object", name := "equals", desc := "(Ljava/lang/Object;)Z" } : Jvm.MethodName)) ∈ lw_all := lw_g (lw_at lw_m5 72 rfl) rfl
theorem q1125 : (Jvm.Cond.methodLink "Shapelayer" (152 : Nat) ({ cls := "Shapelayer$Composition", name := "iterator", desc := "()Ljava/util/Iterator;" } : Jvm.MethodName)) ∈ lw_all := lw_g (lw_at lw_m5 107 rfl) rfl
theorem q1126 : (Jvm.Cond.interfaceEntry "Shapelayer" (156 : Nat)) ∈ lw_tbl := lw_at lw_m5 108 rfl
theorem q1127 : (Jvm.Cond.methodLink "Shapelayer" (156 : Nat) ({ cls := "java/util/Iterator", name := "hasNext", desc := "()Z" } : Jvm.MethodName)) ∈ lw_all := lw_g (lw_at lw_m5 109 rfl) rfl
theorem q1128 : (Jvm.Cond.interfaceEntry "Shapelayer" (161 : Nat)) ∈ lw_tbl := lw_at lw_m5 110 rfl
theorem q1129 : (Jvm.Cond.methodLink "Shapelayer" (161 : Nat) ({ cls := "java/util/Iterator", name := "next", desc := "()Ljava/lang/Object;" } : Jvm.MethodName)) ∈ lw_all := lw_g (lw_at lw_m5 111 rfl) rfl
theorem q1134 : (Jvm.Cond.instanceMethod ({ cls := "Shapelayer", name := "order", desc := "(II)I" } : Jvm.MethodName)) ∈ lw_all := lw_g (lw_at lw_m5 116 rfl) rfl
theorem q1135 : (Jvm.Cond.selects "Shapelayer" ({ cls := "Shapelayer", name := "order", desc := "(II)I" } : Jvm.MethodName) ({ cls := "Shapelayer", name := "order", desc := "(II)I" } : Jvm.MethodName)) ∈ lw_all := lw_g (lw_at lw_m5 117 rfl) rfl
theorem q1136 : (Jvm.Cond.code ({ cls := "Shapelayer", name := "order", desc := "(II)I" } : Jvm.MethodName) prog_1_method_17_code (7 : Nat) (Option.some Jvm.ClassFile.FieldType.int)) ∈ lw_all := lw_g (lw_at lw_m5 118 rfl) rfl
theorem q1137 : (Jvm.Cond.interfaceEntry "Shapelayer" (172 : Nat)) ∈ lw_tbl := lw_at lw_m5 119 rfl
theorem q1138 : (Jvm.Cond.methodLink "Shapelayer" (172 : Nat) ({ cls := "java/util/List", name := "indexOf", desc := "(Ljava/lang/Object;)I" } : Jvm.MethodName)) ∈ lw_all := lw_g (lw_at lw_m5 120 rfl) rfl
theorem q1150 : (Jvm.Cond.interfaceEntry "Shapelayer" (176 : Nat)) ∈ lw_tbl := lw_at lw_m5 132 rfl
theorem q1151 : (Jvm.Cond.methodLink "Shapelayer" (176 : Nat) ({ cls := "java/util/List", name := "remove", desc := "(I)Ljava/lang/Object;" } : Jvm.MethodName)) ∈ lw_all := lw_g (lw_at lw_m5 133 rfl) rfl
theorem q1159 : (Jvm.Cond.interfaceEntry "Shapelayer" (178 : Nat)) ∈ lw_tbl := lw_at lw_m5 141 rfl
theorem q1160 : (Jvm.Cond.methodLink "Shapelayer" (178 : Nat) ({ cls := "java/util/List", name := "add", desc := "(ILjava/lang/Object;)V" } : Jvm.MethodName)) ∈ lw_all := lw_g (lw_at lw_m5 142 rfl) rfl
theorem q1189 : (Jvm.Cond.instanceMethod ({ cls := "Shapelayer", name := "setParent", desc := "(II)I" } : Jvm.MethodName)) ∈ lw_all := lw_g (lw_at lw_m5 171 rfl) rfl
theorem q1190 : (Jvm.Cond.selects "Shapelayer" ({ cls := "Shapelayer", name := "setParent", desc := "(II)I" } : Jvm.MethodName) ({ cls := "Shapelayer", name := "setParent", desc := "(II)I" } : Jvm.MethodName)) ∈ lw_all := lw_g (lw_at lw_m5 172 rfl) rfl
theorem q1191 : (Jvm.Cond.code ({ cls := "Shapelayer", name := "setParent", desc := "(II)I" } : Jvm.MethodName) prog_1_method_19_code (6 : Nat) (Option.some Jvm.ClassFile.FieldType.int)) ∈ lw_all := lw_g (lw_at lw_m5 173 rfl) rfl
theorem q1192 : (Jvm.Cond.methodLink "Shapelayer" (181 : Nat) ({ cls := "Shapelayer$Layer", name := "isOn", desc := "(LShapelayer$Layer;)Z" } : Jvm.MethodName)) ∈ lw_all := lw_g (lw_at lw_m5 174 rfl) rfl
theorem q1200 : (Jvm.Cond.methodLink "Shapelayer" (185 : Nat) ({ cls := "Shapelayer", name := "numberOf", desc := "(LShapelayer$Layer;)I" } : Jvm.MethodName)) ∈ lw_all := lw_g (lw_at lw_m5 182 rfl) rfl
theorem q1201 : (Jvm.Cond.static ({ cls := "Shapelayer", name := "numberOf", desc := "(LShapelayer$Layer;)I" } : Jvm.MethodName)) ∈ lw_all := lw_g (lw_at lw_m5 183 rfl) rfl
theorem q1202 : (Jvm.Cond.code ({ cls := "Shapelayer", name := "numberOf", desc := "(LShapelayer$Layer;)I" } : Jvm.MethodName) prog_1_method_18_code (1 : Nat) (Option.some Jvm.ClassFile.FieldType.int)) ∈ lw_all := lw_g (lw_at lw_m5 184 rfl) rfl
theorem q1207 : (Jvm.Cond.instanceMethod ({ cls := "Shapelayer", name := "setMatte", desc := "(IIZ)I" } : Jvm.MethodName)) ∈ lw_all := lw_g (lw_at lw_m5 189 rfl) rfl
theorem q1208 : (Jvm.Cond.selects "Shapelayer" ({ cls := "Shapelayer", name := "setMatte", desc := "(IIZ)I" } : Jvm.MethodName) ({ cls := "Shapelayer", name := "setMatte", desc := "(IIZ)I" } : Jvm.MethodName)) ∈ lw_all := lw_g (lw_at lw_m5 190 rfl) rfl
theorem q1209 : (Jvm.Cond.code ({ cls := "Shapelayer", name := "setMatte", desc := "(IIZ)I" } : Jvm.MethodName) prog_1_method_20_code (7 : Nat) (Option.some Jvm.ClassFile.FieldType.int)) ∈ lw_all := lw_g (lw_at lw_m5 191 rfl) rfl
theorem q1214 : (Jvm.Cond.instanceMethod ({ cls := "Shapelayer", name := "setSpan", desc := "(III)I" } : Jvm.MethodName)) ∈ lw_all := lw_g (lw_at lw_m5 196 rfl) rfl
theorem q1215 : (Jvm.Cond.selects "Shapelayer" ({ cls := "Shapelayer", name := "setSpan", desc := "(III)I" } : Jvm.MethodName) ({ cls := "Shapelayer", name := "setSpan", desc := "(III)I" } : Jvm.MethodName)) ∈ lw_all := lw_g (lw_at lw_m5 197 rfl) rfl
theorem q1216 : (Jvm.Cond.code ({ cls := "Shapelayer", name := "setSpan", desc := "(III)I" } : Jvm.MethodName) prog_1_method_21_code (6 : Nat) (Option.some Jvm.ClassFile.FieldType.int)) ∈ lw_all := lw_g (lw_at lw_m5 198 rfl) rfl
theorem q1221 : (Jvm.Cond.instanceMethod ({ cls := "Shapelayer", name := "key", desc := "(IIIII)I" } : Jvm.MethodName)) ∈ lw_all := lw_g (lw_at lw_m5 203 rfl) rfl
theorem q1222 : (Jvm.Cond.selects "Shapelayer" ({ cls := "Shapelayer", name := "key", desc := "(IIIII)I" } : Jvm.MethodName) ({ cls := "Shapelayer", name := "key", desc := "(IIIII)I" } : Jvm.MethodName)) ∈ lw_all := lw_g (lw_at lw_m5 204 rfl) rfl
theorem q1223 : (Jvm.Cond.code ({ cls := "Shapelayer", name := "key", desc := "(IIIII)I" } : Jvm.MethodName) prog_1_method_24_code (10 : Nat) (Option.some Jvm.ClassFile.FieldType.int)) ∈ lw_all := lw_g (lw_at lw_m5 205 rfl) rfl
theorem q1224 : (Jvm.Cond.methodLink "Shapelayer" (202 : Nat) ({ cls := "Shapelayer", name := "keyed", desc := "(II)LShapelayer$Keyed;" } : Jvm.MethodName)) ∈ lw_all := lw_g (lw_at lw_m5 206 rfl) rfl
theorem q1225 : (Jvm.Cond.privateMethod ({ cls := "Shapelayer", name := "keyed", desc := "(II)LShapelayer$Keyed;" } : Jvm.MethodName)) ∈ lw_tbl := lw_at lw_m5 207 rfl
theorem q1226 : (Jvm.Cond.instanceMethod ({ cls := "Shapelayer", name := "keyed", desc := "(II)LShapelayer$Keyed;" } : Jvm.MethodName)) ∈ lw_all := lw_g (lw_at lw_m5 208 rfl) rfl
theorem q1227 : (Jvm.Cond.code ({ cls := "Shapelayer", name := "keyed", desc := "(II)LShapelayer$Keyed;" } : Jvm.MethodName) prog_1_method_23_code (4 : Nat) (Option.some (Jvm.ClassFile.FieldType.object "Shapelayer$Keyed"))) ∈ lw_all := lw_g (lw_at lw_m5 209 rfl) rfl
theorem q1228 : (Jvm.Cond.methodLink "Shapelayer" (206 : Nat) ({ cls := "Shapelayer", name := "checkTime", desc := "(I)V" } : Jvm.MethodName)) ∈ lw_all := lw_g (lw_at lw_m5 210 rfl) rfl
theorem q1229 : (Jvm.Cond.static ({ cls := "Shapelayer", name := "checkTime", desc := "(I)V" } : Jvm.MethodName)) ∈ lw_all := lw_g (lw_at lw_m5 211 rfl) rfl
theorem q1230 : (Jvm.Cond.code ({ cls := "Shapelayer", name := "checkTime", desc := "(I)V" } : Jvm.MethodName) prog_1_method_22_code (1 : Nat) (Option.none : Option Jvm.ClassFile.FieldType)) ∈ lw_all := lw_g (lw_at lw_m5 212 rfl) rfl
theorem q1231 : (Jvm.Cond.constant "Shapelayer" (209 : Nat) (-99999 : Int32)) ∈ lw_all := lw_g (lw_at lw_m5 213 rfl) rfl
theorem q1232 : (Jvm.Cond.constant "Shapelayer" (210 : Nat) (99999 : Int32)) ∈ lw_all := lw_g (lw_at lw_m5 214 rfl) rfl
theorem q1233 : (Jvm.Cond.methodLink "Shapelayer" (211 : Nat) ({ cls := "Shapelayer$Keyed", name := "has", desc := "(I)Z" } : Jvm.MethodName)) ∈ lw_all := lw_g (lw_at lw_m5 215 rfl) rfl
theorem q1246 : (Jvm.Cond.methodLink "Shapelayer" (219 : Nat) ({ cls := "Shapelayer$Keyed", name := "placeOf", desc := "(I)I" } : Jvm.MethodName)) ∈ lw_all := lw_g (lw_at lw_m5 228 rfl) rfl
theorem q1247 : (Jvm.Cond.classLink "Shapelayer" (223 : Nat) "Shapelayer$Key") ∈ lw_all := lw_g (lw_at lw_m5 229 rfl) rfl
theorem q1249 : (Jvm.Cond.methodLink "Shapelayer" (225 : Nat) ({ cls := "Shapelayer$Key", name := "<init>", desc := "(III)V" } : Jvm.MethodName)) ∈ lw_all := lw_g (lw_at lw_m5 231 rfl) rfl
theorem q1281 : (Jvm.Cond.fieldLinkNest "Shapelayer" (231 : Nat) "Shapelayer$Key" "number" "I" "Shapelayer") ∈ lw_tbl := lw_at lw_m6 23 rfl
theorem q1296 : (Jvm.Cond.instanceMethod ({ cls := "Shapelayer", name := "unkey", desc := "(III)I" } : Jvm.MethodName)) ∈ lw_all := lw_g (lw_at lw_m6 38 rfl) rfl
theorem q1297 : (Jvm.Cond.selects "Shapelayer" ({ cls := "Shapelayer", name := "unkey", desc := "(III)I" } : Jvm.MethodName) ({ cls := "Shapelayer", name := "unkey", desc := "(III)I" } : Jvm.MethodName)) ∈ lw_all := lw_g (lw_at lw_m6 39 rfl) rfl
theorem q1298 : (Jvm.Cond.code ({ cls := "Shapelayer", name := "unkey", desc := "(III)I" } : Jvm.MethodName) prog_1_method_25_code (6 : Nat) (Option.some Jvm.ClassFile.FieldType.int)) ∈ lw_all := lw_g (lw_at lw_m6 40 rfl) rfl
theorem q1299 : (Jvm.Cond.classLink "Shapelayer" (228 : Nat) "java/util/NoSuchElementException") ∈ lw_all := lw_g (lw_at lw_m6 41 rfl) rfl
theorem q1300 : (Jvm.Cond.methodLink "Shapelayer" (230 : Nat) ({ cls := "java/util/NoSuchElementException", name := "<init>", desc := "()V" } : Jvm.MethodName)) ∈ lw_all := lw_g (lw_at lw_m6 42 rfl) rfl
theorem q1305 : (Jvm.Cond.instanceMethod ({ cls := "Shapelayer", name := "value", desc := "(III)I" } : Jvm.MethodName)) ∈ lw_all := lw_g (lw_at lw_m6 47 rfl) rfl
theorem q1306 : (Jvm.Cond.selects "Shapelayer" ({ cls := "Shapelayer", name := "value", desc := "(III)I" } : Jvm.MethodName) ({ cls := "Shapelayer", name := "value", desc := "(III)I" } : Jvm.MethodName)) ∈ lw_all := lw_g (lw_at lw_m6 48 rfl) rfl
theorem q1307 : (Jvm.Cond.code ({ cls := "Shapelayer", name := "value", desc := "(III)I" } : Jvm.MethodName) prog_1_method_26_code (5 : Nat) (Option.some Jvm.ClassFile.FieldType.int)) ∈ lw_all := lw_g (lw_at lw_m6 49 rfl) rfl
theorem q1308 : (Jvm.Cond.methodLink "Shapelayer" (232 : Nat) ({ cls := "Shapelayer$Layer", name := "value", desc := "(II)I" } : Jvm.MethodName)) ∈ lw_all := lw_g (lw_at lw_m6 50 rfl) rfl
theorem q1367 : (Jvm.Cond.instanceMethod ({ cls := "Shapelayer", name := "map", desc := "(IIIIZ)J" } : Jvm.MethodName)) ∈ lw_all := lw_g (lw_at lw_m6 109 rfl) rfl
theorem q1368 : (Jvm.Cond.selects "Shapelayer" ({ cls := "Shapelayer", name := "map", desc := "(IIIIZ)J" } : Jvm.MethodName) ({ cls := "Shapelayer", name := "map", desc := "(IIIIZ)J" } : Jvm.MethodName)) ∈ lw_all := lw_g (lw_at lw_m6 110 rfl) rfl
theorem q1369 : (Jvm.Cond.code ({ cls := "Shapelayer", name := "map", desc := "(IIIIZ)J" } : Jvm.MethodName) prog_1_method_27_code (8 : Nat) (Option.some Jvm.ClassFile.FieldType.long)) ∈ lw_all := lw_g (lw_at lw_m6 111 rfl) rfl
theorem q1370 : (Jvm.Cond.methodLink "Shapelayer" (235 : Nat) ({ cls := "Shapelayer$Layer", name := "map", desc := "(ILShapelayer$Outer;JJ[J)V" } : Jvm.MethodName)) ∈ lw_all := lw_g (lw_at lw_m6 112 rfl) rfl
theorem q1400 : (Jvm.Cond.instanceMethod ({ cls := "Shapelayer", name := "left", desc := "(II)I" } : Jvm.MethodName)) ∈ lw_all := lw_g (lw_at lw_m6 142 rfl) rfl
theorem q1401 : (Jvm.Cond.selects "Shapelayer" ({ cls := "Shapelayer", name := "left", desc := "(II)I" } : Jvm.MethodName) ({ cls := "Shapelayer", name := "left", desc := "(II)I" } : Jvm.MethodName)) ∈ lw_all := lw_g (lw_at lw_m6 143 rfl) rfl
theorem q1402 : (Jvm.Cond.code ({ cls := "Shapelayer", name := "left", desc := "(II)I" } : Jvm.MethodName) prog_1_method_28_code (5 : Nat) (Option.some Jvm.ClassFile.FieldType.int)) ∈ lw_all := lw_g (lw_at lw_m6 144 rfl) rfl
theorem q1403 : (Jvm.Cond.methodLink "Shapelayer" (239 : Nat) ({ cls := "Shapelayer$Stroke", name := "left", desc := "(I)I" } : Jvm.MethodName)) ∈ lw_all := lw_g (lw_at lw_m6 145 rfl) rfl
theorem q1426 : (Jvm.Cond.instanceMethod ({ cls := "Shapelayer", name := "cell", desc := "(IIII)I" } : Jvm.MethodName)) ∈ lw_all := lw_g (lw_at lw_m6 168 rfl) rfl
theorem q1427 : (Jvm.Cond.selects "Shapelayer" ({ cls := "Shapelayer", name := "cell", desc := "(IIII)I" } : Jvm.MethodName) ({ cls := "Shapelayer", name := "cell", desc := "(IIII)I" } : Jvm.MethodName)) ∈ lw_all := lw_g (lw_at lw_m6 169 rfl) rfl
theorem q1428 : (Jvm.Cond.code ({ cls := "Shapelayer", name := "cell", desc := "(IIII)I" } : Jvm.MethodName) prog_1_method_32_code (6 : Nat) (Option.some Jvm.ClassFile.FieldType.int)) ∈ lw_all := lw_g (lw_at lw_m6 170 rfl) rfl
theorem q1429 : (Jvm.Cond.methodLink "Shapelayer" (269 : Nat) ({ cls := "Shapelayer", name := "frame", desc := "(LShapelayer$Composition;I)LShapelayer$Raster;" } : Jvm.MethodName)) ∈ lw_all := lw_g (lw_at lw_m6 171 rfl) rfl
theorem q1430 : (Jvm.Cond.privateMethod ({ cls := "Shapelayer", name := "frame", desc := "(LShapelayer$Composition;I)LShapelayer$Raster;" } : Jvm.MethodName)) ∈ lw_tbl := lw_at lw_m6 172 rfl
theorem q1431 : (Jvm.Cond.instanceMethod ({ cls := "Shapelayer", name := "frame", desc := "(LShapelayer$Composition;I)LShapelayer$Raster;" } : Jvm.MethodName)) ∈ lw_all := lw_g (lw_at lw_m6 173 rfl) rfl
theorem q1432 : (Jvm.Cond.code ({ cls := "Shapelayer", name := "frame", desc := "(LShapelayer$Composition;I)LShapelayer$Raster;" } : Jvm.MethodName) prog_1_method_30_code (4 : Nat) (Option.some (Jvm.ClassFile.FieldType.object "Shapelayer$Raster"))) ∈ lw_all := lw_g (lw_at lw_m6 174 rfl) rfl
theorem q1433 : (Jvm.Cond.classLink "Shapelayer" (249 : Nat) "Shapelayer$Frame") ∈ lw_all := lw_g (lw_at lw_m6 175 rfl) rfl
theorem q1435 : (Jvm.Cond.methodLink "Shapelayer" (259 : Nat) ({ cls := "Shapelayer", name := "drawn", desc := "(LShapelayer$Composition;I)LShapelayer$Raster;" } : Jvm.MethodName)) ∈ lw_all := lw_g (lw_at lw_m6 177 rfl) rfl
theorem q1436 : (Jvm.Cond.privateMethod ({ cls := "Shapelayer", name := "drawn", desc := "(LShapelayer$Composition;I)LShapelayer$Raster;" } : Jvm.MethodName)) ∈ lw_tbl := lw_at lw_m6 178 rfl
theorem q1437 : (Jvm.Cond.instanceMethod ({ cls := "Shapelayer", name := "drawn", desc := "(LShapelayer$Composition;I)LShapelayer$Raster;" } : Jvm.MethodName)) ∈ lw_all := lw_g (lw_at lw_m6 179 rfl) rfl
theorem q1438 : (Jvm.Cond.code ({ cls := "Shapelayer", name := "drawn", desc := "(LShapelayer$Composition;I)LShapelayer$Raster;" } : Jvm.MethodName) prog_1_method_29_code (3 : Nat) (Option.some (Jvm.ClassFile.FieldType.object "Shapelayer$Raster"))) ∈ lw_all := lw_g (lw_at lw_m6 180 rfl) rfl
theorem q1439 : (Jvm.Cond.methodLink "Shapelayer" (242 : Nat) ({ cls := "Shapelayer$Raster", name := "clear", desc := "()LShapelayer$Raster;" } : Jvm.MethodName)) ∈ lw_all := lw_g (lw_at lw_m6 181 rfl) rfl
theorem q1443 : (Jvm.Cond.methodLink "Shapelayer" (245 : Nat) ({ cls := "Shapelayer$Composition", name := "draw", desc := "(ILShapelayer$Outer;LShapelayer$Raster;)V" } : Jvm.MethodName)) ∈ lw_all := lw_g (lw_at lw_m6 185 rfl) rfl
theorem q1563 : (Jvm.Cond.methodLink "Shapelayer" (263 : Nat) ({ cls := "Shapelayer$Raster", name := "copy", desc := "()LShapelayer$Raster;" } : Jvm.MethodName)) ∈ lw_all := lw_g (lw_at lw_m7 65 rfl) rfl
theorem q1567 : (Jvm.Cond.methodLink "Shapelayer" (266 : Nat) ({ cls := "Shapelayer$Frame", name := "<init>", desc := "(LShapelayer$Composition;ILShapelayer$Raster;)V" } : Jvm.MethodName)) ∈ lw_all := lw_g (lw_at lw_m7 69 rfl) rfl
theorem q1572 : (Jvm.Cond.fieldLinkNest "Shapelayer" (251 : Nat) "Shapelayer$Frame" "composition" "LShapelayer$Composition;" "Shapelayer") ∈ lw_tbl := lw_at lw_m7 74 rfl
theorem q1574 : (Jvm.Cond.fieldLinkNest "Shapelayer" (253 : Nat) "Shapelayer$Frame" "time" "I" "Shapelayer") ∈ lw_tbl := lw_at lw_m7 76 rfl
theorem q1576 : (Jvm.Cond.fieldLinkNest "Shapelayer" (256 : Nat) "Shapelayer$Frame" "raster" "LShapelayer$Raster;" "Shapelayer") ∈ lw_tbl := lw_at lw_m7 78 rfl
theorem q1584 : (Jvm.Cond.methodLink "Shapelayer" (272 : Nat) ({ cls := "Shapelayer$Raster", name := "at", desc := "(II)I" } : Jvm.MethodName)) ∈ lw_all := lw_g (lw_at lw_m7 86 rfl) rfl
theorem q1592 : (Jvm.Cond.instanceMethod ({ cls := "Shapelayer", name := "covered", desc := "(II)I" } : Jvm.MethodName)) ∈ lw_all := lw_g (lw_at lw_m7 94 rfl) rfl
theorem q1593 : (Jvm.Cond.selects "Shapelayer" ({ cls := "Shapelayer", name := "covered", desc := "(II)I" } : Jvm.MethodName) ({ cls := "Shapelayer", name := "covered", desc := "(II)I" } : Jvm.MethodName)) ∈ lw_all := lw_g (lw_at lw_m7 95 rfl) rfl
theorem q1594 : (Jvm.Cond.code ({ cls := "Shapelayer", name := "covered", desc := "(II)I" } : Jvm.MethodName) prog_1_method_33_code (3 : Nat) (Option.some Jvm.ClassFile.FieldType.int)) ∈ lw_all := lw_g (lw_at lw_m7 96 rfl) rfl
theorem q1595 : (Jvm.Cond.methodLink "Shapelayer" (275 : Nat) ({ cls := "Shapelayer", name := "asked", desc := "(II)LShapelayer$Raster;" } : Jvm.MethodName)) ∈ lw_all := lw_g (lw_at lw_m7 97 rfl) rfl
theorem q1596 : (Jvm.Cond.privateMethod ({ cls := "Shapelayer", name := "asked", desc := "(II)LShapelayer$Raster;" } : Jvm.MethodName)) ∈ lw_tbl := lw_at lw_m7 98 rfl
theorem q1597 : (Jvm.Cond.instanceMethod ({ cls := "Shapelayer", name := "asked", desc := "(II)LShapelayer$Raster;" } : Jvm.MethodName)) ∈ lw_all := lw_g (lw_at lw_m7 99 rfl) rfl
theorem q1598 : (Jvm.Cond.code ({ cls := "Shapelayer", name := "asked", desc := "(II)LShapelayer$Raster;" } : Jvm.MethodName) prog_1_method_31_code (4 : Nat) (Option.some (Jvm.ClassFile.FieldType.object "Shapelayer$Raster"))) ∈ lw_all := lw_g (lw_at lw_m7 100 rfl) rfl
theorem q1599 : (Jvm.Cond.methodLink "Shapelayer" (279 : Nat) ({ cls := "Shapelayer$Raster", name := "count", desc := "()I" } : Jvm.MethodName)) ∈ lw_all := lw_g (lw_at lw_m7 101 rfl) rfl
theorem q1607 : (Jvm.Cond.instanceMethod ({ cls := "Shapelayer", name := "checksum", desc := "(II)I" } : Jvm.MethodName)) ∈ lw_all := lw_g (lw_at lw_m7 109 rfl) rfl
theorem q1608 : (Jvm.Cond.selects "Shapelayer" ({ cls := "Shapelayer", name := "checksum", desc := "(II)I" } : Jvm.MethodName) ({ cls := "Shapelayer", name := "checksum", desc := "(II)I" } : Jvm.MethodName)) ∈ lw_all := lw_g (lw_at lw_m7 110 rfl) rfl
theorem q1609 : (Jvm.Cond.code ({ cls := "Shapelayer", name := "checksum", desc := "(II)I" } : Jvm.MethodName) prog_1_method_34_code (8 : Nat) (Option.some Jvm.ClassFile.FieldType.int)) ∈ lw_all := lw_g (lw_at lw_m7 111 rfl) rfl
theorem q1614 : (Jvm.Cond.instanceMethod ({ cls := "Shapelayer", name := "playErrors", desc := "(III)I" } : Jvm.MethodName)) ∈ lw_all := lw_g (lw_at lw_m7 116 rfl) rfl
theorem q1615 : (Jvm.Cond.selects "Shapelayer" ({ cls := "Shapelayer", name := "playErrors", desc := "(III)I" } : Jvm.MethodName) ({ cls := "Shapelayer", name := "playErrors", desc := "(III)I" } : Jvm.MethodName)) ∈ lw_all := lw_g (lw_at lw_m7 117 rfl) rfl
theorem q1616 : (Jvm.Cond.code ({ cls := "Shapelayer", name := "playErrors", desc := "(III)I" } : Jvm.MethodName) prog_1_method_35_code (7 : Nat) (Option.some Jvm.ClassFile.FieldType.int)) ∈ lw_all := lw_g (lw_at lw_m7 118 rfl) rfl
theorem q1617 : (Jvm.Cond.methodLink "Shapelayer" (286 : Nat) ({ cls := "Shapelayer$Raster", name := "isLike", desc := "(LShapelayer$Raster;)Z" } : Jvm.MethodName)) ∈ lw_all := lw_g (lw_at lw_m7 119 rfl) rfl
theorem q1625 : (Jvm.Cond.instanceMethod ({ cls := "Shapelayer", name := "writeRow", desc := "(III)I" } : Jvm.MethodName)) ∈ lw_all := lw_g (lw_at lw_m7 127 rfl) rfl
theorem q1626 : (Jvm.Cond.selects "Shapelayer" ({ cls := "Shapelayer", name := "writeRow", desc := "(III)I" } : Jvm.MethodName) ({ cls := "Shapelayer", name := "writeRow", desc := "(III)I" } : Jvm.MethodName)) ∈ lw_all := lw_g (lw_at lw_m7 128 rfl) rfl
theorem q1627 : (Jvm.Cond.code ({ cls := "Shapelayer", name := "writeRow", desc := "(III)I" } : Jvm.MethodName) prog_1_method_36_code (8 : Nat) (Option.some Jvm.ClassFile.FieldType.int)) ∈ lw_all := lw_g (lw_at lw_m7 129 rfl) rfl
theorem q1628 : (Jvm.Cond.methodLink "Shapelayer" (293 : Nat) ({ cls := "java/lang/StringBuilder", name := "append", desc := "(C)Ljava/lang/StringBuilder;" } : Jvm.MethodName)) ∈ lw_all := lw_g (lw_at lw_m7 130 rfl) rfl
theorem q1645 : (Jvm.Cond.methodLink "Shapelayer" (297 : Nat) ({ cls := "java/lang/StringBuilder", name := "reverse", desc := "()Ljava/lang/StringBuilder;" } : Jvm.MethodName)) ∈ lw_all := lw_g (lw_at lw_m7 147 rfl) rfl
theorem q1680 : (Jvm.Cond.instanceMethod ({ cls := "Shapelayer", name := "write", desc := "(I)I" } : Jvm.MethodName)) ∈ lw_all := lw_g (lw_at lw_m7 182 rfl) rfl
theorem q1681 : (Jvm.Cond.selects "Shapelayer" ({ cls := "Shapelayer", name := "write", desc := "(I)I" } : Jvm.MethodName) ({ cls := "Shapelayer", name := "write", desc := "(I)I" } : Jvm.MethodName)) ∈ lw_all := lw_g (lw_at lw_m7 183 rfl) rfl
theorem q1682 : (Jvm.Cond.code ({ cls := "Shapelayer", name := "write", desc := "(I)I" } : Jvm.MethodName) prog_1_method_37_code (3 : Nat) (Option.some Jvm.ClassFile.FieldType.int)) ∈ lw_all := lw_g (lw_at lw_m7 184 rfl) rfl
theorem q1683 : (Jvm.Cond.methodLink "Shapelayer" (301 : Nat) ({ cls := "Shapelayer$Layer", name := "tail", desc := "()Ljava/lang/String;" } : Jvm.MethodName)) ∈ lw_all := lw_g (lw_at lw_m7 185 rfl) rfl
theorem q1700 : (Jvm.Cond.methodLink "Shapelayer" (305 : Nat) ({ cls := "java/lang/StringBuilder", name := "append", desc := "(Ljava/lang/String;)Ljava/lang/StringBuilder;" } : Jvm.MethodName)) ∈ lw_all := lw_g (lw_at lw_m7 202 rfl) rfl
theorem q1701 : (Jvm.Cond.methodLink "Shapelayer" (308 : Nat) ({ cls := "Shapelayer$Layer", name := "toString", desc := "()Ljava/lang/String;" } : Jvm.MethodName)) ∈ lw_all := lw_g (lw_at lw_m7 203 rfl) rfl
theorem q1774 : (Jvm.Cond.methodLink "Shapelayer" (311 : Nat) ({ cls := "java/lang/StringBuilder", name := "insert", desc := "(ILjava/lang/String;)Ljava/lang/StringBuilder;" } : Jvm.MethodName)) ∈ lw_all := lw_g (lw_at lw_m8 36 rfl) rfl
theorem q1792 : (Jvm.Cond.instanceMethod ({ cls := "Shapelayer", name := "coveredPart", desc := "(II)F" } : Jvm.MethodName)) ∈ lw_all := lw_g (lw_at lw_m8 54 rfl) rfl
theorem q1793 : (Jvm.Cond.selects "Shapelayer" ({ cls := "Shapelayer", name := "coveredPart", desc := "(II)F" } : Jvm.MethodName) ({ cls := "Shapelayer", name := "coveredPart", desc := "(II)F" } : Jvm.MethodName)) ∈ lw_all := lw_g (lw_at lw_m8 55 rfl) rfl
theorem q1794 : (Jvm.Cond.code ({ cls := "Shapelayer", name := "coveredPart", desc := "(II)F" } : Jvm.MethodName) prog_1_method_40_code (3 : Nat) (Option.some Jvm.ClassFile.FieldType.float)) ∈ lw_all := lw_g (lw_at lw_m8 56 rfl) rfl
theorem q1795 : (Jvm.Cond.methodLink "Shapelayer" (321 : Nat) ({ cls := "Shapelayer", name := "covered", desc := "(II)I" } : Jvm.MethodName)) ∈ lw_all := lw_g (lw_at lw_m8 57 rfl) rfl
theorem q1796 : (Jvm.Cond.constantFloat "Shapelayer" (324 : Nat) (1128267776 : UInt32)) ∈ lw_all := lw_g (lw_at lw_m8 58 rfl) rfl
theorem q2227 : (Jvm.Cond.castable "Shapelayer" "java/lang/Object") ∈ lw_tbl := lw_at lw_m10 9 rfl
theorem in_X1 : ∀ w ∈ wsX10, w ∈ lw_all := lw_in wsX10 [207, 209, 211, 213, 215, 217] (by decide +kernel) (by decide +kernel)
