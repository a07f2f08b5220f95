/-! ShapelayerModel -/
set_option maxRecDepth 100000
def RX3 : String := "ShapelayerModel"
def TX3 : u_T := fun k => match k with
  | 0 => ("ShapelayerModel", "thrown", "I", false)
  | 1 => ("ShapelayerModel", "compositions", "I", false)
  | 2 => ("ShapelayerModel", "orders", "[I", true)
  | 3 => ("ShapelayerModel", "orderCounts", "[I", true)
  | 4 => ("ShapelayerModel", "kinds", "[I", true)
  | 5 => ("ShapelayerModel", "homes", "[I", true)
  | 6 => ("ShapelayerModel", "widths", "[I", true)
  | 7 => ("ShapelayerModel", "heights", "[I", true)
  | 8 => ("ShapelayerModel", "colours", "[I", true)
  | 9 => ("ShapelayerModel", "parents", "[I", true)
  | 10 => ("ShapelayerModel", "mattes", "[I", true)
  | 11 => ("ShapelayerModel", "isInverted", "[Z", true)
  | 12 => ("ShapelayerModel", "firsts", "[I", true)
  | 13 => ("ShapelayerModel", "ends", "[I", true)
  | 14 => ("ShapelayerModel", "isThere", "[Z", true)
  | 15 => ("ShapelayerModel", "made", "I", false)
  | 16 => ("ShapelayerModel", "pointXs", "[I", true)
  | 17 => ("ShapelayerModel", "pointYs", "[I", true)
  | 18 => ("ShapelayerModel", "pointCounts", "[I", true)
  | 19 => ("ShapelayerModel", "keyCounts", "[I", true)
  | 20 => ("ShapelayerModel", "keyTimes", "[I", true)
  | 21 => ("ShapelayerModel", "keyNumbers", "[I", true)
  | 22 => ("ShapelayerModel", "keyKinds", "[I", true)
  | 23 => ("ShapelayerModel", "mappedX", "J", false)
  | 24 => ("ShapelayerModel", "mappedY", "J", false)
  | 25 => ("ShapelayerModel", "around", "[I", true)
  | 26 => ("ShapelayerModel", "aroundTimes", "[I", true)
  | 27 => ("ShapelayerModel", "pages", "[I", true)
  | 28 => ("ShapelayerModel", "output", "[I", true)
  | _ => ("ShapelayerModel", "outputLength", "I", false)
def tyX3 : Nat → FieldType := fun k => match k with
  | 0 => .int
  | 1 => .int
  | 2 => .array .int
  | 3 => .array .int
  | 4 => .array .int
  | 5 => .array .int
  | 6 => .array .int
  | 7 => .array .int
  | 8 => .array .int
  | 9 => .array .int
  | 10 => .array .int
  | 11 => .array .boolean
  | 12 => .array .int
  | 13 => .array .int
  | 14 => .array .boolean
  | 15 => .int
  | 16 => .array .int
  | 17 => .array .int
  | 18 => .array .int
  | 19 => .array .int
  | 20 => .array .int
  | 21 => .array .int
  | 22 => .array .int
  | 23 => .long
  | 24 => .long
  | 25 => .array .int
  | 26 => .array .int
  | 27 => .array .int
  | 28 => .array .int
  | _ => .int
abbrev wsX30 : List Cond := u_ws RX3 TX3 30
set_option maxRecDepth 100000 in
theorem nmX3 : ∀ a, a < 30 → ∀ b, b < 30 → a ≠ b → (TX3 a).2.1 ≠ (TX3 b).2.1 := by decide +kernel
set_option maxRecDepth 100000 in
theorem tyX3_ok : ∀ k, k < 30 → parseFieldDescriptor (TX3 k).2.2.1 = some (tyX3 k) := by decide +kernel
abbrev cX3_init : ByteArray := prog_20_method_1_code
def yX3_init : MethodName := ⟨RX3, "<init>", "()V"⟩
def dkwX3_init_8 : List UInt8 := [16, 64, 188, 10, 181, 0, 80, 177]
abbrev dktX3_init_8 : List UInt8 := dkwX3_init_8 ++ []
def dkwX3_init_7 : List UInt8 := [7, 188, 10, 181, 0, 71, 42, 7, 188, 10, 181, 0, 74, 42, 17, 6, 192, 188, 10, 181, 0, 77, 42]
abbrev dktX3_init_7 : List UInt8 := dkwX3_init_7 ++ dktX3_init_8
def dkwX3_init_6 : List UInt8 := [188, 10, 181, 0, 62, 42, 17, 3, 0, 188, 10, 181, 0, 65, 42, 17, 3, 0, 188, 10, 181, 0, 68, 42]
abbrev dktX3_init_6 : List UInt8 := dkwX3_init_6 ++ dktX3_init_7
def dkwX3_init_5 : List UInt8 := [181, 0, 53, 42, 16, 12, 188, 10, 181, 0, 56, 42, 16, 96, 188, 10, 181, 0, 59, 42, 17, 3, 0]
abbrev dktX3_init_5 : List UInt8 := dkwX3_init_5 ++ dktX3_init_6
def dkwX3_init_4 : List UInt8 := [181, 0, 44, 42, 16, 12, 188, 4, 181, 0, 47, 42, 16, 72, 188, 10, 181, 0, 50, 42, 16, 72, 188, 10]
abbrev dktX3_init_4 : List UInt8 := dkwX3_init_4 ++ dktX3_init_5
def dkwX3_init_3 : List UInt8 := [181, 0, 34, 42, 16, 12, 188, 4, 181, 0, 37, 42, 16, 12, 188, 10, 181, 0, 41, 42, 16, 12, 188, 10]
abbrev dktX3_init_3 : List UInt8 := dkwX3_init_3 ++ dktX3_init_4
def dkwX3_init_2 : List UInt8 := [181, 0, 25, 42, 16, 12, 188, 10, 181, 0, 28, 42, 16, 12, 188, 10, 181, 0, 31, 42, 16, 12, 188, 10]
abbrev dktX3_init_2 : List UInt8 := dkwX3_init_2 ++ dktX3_init_3
def dkwX3_init_1 : List UInt8 := [181, 0, 16, 42, 16, 12, 188, 10, 181, 0, 19, 42, 16, 12, 188, 10, 181, 0, 22, 42, 16, 12, 188, 10]
abbrev dktX3_init_1 : List UInt8 := dkwX3_init_1 ++ dktX3_init_2
def dkwX3_init_0 : List UInt8 := [42, 183, 0, 3, 42, 16, 48, 188, 10, 181, 0, 9, 42, 7, 188, 10, 181, 0, 13, 42, 16, 12, 188, 10]
abbrev dktX3_init_0 : List UInt8 := dkwX3_init_0 ++ dktX3_init_1
theorem dksX3_init_0 : cX3_init.data.toList.drop 0 = dktX3_init_0 := by decide +kernel
theorem dksX3_init_1 : cX3_init.data.toList.drop 24 = dktX3_init_1 := dk_seg dksX3_init_0 24 rfl rfl
theorem dksX3_init_2 : cX3_init.data.toList.drop 48 = dktX3_init_2 := dk_seg dksX3_init_1 24 rfl rfl
theorem dksX3_init_3 : cX3_init.data.toList.drop 72 = dktX3_init_3 := dk_seg dksX3_init_2 24 rfl rfl
theorem dksX3_init_4 : cX3_init.data.toList.drop 96 = dktX3_init_4 := dk_seg dksX3_init_3 24 rfl rfl
theorem dksX3_init_5 : cX3_init.data.toList.drop 120 = dktX3_init_5 := dk_seg dksX3_init_4 24 rfl rfl
theorem dksX3_init_6 : cX3_init.data.toList.drop 143 = dktX3_init_6 := dk_seg dksX3_init_5 23 rfl rfl
theorem dksX3_init_7 : cX3_init.data.toList.drop 167 = dktX3_init_7 := dk_seg dksX3_init_6 24 rfl rfl
theorem dksX3_init_8 : cX3_init.data.toList.drop 190 = dktX3_init_8 := dk_seg dksX3_init_7 23 rfl rfl
theorem dX3_init_0 : decode cX3_init 0 = .ok (.aload_n 0, 1) := dk_42 (dk_at dksX3_init_0 0 rfl rfl)
theorem dX3_init_1 : decode cX3_init 1 = .ok (.invokespecial 3, 3) := dk_183 0 3 (dk_at dksX3_init_0 1 rfl rfl)
theorem dX3_init_4 : decode cX3_init 4 = .ok (.aload_n 0, 1) := dk_42 (dk_at dksX3_init_0 4 rfl rfl)
theorem dX3_init_5 : decode cX3_init 5 = .ok (.bipush 48, 2) := dk_16 48 (dk_at dksX3_init_0 5 rfl rfl)
theorem dX3_init_7 : decode cX3_init 7 = .ok (.newarray .int, 2) := dk_188_10 (dk_at dksX3_init_0 7 rfl rfl)
theorem dX3_init_9 : decode cX3_init 9 = .ok (.putfield 9, 3) := dk_181 0 9 (dk_at dksX3_init_0 9 rfl rfl)
theorem dX3_init_12 : decode cX3_init 12 = .ok (.aload_n 0, 1) := dk_42 (dk_at dksX3_init_0 12 rfl rfl)
theorem dX3_init_13 : decode cX3_init 13 = .ok (.iconst 4, 1) := dk_7 (dk_at dksX3_init_0 13 rfl rfl)
theorem dX3_init_14 : decode cX3_init 14 = .ok (.newarray .int, 2) := dk_188_10 (dk_at dksX3_init_0 14 rfl rfl)
theorem dX3_init_16 : decode cX3_init 16 = .ok (.putfield 13, 3) := dk_181 0 13 (dk_at dksX3_init_0 16 rfl rfl)
theorem dX3_init_19 : decode cX3_init 19 = .ok (.aload_n 0, 1) := dk_42 (dk_at dksX3_init_0 19 rfl rfl)
theorem dX3_init_20 : decode cX3_init 20 = .ok (.bipush 12, 2) := dk_16 12 (dk_at dksX3_init_0 20 rfl rfl)
theorem dX3_init_22 : decode cX3_init 22 = .ok (.newarray .int, 2) := dk_188_10 (dk_at dksX3_init_0 22 rfl rfl)
theorem dX3_init_24 : decode cX3_init 24 = .ok (.putfield 16, 3) := dk_181 0 16 (dk_at dksX3_init_1 0 rfl rfl)
theorem dX3_init_27 : decode cX3_init 27 = .ok (.aload_n 0, 1) := dk_42 (dk_at dksX3_init_1 3 rfl rfl)
theorem dX3_init_28 : decode cX3_init 28 = .ok (.bipush 12, 2) := dk_16 12 (dk_at dksX3_init_1 4 rfl rfl)
theorem dX3_init_30 : decode cX3_init 30 = .ok (.newarray .int, 2) := dk_188_10 (dk_at dksX3_init_1 6 rfl rfl)
theorem dX3_init_32 : decode cX3_init 32 = .ok (.putfield 19, 3) := dk_181 0 19 (dk_at dksX3_init_1 8 rfl rfl)
theorem dX3_init_35 : decode cX3_init 35 = .ok (.aload_n 0, 1) := dk_42 (dk_at dksX3_init_1 11 rfl rfl)
theorem dX3_init_36 : decode cX3_init 36 = .ok (.bipush 12, 2) := dk_16 12 (dk_at dksX3_init_1 12 rfl rfl)
theorem dX3_init_38 : decode cX3_init 38 = .ok (.newarray .int, 2) := dk_188_10 (dk_at dksX3_init_1 14 rfl rfl)
theorem dX3_init_40 : decode cX3_init 40 = .ok (.putfield 22, 3) := dk_181 0 22 (dk_at dksX3_init_1 16 rfl rfl)
theorem dX3_init_43 : decode cX3_init 43 = .ok (.aload_n 0, 1) := dk_42 (dk_at dksX3_init_1 19 rfl rfl)
theorem dX3_init_44 : decode cX3_init 44 = .ok (.bipush 12, 2) := dk_16 12 (dk_at dksX3_init_1 20 rfl rfl)
theorem dX3_init_46 : decode cX3_init 46 = .ok (.newarray .int, 2) := dk_188_10 (dk_at dksX3_init_1 22 rfl rfl)
theorem dX3_init_48 : decode cX3_init 48 = .ok (.putfield 25, 3) := dk_181 0 25 (dk_at dksX3_init_2 0 rfl rfl)
theorem dX3_init_51 : decode cX3_init 51 = .ok (.aload_n 0, 1) := dk_42 (dk_at dksX3_init_2 3 rfl rfl)
theorem dX3_init_52 : decode cX3_init 52 = .ok (.bipush 12, 2) := dk_16 12 (dk_at dksX3_init_2 4 rfl rfl)
theorem dX3_init_54 : decode cX3_init 54 = .ok (.newarray .int, 2) := dk_188_10 (dk_at dksX3_init_2 6 rfl rfl)
theorem dX3_init_56 : decode cX3_init 56 = .ok (.putfield 28, 3) := dk_181 0 28 (dk_at dksX3_init_2 8 rfl rfl)
theorem dX3_init_59 : decode cX3_init 59 = .ok (.aload_n 0, 1) := dk_42 (dk_at dksX3_init_2 11 rfl rfl)
theorem dX3_init_60 : decode cX3_init 60 = .ok (.bipush 12, 2) := dk_16 12 (dk_at dksX3_init_2 12 rfl rfl)
theorem dX3_init_62 : decode cX3_init 62 = .ok (.newarray .int, 2) := dk_188_10 (dk_at dksX3_init_2 14 rfl rfl)
theorem dX3_init_64 : decode cX3_init 64 = .ok (.putfield 31, 3) := dk_181 0 31 (dk_at dksX3_init_2 16 rfl rfl)
theorem dX3_init_67 : decode cX3_init 67 = .ok (.aload_n 0, 1) := dk_42 (dk_at dksX3_init_2 19 rfl rfl)
theorem dX3_init_68 : decode cX3_init 68 = .ok (.bipush 12, 2) := dk_16 12 (dk_at dksX3_init_2 20 rfl rfl)
theorem dX3_init_70 : decode cX3_init 70 = .ok (.newarray .int, 2) := dk_188_10 (dk_at dksX3_init_2 22 rfl rfl)
theorem dX3_init_72 : decode cX3_init 72 = .ok (.putfield 34, 3) := dk_181 0 34 (dk_at dksX3_init_3 0 rfl rfl)
theorem dX3_init_75 : decode cX3_init 75 = .ok (.aload_n 0, 1) := dk_42 (dk_at dksX3_init_3 3 rfl rfl)
theorem dX3_init_76 : decode cX3_init 76 = .ok (.bipush 12, 2) := dk_16 12 (dk_at dksX3_init_3 4 rfl rfl)
theorem dX3_init_78 : decode cX3_init 78 = .ok (.newarray .boolean, 2) := dk_188_4 (dk_at dksX3_init_3 6 rfl rfl)
theorem dX3_init_80 : decode cX3_init 80 = .ok (.putfield 37, 3) := dk_181 0 37 (dk_at dksX3_init_3 8 rfl rfl)
theorem dX3_init_83 : decode cX3_init 83 = .ok (.aload_n 0, 1) := dk_42 (dk_at dksX3_init_3 11 rfl rfl)
theorem dX3_init_84 : decode cX3_init 84 = .ok (.bipush 12, 2) := dk_16 12 (dk_at dksX3_init_3 12 rfl rfl)
theorem dX3_init_86 : decode cX3_init 86 = .ok (.newarray .int, 2) := dk_188_10 (dk_at dksX3_init_3 14 rfl rfl)
theorem dX3_init_88 : decode cX3_init 88 = .ok (.putfield 41, 3) := dk_181 0 41 (dk_at dksX3_init_3 16 rfl rfl)
theorem dX3_init_91 : decode cX3_init 91 = .ok (.aload_n 0, 1) := dk_42 (dk_at dksX3_init_3 19 rfl rfl)
theorem dX3_init_92 : decode cX3_init 92 = .ok (.bipush 12, 2) := dk_16 12 (dk_at dksX3_init_3 20 rfl rfl)
theorem dX3_init_94 : decode cX3_init 94 = .ok (.newarray .int, 2) := dk_188_10 (dk_at dksX3_init_3 22 rfl rfl)
theorem dX3_init_96 : decode cX3_init 96 = .ok (.putfield 44, 3) := dk_181 0 44 (dk_at dksX3_init_4 0 rfl rfl)
theorem dX3_init_99 : decode cX3_init 99 = .ok (.aload_n 0, 1) := dk_42 (dk_at dksX3_init_4 3 rfl rfl)
theorem dX3_init_100 : decode cX3_init 100 = .ok (.bipush 12, 2) := dk_16 12 (dk_at dksX3_init_4 4 rfl rfl)
theorem dX3_init_102 : decode cX3_init 102 = .ok (.newarray .boolean, 2) := dk_188_4 (dk_at dksX3_init_4 6 rfl rfl)
theorem dX3_init_104 : decode cX3_init 104 = .ok (.putfield 47, 3) := dk_181 0 47 (dk_at dksX3_init_4 8 rfl rfl)
theorem dX3_init_107 : decode cX3_init 107 = .ok (.aload_n 0, 1) := dk_42 (dk_at dksX3_init_4 11 rfl rfl)
theorem dX3_init_108 : decode cX3_init 108 = .ok (.bipush 72, 2) := dk_16 72 (dk_at dksX3_init_4 12 rfl rfl)
theorem dX3_init_110 : decode cX3_init 110 = .ok (.newarray .int, 2) := dk_188_10 (dk_at dksX3_init_4 14 rfl rfl)
theorem dX3_init_112 : decode cX3_init 112 = .ok (.putfield 50, 3) := dk_181 0 50 (dk_at dksX3_init_4 16 rfl rfl)
theorem dX3_init_115 : decode cX3_init 115 = .ok (.aload_n 0, 1) := dk_42 (dk_at dksX3_init_4 19 rfl rfl)
theorem dX3_init_116 : decode cX3_init 116 = .ok (.bipush 72, 2) := dk_16 72 (dk_at dksX3_init_4 20 rfl rfl)
theorem dX3_init_118 : decode cX3_init 118 = .ok (.newarray .int, 2) := dk_188_10 (dk_at dksX3_init_4 22 rfl rfl)
theorem dX3_init_120 : decode cX3_init 120 = .ok (.putfield 53, 3) := dk_181 0 53 (dk_at dksX3_init_5 0 rfl rfl)
theorem dX3_init_123 : decode cX3_init 123 = .ok (.aload_n 0, 1) := dk_42 (dk_at dksX3_init_5 3 rfl rfl)
theorem dX3_init_124 : decode cX3_init 124 = .ok (.bipush 12, 2) := dk_16 12 (dk_at dksX3_init_5 4 rfl rfl)
theorem dX3_init_126 : decode cX3_init 126 = .ok (.newarray .int, 2) := dk_188_10 (dk_at dksX3_init_5 6 rfl rfl)
theorem dX3_init_128 : decode cX3_init 128 = .ok (.putfield 56, 3) := dk_181 0 56 (dk_at dksX3_init_5 8 rfl rfl)
theorem dX3_init_131 : decode cX3_init 131 = .ok (.aload_n 0, 1) := dk_42 (dk_at dksX3_init_5 11 rfl rfl)
theorem dX3_init_132 : decode cX3_init 132 = .ok (.bipush 96, 2) := dk_16 96 (dk_at dksX3_init_5 12 rfl rfl)
theorem dX3_init_134 : decode cX3_init 134 = .ok (.newarray .int, 2) := dk_188_10 (dk_at dksX3_init_5 14 rfl rfl)
theorem dX3_init_136 : decode cX3_init 136 = .ok (.putfield 59, 3) := dk_181 0 59 (dk_at dksX3_init_5 16 rfl rfl)
theorem dX3_init_139 : decode cX3_init 139 = .ok (.aload_n 0, 1) := dk_42 (dk_at dksX3_init_5 19 rfl rfl)
theorem dX3_init_140 : decode cX3_init 140 = .ok (.sipush 768, 3) := dk_17 3 0 (dk_at dksX3_init_5 20 rfl rfl)
theorem dX3_init_143 : decode cX3_init 143 = .ok (.newarray .int, 2) := dk_188_10 (dk_at dksX3_init_6 0 rfl rfl)
theorem dX3_init_145 : decode cX3_init 145 = .ok (.putfield 62, 3) := dk_181 0 62 (dk_at dksX3_init_6 2 rfl rfl)
theorem dX3_init_148 : decode cX3_init 148 = .ok (.aload_n 0, 1) := dk_42 (dk_at dksX3_init_6 5 rfl rfl)
theorem dX3_init_149 : decode cX3_init 149 = .ok (.sipush 768, 3) := dk_17 3 0 (dk_at dksX3_init_6 6 rfl rfl)
theorem dX3_init_152 : decode cX3_init 152 = .ok (.newarray .int, 2) := dk_188_10 (dk_at dksX3_init_6 9 rfl rfl)
theorem dX3_init_154 : decode cX3_init 154 = .ok (.putfield 65, 3) := dk_181 0 65 (dk_at dksX3_init_6 11 rfl rfl)
theorem dX3_init_157 : decode cX3_init 157 = .ok (.aload_n 0, 1) := dk_42 (dk_at dksX3_init_6 14 rfl rfl)
theorem dX3_init_158 : decode cX3_init 158 = .ok (.sipush 768, 3) := dk_17 3 0 (dk_at dksX3_init_6 15 rfl rfl)
theorem dX3_init_161 : decode cX3_init 161 = .ok (.newarray .int, 2) := dk_188_10 (dk_at dksX3_init_6 18 rfl rfl)
theorem dX3_init_163 : decode cX3_init 163 = .ok (.putfield 68, 3) := dk_181 0 68 (dk_at dksX3_init_6 20 rfl rfl)
theorem dX3_init_166 : decode cX3_init 166 = .ok (.aload_n 0, 1) := dk_42 (dk_at dksX3_init_6 23 rfl rfl)
theorem dX3_init_167 : decode cX3_init 167 = .ok (.iconst 4, 1) := dk_7 (dk_at dksX3_init_7 0 rfl rfl)
theorem dX3_init_168 : decode cX3_init 168 = .ok (.newarray .int, 2) := dk_188_10 (dk_at dksX3_init_7 1 rfl rfl)
theorem dX3_init_170 : decode cX3_init 170 = .ok (.putfield 71, 3) := dk_181 0 71 (dk_at dksX3_init_7 3 rfl rfl)
theorem dX3_init_173 : decode cX3_init 173 = .ok (.aload_n 0, 1) := dk_42 (dk_at dksX3_init_7 6 rfl rfl)
theorem dX3_init_174 : decode cX3_init 174 = .ok (.iconst 4, 1) := dk_7 (dk_at dksX3_init_7 7 rfl rfl)
theorem dX3_init_175 : decode cX3_init 175 = .ok (.newarray .int, 2) := dk_188_10 (dk_at dksX3_init_7 8 rfl rfl)
theorem dX3_init_177 : decode cX3_init 177 = .ok (.putfield 74, 3) := dk_181 0 74 (dk_at dksX3_init_7 10 rfl rfl)
theorem dX3_init_180 : decode cX3_init 180 = .ok (.aload_n 0, 1) := dk_42 (dk_at dksX3_init_7 13 rfl rfl)
theorem dX3_init_181 : decode cX3_init 181 = .ok (.sipush 1728, 3) := dk_17 6 192 (dk_at dksX3_init_7 14 rfl rfl)
theorem dX3_init_184 : decode cX3_init 184 = .ok (.newarray .int, 2) := dk_188_10 (dk_at dksX3_init_7 17 rfl rfl)
theorem dX3_init_186 : decode cX3_init 186 = .ok (.putfield 77, 3) := dk_181 0 77 (dk_at dksX3_init_7 19 rfl rfl)
theorem dX3_init_189 : decode cX3_init 189 = .ok (.aload_n 0, 1) := dk_42 (dk_at dksX3_init_7 22 rfl rfl)
theorem dX3_init_190 : decode cX3_init 190 = .ok (.bipush 64, 2) := dk_16 64 (dk_at dksX3_init_8 0 rfl rfl)
theorem dX3_init_192 : decode cX3_init 192 = .ok (.newarray .int, 2) := dk_188_10 (dk_at dksX3_init_8 2 rfl rfl)
theorem dX3_init_194 : decode cX3_init 194 = .ok (.putfield 80, 3) := dk_181 0 80 (dk_at dksX3_init_8 4 rfl rfl)
theorem dX3_init_197 : decode cX3_init 197 = .ok (.return_, 1) := dk_177 (dk_at dksX3_init_8 7 rfl rfl)
abbrev cX3_thrown : ByteArray := prog_20_method_2_code
def yX3_thrown : MethodName := ⟨RX3, "thrown", "()I"⟩
theorem dX3_thrown_0 : decode cX3_thrown 0 = .ok (.aload_n 0, 1) := by decide +kernel
theorem dX3_thrown_1 : decode cX3_thrown 1 = .ok (.getfield 83, 3) := by decide +kernel
theorem dX3_thrown_4 : decode cX3_thrown 4 = .ok (.ireturn, 1) := by decide +kernel
abbrev cX3_clear : ByteArray := prog_20_method_5_code
def yX3_clear : MethodName := ⟨RX3, "clear", "()I"⟩
def dkwX3_clear_1 : List UInt8 := [181, 0, 93, 27, 172]
abbrev dktX3_clear_1 : List UInt8 := dkwX3_clear_1 ++ []
def dkwX3_clear_0 : List UInt8 := [42, 3, 181, 0, 83, 42, 180, 0, 87, 60, 42, 3, 181, 0, 87, 42, 3, 181, 0, 90, 42, 3]
abbrev dktX3_clear_0 : List UInt8 := dkwX3_clear_0 ++ dktX3_clear_1
theorem dksX3_clear_0 : cX3_clear.data.toList.drop 0 = dktX3_clear_0 := by decide +kernel
theorem dksX3_clear_1 : cX3_clear.data.toList.drop 22 = dktX3_clear_1 := dk_seg dksX3_clear_0 22 rfl rfl
theorem dX3_clear_0 : decode cX3_clear 0 = .ok (.aload_n 0, 1) := dk_42 (dk_at dksX3_clear_0 0 rfl rfl)
theorem dX3_clear_1 : decode cX3_clear 1 = .ok (.iconst 0, 1) := dk_3 (dk_at dksX3_clear_0 1 rfl rfl)
theorem dX3_clear_2 : decode cX3_clear 2 = .ok (.putfield 83, 3) := dk_181 0 83 (dk_at dksX3_clear_0 2 rfl rfl)
theorem dX3_clear_5 : decode cX3_clear 5 = .ok (.aload_n 0, 1) := dk_42 (dk_at dksX3_clear_0 5 rfl rfl)
theorem dX3_clear_6 : decode cX3_clear 6 = .ok (.getfield 87, 3) := dk_180 0 87 (dk_at dksX3_clear_0 6 rfl rfl)
theorem dX3_clear_9 : decode cX3_clear 9 = .ok (.istore_n 1, 1) := dk_60 (dk_at dksX3_clear_0 9 rfl rfl)
theorem dX3_clear_10 : decode cX3_clear 10 = .ok (.aload_n 0, 1) := dk_42 (dk_at dksX3_clear_0 10 rfl rfl)
theorem dX3_clear_11 : decode cX3_clear 11 = .ok (.iconst 0, 1) := dk_3 (dk_at dksX3_clear_0 11 rfl rfl)
theorem dX3_clear_12 : decode cX3_clear 12 = .ok (.putfield 87, 3) := dk_181 0 87 (dk_at dksX3_clear_0 12 rfl rfl)
theorem dX3_clear_15 : decode cX3_clear 15 = .ok (.aload_n 0, 1) := dk_42 (dk_at dksX3_clear_0 15 rfl rfl)
theorem dX3_clear_16 : decode cX3_clear 16 = .ok (.iconst 0, 1) := dk_3 (dk_at dksX3_clear_0 16 rfl rfl)
theorem dX3_clear_17 : decode cX3_clear 17 = .ok (.putfield 90, 3) := dk_181 0 90 (dk_at dksX3_clear_0 17 rfl rfl)
theorem dX3_clear_20 : decode cX3_clear 20 = .ok (.aload_n 0, 1) := dk_42 (dk_at dksX3_clear_0 20 rfl rfl)
theorem dX3_clear_21 : decode cX3_clear 21 = .ok (.iconst 0, 1) := dk_3 (dk_at dksX3_clear_0 21 rfl rfl)
theorem dX3_clear_22 : decode cX3_clear 22 = .ok (.putfield 93, 3) := dk_181 0 93 (dk_at dksX3_clear_1 0 rfl rfl)
theorem dX3_clear_25 : decode cX3_clear 25 = .ok (.iload_n 1, 1) := dk_27 (dk_at dksX3_clear_1 3 rfl rfl)
theorem dX3_clear_26 : decode cX3_clear 26 = .ok (.ireturn, 1) := dk_172 (dk_at dksX3_clear_1 4 rfl rfl)
abbrev cX3_addComposition : ByteArray := prog_20_method_8_code
def yX3_addComposition : MethodName := ⟨RX3, "addComposition", "()I"⟩
def dkwX3_addComposition_2 : List UInt8 := [4, 100, 172]
abbrev dktX3_addComposition_2 : List UInt8 := dkwX3_addComposition_2 ++ []
def dkwX3_addComposition_1 : List UInt8 := [42, 180, 0, 13, 42, 180, 0, 87, 3, 79, 42, 89, 180, 0, 87, 4, 96, 181, 0, 87, 42, 180, 0, 87]
abbrev dktX3_addComposition_1 : List UInt8 := dkwX3_addComposition_1 ++ dktX3_addComposition_2
def dkwX3_addComposition_0 : List UInt8 := [42, 42, 180, 0, 87, 7, 162, 0, 7, 4, 167, 0, 4, 3, 4, 4, 182, 0, 100, 154, 0, 5, 3, 172]
abbrev dktX3_addComposition_0 : List UInt8 := dkwX3_addComposition_0 ++ dktX3_addComposition_1
theorem dksX3_addComposition_0 : cX3_addComposition.data.toList.drop 0 = dktX3_addComposition_0 := by decide +kernel
theorem dksX3_addComposition_1 : cX3_addComposition.data.toList.drop 24 = dktX3_addComposition_1 := dk_seg dksX3_addComposition_0 24 rfl rfl
theorem dksX3_addComposition_2 : cX3_addComposition.data.toList.drop 48 = dktX3_addComposition_2 := dk_seg dksX3_addComposition_1 24 rfl rfl
theorem dX3_addComposition_0 : decode cX3_addComposition 0 = .ok (.aload_n 0, 1) := dk_42 (dk_at dksX3_addComposition_0 0 rfl rfl)
theorem dX3_addComposition_1 : decode cX3_addComposition 1 = .ok (.aload_n 0, 1) := dk_42 (dk_at dksX3_addComposition_0 1 rfl rfl)
theorem dX3_addComposition_2 : decode cX3_addComposition 2 = .ok (.getfield 87, 3) := dk_180 0 87 (dk_at dksX3_addComposition_0 2 rfl rfl)
theorem dX3_addComposition_5 : decode cX3_addComposition 5 = .ok (.iconst 4, 1) := dk_7 (dk_at dksX3_addComposition_0 5 rfl rfl)
theorem dX3_addComposition_6 : decode cX3_addComposition 6 = .ok (.if_icmp .ge 7, 3) := dk_162 0 7 (dk_at dksX3_addComposition_0 6 rfl rfl)
theorem dX3_addComposition_9 : decode cX3_addComposition 9 = .ok (.iconst 1, 1) := dk_4 (dk_at dksX3_addComposition_0 9 rfl rfl)
theorem dX3_addComposition_10 : decode cX3_addComposition 10 = .ok (.goto 4, 3) := dk_167 0 4 (dk_at dksX3_addComposition_0 10 rfl rfl)
theorem dX3_addComposition_13 : decode cX3_addComposition 13 = .ok (.iconst 0, 1) := dk_3 (dk_at dksX3_addComposition_0 13 rfl rfl)
theorem dX3_addComposition_14 : decode cX3_addComposition 14 = .ok (.iconst 1, 1) := dk_4 (dk_at dksX3_addComposition_0 14 rfl rfl)
theorem dX3_addComposition_15 : decode cX3_addComposition 15 = .ok (.iconst 1, 1) := dk_4 (dk_at dksX3_addComposition_0 15 rfl rfl)
theorem dX3_addComposition_16 : decode cX3_addComposition 16 = .ok (.invokevirtual 100, 3) := dk_182 0 100 (dk_at dksX3_addComposition_0 16 rfl rfl)
theorem dX3_addComposition_19 : decode cX3_addComposition 19 = .ok (.ifCond .ne 5, 3) := dk_154 0 5 (dk_at dksX3_addComposition_0 19 rfl rfl)
theorem dX3_addComposition_22 : decode cX3_addComposition 22 = .ok (.iconst 0, 1) := dk_3 (dk_at dksX3_addComposition_0 22 rfl rfl)
theorem dX3_addComposition_23 : decode cX3_addComposition 23 = .ok (.ireturn, 1) := dk_172 (dk_at dksX3_addComposition_0 23 rfl rfl)
theorem dX3_addComposition_24 : decode cX3_addComposition 24 = .ok (.aload_n 0, 1) := dk_42 (dk_at dksX3_addComposition_1 0 rfl rfl)
theorem dX3_addComposition_25 : decode cX3_addComposition 25 = .ok (.getfield 13, 3) := dk_180 0 13 (dk_at dksX3_addComposition_1 1 rfl rfl)
theorem dX3_addComposition_28 : decode cX3_addComposition 28 = .ok (.aload_n 0, 1) := dk_42 (dk_at dksX3_addComposition_1 4 rfl rfl)
theorem dX3_addComposition_29 : decode cX3_addComposition 29 = .ok (.getfield 87, 3) := dk_180 0 87 (dk_at dksX3_addComposition_1 5 rfl rfl)
theorem dX3_addComposition_32 : decode cX3_addComposition 32 = .ok (.iconst 0, 1) := dk_3 (dk_at dksX3_addComposition_1 8 rfl rfl)
theorem dX3_addComposition_33 : decode cX3_addComposition 33 = .ok (.iastore, 1) := dk_79 (dk_at dksX3_addComposition_1 9 rfl rfl)
theorem dX3_addComposition_34 : decode cX3_addComposition 34 = .ok (.aload_n 0, 1) := dk_42 (dk_at dksX3_addComposition_1 10 rfl rfl)
theorem dX3_addComposition_35 : decode cX3_addComposition 35 = .ok (.dup, 1) := dk_89 (dk_at dksX3_addComposition_1 11 rfl rfl)
theorem dX3_addComposition_36 : decode cX3_addComposition 36 = .ok (.getfield 87, 3) := dk_180 0 87 (dk_at dksX3_addComposition_1 12 rfl rfl)
theorem dX3_addComposition_39 : decode cX3_addComposition 39 = .ok (.iconst 1, 1) := dk_4 (dk_at dksX3_addComposition_1 15 rfl rfl)
theorem dX3_addComposition_40 : decode cX3_addComposition 40 = .ok (.iadd, 1) := dk_96 (dk_at dksX3_addComposition_1 16 rfl rfl)
theorem dX3_addComposition_41 : decode cX3_addComposition 41 = .ok (.putfield 87, 3) := dk_181 0 87 (dk_at dksX3_addComposition_1 17 rfl rfl)
theorem dX3_addComposition_44 : decode cX3_addComposition 44 = .ok (.aload_n 0, 1) := dk_42 (dk_at dksX3_addComposition_1 20 rfl rfl)
theorem dX3_addComposition_45 : decode cX3_addComposition 45 = .ok (.getfield 87, 3) := dk_180 0 87 (dk_at dksX3_addComposition_1 21 rfl rfl)
theorem dX3_addComposition_48 : decode cX3_addComposition 48 = .ok (.iconst 1, 1) := dk_4 (dk_at dksX3_addComposition_2 0 rfl rfl)
theorem dX3_addComposition_49 : decode cX3_addComposition 49 = .ok (.isub, 1) := dk_100 (dk_at dksX3_addComposition_2 1 rfl rfl)
theorem dX3_addComposition_50 : decode cX3_addComposition 50 = .ok (.ireturn, 1) := dk_172 (dk_at dksX3_addComposition_2 2 rfl rfl)
abbrev cX3_check : ByteArray := prog_20_method_4_code
def yX3_check : MethodName := ⟨RX3, "check", "(ZZZ)Z"⟩
def dkwX3_check_1 : List UInt8 := [167, 0, 4, 3, 181, 0, 83, 42, 180, 0, 83, 154, 0, 7, 4, 167, 0, 4, 3, 172]
abbrev dktX3_check_1 : List UInt8 := dkwX3_check_1 ++ []
def dkwX3_check_0 : List UInt8 := [42, 27, 154, 0, 7, 4, 167, 0, 20, 28, 154, 0, 7, 5, 167, 0, 12, 29, 154, 0, 7, 6]
abbrev dktX3_check_0 : List UInt8 := dkwX3_check_0 ++ dktX3_check_1
theorem dksX3_check_0 : cX3_check.data.toList.drop 0 = dktX3_check_0 := by decide +kernel
theorem dksX3_check_1 : cX3_check.data.toList.drop 22 = dktX3_check_1 := dk_seg dksX3_check_0 22 rfl rfl
theorem dX3_check_0 : decode cX3_check 0 = .ok (.aload_n 0, 1) := dk_42 (dk_at dksX3_check_0 0 rfl rfl)
theorem dX3_check_1 : decode cX3_check 1 = .ok (.iload_n 1, 1) := dk_27 (dk_at dksX3_check_0 1 rfl rfl)
theorem dX3_check_2 : decode cX3_check 2 = .ok (.ifCond .ne 7, 3) := dk_154 0 7 (dk_at dksX3_check_0 2 rfl rfl)
theorem dX3_check_5 : decode cX3_check 5 = .ok (.iconst 1, 1) := dk_4 (dk_at dksX3_check_0 5 rfl rfl)
theorem dX3_check_6 : decode cX3_check 6 = .ok (.goto 20, 3) := dk_167 0 20 (dk_at dksX3_check_0 6 rfl rfl)
theorem dX3_check_9 : decode cX3_check 9 = .ok (.iload_n 2, 1) := dk_28 (dk_at dksX3_check_0 9 rfl rfl)
theorem dX3_check_10 : decode cX3_check 10 = .ok (.ifCond .ne 7, 3) := dk_154 0 7 (dk_at dksX3_check_0 10 rfl rfl)
theorem dX3_check_13 : decode cX3_check 13 = .ok (.iconst 2, 1) := dk_5 (dk_at dksX3_check_0 13 rfl rfl)
theorem dX3_check_14 : decode cX3_check 14 = .ok (.goto 12, 3) := dk_167 0 12 (dk_at dksX3_check_0 14 rfl rfl)
theorem dX3_check_17 : decode cX3_check 17 = .ok (.iload_n 3, 1) := dk_29 (dk_at dksX3_check_0 17 rfl rfl)
theorem dX3_check_18 : decode cX3_check 18 = .ok (.ifCond .ne 7, 3) := dk_154 0 7 (dk_at dksX3_check_0 18 rfl rfl)
theorem dX3_check_21 : decode cX3_check 21 = .ok (.iconst 3, 1) := dk_6 (dk_at dksX3_check_0 21 rfl rfl)
theorem dX3_check_22 : decode cX3_check 22 = .ok (.goto 4, 3) := dk_167 0 4 (dk_at dksX3_check_1 0 rfl rfl)
theorem dX3_check_25 : decode cX3_check 25 = .ok (.iconst 0, 1) := dk_3 (dk_at dksX3_check_1 3 rfl rfl)
theorem dX3_check_26 : decode cX3_check 26 = .ok (.putfield 83, 3) := dk_181 0 83 (dk_at dksX3_check_1 4 rfl rfl)
theorem dX3_check_29 : decode cX3_check 29 = .ok (.aload_n 0, 1) := dk_42 (dk_at dksX3_check_1 7 rfl rfl)
theorem dX3_check_30 : decode cX3_check 30 = .ok (.getfield 83, 3) := dk_180 0 83 (dk_at dksX3_check_1 8 rfl rfl)
theorem dX3_check_33 : decode cX3_check 33 = .ok (.ifCond .ne 7, 3) := dk_154 0 7 (dk_at dksX3_check_1 11 rfl rfl)
theorem dX3_check_36 : decode cX3_check 36 = .ok (.iconst 1, 1) := dk_4 (dk_at dksX3_check_1 14 rfl rfl)
theorem dX3_check_37 : decode cX3_check 37 = .ok (.goto 4, 3) := dk_167 0 4 (dk_at dksX3_check_1 15 rfl rfl)
theorem dX3_check_40 : decode cX3_check 40 = .ok (.iconst 0, 1) := dk_3 (dk_at dksX3_check_1 18 rfl rfl)
theorem dX3_check_41 : decode cX3_check 41 = .ok (.ireturn, 1) := dk_172 (dk_at dksX3_check_1 19 rfl rfl)
abbrev cX3_addRect : ByteArray := prog_20_method_11_code
def yX3_addRect : MethodName := ⟨RX3, "addRect", "(IIII)I"⟩
def dkwX3_addRect_2 : List UInt8 := [182, 0, 108, 182, 0, 100, 153, 0, 16, 42, 3, 27, 28, 29, 21, 4, 182, 0, 112, 167, 0, 4, 3, 172]
abbrev dktX3_addRect_2 : List UInt8 := dkwX3_addRect_2 ++ []
def dkwX3_addRect_1 : List UInt8 := [16, 9, 184, 0, 96, 153, 0, 7, 4, 167, 0, 4, 3, 54, 5, 42, 42, 27, 182, 0, 104, 21, 5, 42]
abbrev dktX3_addRect_1 : List UInt8 := dkwX3_addRect_1 ++ dktX3_addRect_2
def dkwX3_addRect_0 : List UInt8 := [28, 4, 16, 20, 184, 0, 96, 153, 0, 28, 29, 4, 16, 20, 184, 0, 96, 153, 0, 18, 21, 4, 4]
abbrev dktX3_addRect_0 : List UInt8 := dkwX3_addRect_0 ++ dktX3_addRect_1
theorem dksX3_addRect_0 : cX3_addRect.data.toList.drop 0 = dktX3_addRect_0 := by decide +kernel
theorem dksX3_addRect_1 : cX3_addRect.data.toList.drop 23 = dktX3_addRect_1 := dk_seg dksX3_addRect_0 23 rfl rfl
theorem dksX3_addRect_2 : cX3_addRect.data.toList.drop 47 = dktX3_addRect_2 := dk_seg dksX3_addRect_1 24 rfl rfl
theorem dX3_addRect_0 : decode cX3_addRect 0 = .ok (.iload_n 2, 1) := dk_28 (dk_at dksX3_addRect_0 0 rfl rfl)
theorem dX3_addRect_1 : decode cX3_addRect 1 = .ok (.iconst 1, 1) := dk_4 (dk_at dksX3_addRect_0 1 rfl rfl)
theorem dX3_addRect_2 : decode cX3_addRect 2 = .ok (.bipush 20, 2) := dk_16 20 (dk_at dksX3_addRect_0 2 rfl rfl)
theorem dX3_addRect_4 : decode cX3_addRect 4 = .ok (.invokestatic 96, 3) := dk_184 0 96 (dk_at dksX3_addRect_0 4 rfl rfl)
theorem dX3_addRect_7 : decode cX3_addRect 7 = .ok (.ifCond .eq 28, 3) := dk_153 0 28 (dk_at dksX3_addRect_0 7 rfl rfl)
theorem dX3_addRect_10 : decode cX3_addRect 10 = .ok (.iload_n 3, 1) := dk_29 (dk_at dksX3_addRect_0 10 rfl rfl)
theorem dX3_addRect_11 : decode cX3_addRect 11 = .ok (.iconst 1, 1) := dk_4 (dk_at dksX3_addRect_0 11 rfl rfl)
theorem dX3_addRect_12 : decode cX3_addRect 12 = .ok (.bipush 20, 2) := dk_16 20 (dk_at dksX3_addRect_0 12 rfl rfl)
theorem dX3_addRect_14 : decode cX3_addRect 14 = .ok (.invokestatic 96, 3) := dk_184 0 96 (dk_at dksX3_addRect_0 14 rfl rfl)
theorem dX3_addRect_17 : decode cX3_addRect 17 = .ok (.ifCond .eq 18, 3) := dk_153 0 18 (dk_at dksX3_addRect_0 17 rfl rfl)
theorem dX3_addRect_20 : decode cX3_addRect 20 = .ok (.iload 4, 2) := dk_21 4 (dk_at dksX3_addRect_0 20 rfl rfl)
theorem dX3_addRect_22 : decode cX3_addRect 22 = .ok (.iconst 1, 1) := dk_4 (dk_at dksX3_addRect_0 22 rfl rfl)
theorem dX3_addRect_23 : decode cX3_addRect 23 = .ok (.bipush 9, 2) := dk_16 9 (dk_at dksX3_addRect_1 0 rfl rfl)
theorem dX3_addRect_25 : decode cX3_addRect 25 = .ok (.invokestatic 96, 3) := dk_184 0 96 (dk_at dksX3_addRect_1 2 rfl rfl)
theorem dX3_addRect_28 : decode cX3_addRect 28 = .ok (.ifCond .eq 7, 3) := dk_153 0 7 (dk_at dksX3_addRect_1 5 rfl rfl)
theorem dX3_addRect_31 : decode cX3_addRect 31 = .ok (.iconst 1, 1) := dk_4 (dk_at dksX3_addRect_1 8 rfl rfl)
theorem dX3_addRect_32 : decode cX3_addRect 32 = .ok (.goto 4, 3) := dk_167 0 4 (dk_at dksX3_addRect_1 9 rfl rfl)
theorem dX3_addRect_35 : decode cX3_addRect 35 = .ok (.iconst 0, 1) := dk_3 (dk_at dksX3_addRect_1 12 rfl rfl)
theorem dX3_addRect_36 : decode cX3_addRect 36 = .ok (.istore 5, 2) := dk_54 5 (dk_at dksX3_addRect_1 13 rfl rfl)
theorem dX3_addRect_38 : decode cX3_addRect 38 = .ok (.aload_n 0, 1) := dk_42 (dk_at dksX3_addRect_1 15 rfl rfl)
theorem dX3_addRect_39 : decode cX3_addRect 39 = .ok (.aload_n 0, 1) := dk_42 (dk_at dksX3_addRect_1 16 rfl rfl)
theorem dX3_addRect_40 : decode cX3_addRect 40 = .ok (.iload_n 1, 1) := dk_27 (dk_at dksX3_addRect_1 17 rfl rfl)
theorem dX3_addRect_41 : decode cX3_addRect 41 = .ok (.invokevirtual 104, 3) := dk_182 0 104 (dk_at dksX3_addRect_1 18 rfl rfl)
theorem dX3_addRect_44 : decode cX3_addRect 44 = .ok (.iload 5, 2) := dk_21 5 (dk_at dksX3_addRect_1 21 rfl rfl)
theorem dX3_addRect_46 : decode cX3_addRect 46 = .ok (.aload_n 0, 1) := dk_42 (dk_at dksX3_addRect_1 23 rfl rfl)
theorem dX3_addRect_47 : decode cX3_addRect 47 = .ok (.invokevirtual 108, 3) := dk_182 0 108 (dk_at dksX3_addRect_2 0 rfl rfl)
theorem dX3_addRect_50 : decode cX3_addRect 50 = .ok (.invokevirtual 100, 3) := dk_182 0 100 (dk_at dksX3_addRect_2 3 rfl rfl)
theorem dX3_addRect_53 : decode cX3_addRect 53 = .ok (.ifCond .eq 16, 3) := dk_153 0 16 (dk_at dksX3_addRect_2 6 rfl rfl)
theorem dX3_addRect_56 : decode cX3_addRect 56 = .ok (.aload_n 0, 1) := dk_42 (dk_at dksX3_addRect_2 9 rfl rfl)
theorem dX3_addRect_57 : decode cX3_addRect 57 = .ok (.iconst 0, 1) := dk_3 (dk_at dksX3_addRect_2 10 rfl rfl)
theorem dX3_addRect_58 : decode cX3_addRect 58 = .ok (.iload_n 1, 1) := dk_27 (dk_at dksX3_addRect_2 11 rfl rfl)
theorem dX3_addRect_59 : decode cX3_addRect 59 = .ok (.iload_n 2, 1) := dk_28 (dk_at dksX3_addRect_2 12 rfl rfl)
theorem dX3_addRect_60 : decode cX3_addRect 60 = .ok (.iload_n 3, 1) := dk_29 (dk_at dksX3_addRect_2 13 rfl rfl)
theorem dX3_addRect_61 : decode cX3_addRect 61 = .ok (.iload 4, 2) := dk_21 4 (dk_at dksX3_addRect_2 14 rfl rfl)
theorem dX3_addRect_63 : decode cX3_addRect 63 = .ok (.invokevirtual 112, 3) := dk_182 0 112 (dk_at dksX3_addRect_2 16 rfl rfl)
theorem dX3_addRect_66 : decode cX3_addRect 66 = .ok (.goto 4, 3) := dk_167 0 4 (dk_at dksX3_addRect_2 19 rfl rfl)
theorem dX3_addRect_69 : decode cX3_addRect 69 = .ok (.iconst 0, 1) := dk_3 (dk_at dksX3_addRect_2 22 rfl rfl)
theorem dX3_addRect_70 : decode cX3_addRect 70 = .ok (.ireturn, 1) := dk_172 (dk_at dksX3_addRect_2 23 rfl rfl)
abbrev cX3_isWithin : ByteArray := prog_20_method_3_code
def yX3_isWithin : MethodName := ⟨RX3, "isWithin", "(III)Z"⟩
def dkwX3_isWithin_0 : List UInt8 := [26, 27, 161, 0, 12, 26, 28, 163, 0, 7, 4, 167, 0, 4, 3, 172]
abbrev dktX3_isWithin_0 : List UInt8 := dkwX3_isWithin_0 ++ []
theorem dksX3_isWithin_0 : cX3_isWithin.data.toList.drop 0 = dktX3_isWithin_0 := by decide +kernel
theorem dX3_isWithin_0 : decode cX3_isWithin 0 = .ok (.iload_n 0, 1) := dk_26 (dk_at dksX3_isWithin_0 0 rfl rfl)
theorem dX3_isWithin_1 : decode cX3_isWithin 1 = .ok (.iload_n 1, 1) := dk_27 (dk_at dksX3_isWithin_0 1 rfl rfl)
theorem dX3_isWithin_2 : decode cX3_isWithin 2 = .ok (.if_icmp .lt 12, 3) := dk_161 0 12 (dk_at dksX3_isWithin_0 2 rfl rfl)
theorem dX3_isWithin_5 : decode cX3_isWithin 5 = .ok (.iload_n 0, 1) := dk_26 (dk_at dksX3_isWithin_0 5 rfl rfl)
theorem dX3_isWithin_6 : decode cX3_isWithin 6 = .ok (.iload_n 2, 1) := dk_28 (dk_at dksX3_isWithin_0 6 rfl rfl)
theorem dX3_isWithin_7 : decode cX3_isWithin 7 = .ok (.if_icmp .gt 7, 3) := dk_163 0 7 (dk_at dksX3_isWithin_0 7 rfl rfl)
theorem dX3_isWithin_10 : decode cX3_isWithin 10 = .ok (.iconst 1, 1) := dk_4 (dk_at dksX3_isWithin_0 10 rfl rfl)
theorem dX3_isWithin_11 : decode cX3_isWithin 11 = .ok (.goto 4, 3) := dk_167 0 4 (dk_at dksX3_isWithin_0 11 rfl rfl)
theorem dX3_isWithin_14 : decode cX3_isWithin 14 = .ok (.iconst 0, 1) := dk_3 (dk_at dksX3_isWithin_0 14 rfl rfl)
theorem dX3_isWithin_15 : decode cX3_isWithin 15 = .ok (.ireturn, 1) := dk_172 (dk_at dksX3_isWithin_0 15 rfl rfl)
abbrev cX3_isComposition : ByteArray := prog_20_method_6_code
def yX3_isComposition : MethodName := ⟨RX3, "isComposition", "(I)Z"⟩
def dkwX3_isComposition_0 : List UInt8 := [27, 3, 42, 180, 0, 87, 4, 100, 184, 0, 96, 172]
abbrev dktX3_isComposition_0 : List UInt8 := dkwX3_isComposition_0 ++ []
theorem dksX3_isComposition_0 : cX3_isComposition.data.toList.drop 0 = dktX3_isComposition_0 := by decide +kernel
theorem dX3_isComposition_0 : decode cX3_isComposition 0 = .ok (.iload_n 1, 1) := dk_27 (dk_at dksX3_isComposition_0 0 rfl rfl)
theorem dX3_isComposition_1 : decode cX3_isComposition 1 = .ok (.iconst 0, 1) := dk_3 (dk_at dksX3_isComposition_0 1 rfl rfl)
theorem dX3_isComposition_2 : decode cX3_isComposition 2 = .ok (.aload_n 0, 1) := dk_42 (dk_at dksX3_isComposition_0 2 rfl rfl)
theorem dX3_isComposition_3 : decode cX3_isComposition 3 = .ok (.getfield 87, 3) := dk_180 0 87 (dk_at dksX3_isComposition_0 3 rfl rfl)
theorem dX3_isComposition_6 : decode cX3_isComposition 6 = .ok (.iconst 1, 1) := dk_4 (dk_at dksX3_isComposition_0 6 rfl rfl)
theorem dX3_isComposition_7 : decode cX3_isComposition 7 = .ok (.isub, 1) := dk_100 (dk_at dksX3_isComposition_0 7 rfl rfl)
theorem dX3_isComposition_8 : decode cX3_isComposition 8 = .ok (.invokestatic 96, 3) := dk_184 0 96 (dk_at dksX3_isComposition_0 8 rfl rfl)
theorem dX3_isComposition_11 : decode cX3_isComposition 11 = .ok (.ireturn, 1) := dk_172 (dk_at dksX3_isComposition_0 11 rfl rfl)
abbrev cX3_hasRoom : ByteArray := prog_20_method_10_code
def yX3_hasRoom : MethodName := ⟨RX3, "hasRoom", "()Z"⟩
def dkwX3_hasRoom_0 : List UInt8 := [42, 180, 0, 90, 16, 12, 162, 0, 7, 4, 167, 0, 4, 3, 172]
abbrev dktX3_hasRoom_0 : List UInt8 := dkwX3_hasRoom_0 ++ []
theorem dksX3_hasRoom_0 : cX3_hasRoom.data.toList.drop 0 = dktX3_hasRoom_0 := by decide +kernel
theorem dX3_hasRoom_0 : decode cX3_hasRoom 0 = .ok (.aload_n 0, 1) := dk_42 (dk_at dksX3_hasRoom_0 0 rfl rfl)
theorem dX3_hasRoom_1 : decode cX3_hasRoom 1 = .ok (.getfield 90, 3) := dk_180 0 90 (dk_at dksX3_hasRoom_0 1 rfl rfl)
theorem dX3_hasRoom_4 : decode cX3_hasRoom 4 = .ok (.bipush 12, 2) := dk_16 12 (dk_at dksX3_hasRoom_0 4 rfl rfl)
theorem dX3_hasRoom_6 : decode cX3_hasRoom 6 = .ok (.if_icmp .ge 7, 3) := dk_162 0 7 (dk_at dksX3_hasRoom_0 6 rfl rfl)
theorem dX3_hasRoom_9 : decode cX3_hasRoom 9 = .ok (.iconst 1, 1) := dk_4 (dk_at dksX3_hasRoom_0 9 rfl rfl)
theorem dX3_hasRoom_10 : decode cX3_hasRoom 10 = .ok (.goto 4, 3) := dk_167 0 4 (dk_at dksX3_hasRoom_0 10 rfl rfl)
theorem dX3_hasRoom_13 : decode cX3_hasRoom 13 = .ok (.iconst 0, 1) := dk_3 (dk_at dksX3_hasRoom_0 13 rfl rfl)
theorem dX3_hasRoom_14 : decode cX3_hasRoom 14 = .ok (.ireturn, 1) := dk_172 (dk_at dksX3_hasRoom_0 14 rfl rfl)
abbrev cX3_add : ByteArray := prog_20_method_9_code
def yX3_add : MethodName := ⟨RX3, "add", "(IIIII)I"⟩
def dkwX3_add_7 : List UInt8 := [180, 0, 13, 28, 92, 46, 4, 96, 79, 21, 6, 172]
abbrev dktX3_add_7 : List UInt8 := dkwX3_add_7 ++ []
def dkwX3_add_6 : List UInt8 := [167, 255, 232, 42, 180, 0, 9, 16, 12, 28, 104, 42, 180, 0, 13, 28, 46, 96, 21, 6, 79, 42]
abbrev dktX3_add_6 : List UInt8 := dkwX3_add_6 ++ dktX3_add_7
def dkwX3_add_5 : List UInt8 := [21, 7, 16, 8, 162, 0, 23, 42, 180, 0, 59, 16, 8, 21, 6, 104, 21, 7, 96, 3, 79, 132, 7, 1]
abbrev dktX3_add_5 : List UInt8 := dkwX3_add_5 ++ dktX3_add_6
def dkwX3_add_4 : List UInt8 := [17, 3, 232, 79, 42, 180, 0, 47, 21, 6, 4, 84, 42, 180, 0, 56, 21, 6, 3, 79, 3, 54, 7]
abbrev dktX3_add_4 : List UInt8 := dkwX3_add_4 ++ dktX3_add_5
def dkwX3_add_3 : List UInt8 := [2, 79, 42, 180, 0, 37, 21, 6, 3, 84, 42, 180, 0, 41, 21, 6, 3, 79, 42, 180, 0, 44, 21, 6]
abbrev dktX3_add_3 : List UInt8 := dkwX3_add_3 ++ dktX3_add_4
def dkwX3_add_2 : List UInt8 := [79, 42, 180, 0, 28, 21, 6, 21, 5, 79, 42, 180, 0, 31, 21, 6, 2, 79, 42, 180, 0, 34, 21, 6]
abbrev dktX3_add_2 : List UInt8 := dkwX3_add_2 ++ dktX3_add_3
def dkwX3_add_1 : List UInt8 := [42, 180, 0, 19, 21, 6, 28, 79, 42, 180, 0, 22, 21, 6, 29, 79, 42, 180, 0, 25, 21, 6, 21, 4]
abbrev dktX3_add_1 : List UInt8 := dkwX3_add_1 ++ dktX3_add_2
def dkwX3_add_0 : List UInt8 := [42, 180, 0, 90, 54, 6, 42, 89, 180, 0, 90, 4, 96, 181, 0, 90, 42, 180, 0, 16, 21, 6, 27, 79]
abbrev dktX3_add_0 : List UInt8 := dkwX3_add_0 ++ dktX3_add_1
theorem dksX3_add_0 : cX3_add.data.toList.drop 0 = dktX3_add_0 := by decide +kernel
theorem dksX3_add_1 : cX3_add.data.toList.drop 24 = dktX3_add_1 := dk_seg dksX3_add_0 24 rfl rfl
theorem dksX3_add_2 : cX3_add.data.toList.drop 48 = dktX3_add_2 := dk_seg dksX3_add_1 24 rfl rfl
theorem dksX3_add_3 : cX3_add.data.toList.drop 72 = dktX3_add_3 := dk_seg dksX3_add_2 24 rfl rfl
theorem dksX3_add_4 : cX3_add.data.toList.drop 96 = dktX3_add_4 := dk_seg dksX3_add_3 24 rfl rfl
theorem dksX3_add_5 : cX3_add.data.toList.drop 119 = dktX3_add_5 := dk_seg dksX3_add_4 23 rfl rfl
theorem dksX3_add_6 : cX3_add.data.toList.drop 143 = dktX3_add_6 := dk_seg dksX3_add_5 24 rfl rfl
theorem dksX3_add_7 : cX3_add.data.toList.drop 165 = dktX3_add_7 := dk_seg dksX3_add_6 22 rfl rfl
theorem dX3_add_0 : decode cX3_add 0 = .ok (.aload_n 0, 1) := dk_42 (dk_at dksX3_add_0 0 rfl rfl)
theorem dX3_add_1 : decode cX3_add 1 = .ok (.getfield 90, 3) := dk_180 0 90 (dk_at dksX3_add_0 1 rfl rfl)
theorem dX3_add_4 : decode cX3_add 4 = .ok (.istore 6, 2) := dk_54 6 (dk_at dksX3_add_0 4 rfl rfl)
theorem dX3_add_6 : decode cX3_add 6 = .ok (.aload_n 0, 1) := dk_42 (dk_at dksX3_add_0 6 rfl rfl)
theorem dX3_add_7 : decode cX3_add 7 = .ok (.dup, 1) := dk_89 (dk_at dksX3_add_0 7 rfl rfl)
theorem dX3_add_8 : decode cX3_add 8 = .ok (.getfield 90, 3) := dk_180 0 90 (dk_at dksX3_add_0 8 rfl rfl)
theorem dX3_add_11 : decode cX3_add 11 = .ok (.iconst 1, 1) := dk_4 (dk_at dksX3_add_0 11 rfl rfl)
theorem dX3_add_12 : decode cX3_add 12 = .ok (.iadd, 1) := dk_96 (dk_at dksX3_add_0 12 rfl rfl)
theorem dX3_add_13 : decode cX3_add 13 = .ok (.putfield 90, 3) := dk_181 0 90 (dk_at dksX3_add_0 13 rfl rfl)
theorem dX3_add_16 : decode cX3_add 16 = .ok (.aload_n 0, 1) := dk_42 (dk_at dksX3_add_0 16 rfl rfl)
theorem dX3_add_17 : decode cX3_add 17 = .ok (.getfield 16, 3) := dk_180 0 16 (dk_at dksX3_add_0 17 rfl rfl)
theorem dX3_add_20 : decode cX3_add 20 = .ok (.iload 6, 2) := dk_21 6 (dk_at dksX3_add_0 20 rfl rfl)
theorem dX3_add_22 : decode cX3_add 22 = .ok (.iload_n 1, 1) := dk_27 (dk_at dksX3_add_0 22 rfl rfl)
theorem dX3_add_23 : decode cX3_add 23 = .ok (.iastore, 1) := dk_79 (dk_at dksX3_add_0 23 rfl rfl)
theorem dX3_add_24 : decode cX3_add 24 = .ok (.aload_n 0, 1) := dk_42 (dk_at dksX3_add_1 0 rfl rfl)
theorem dX3_add_25 : decode cX3_add 25 = .ok (.getfield 19, 3) := dk_180 0 19 (dk_at dksX3_add_1 1 rfl rfl)
theorem dX3_add_28 : decode cX3_add 28 = .ok (.iload 6, 2) := dk_21 6 (dk_at dksX3_add_1 4 rfl rfl)
theorem dX3_add_30 : decode cX3_add 30 = .ok (.iload_n 2, 1) := dk_28 (dk_at dksX3_add_1 6 rfl rfl)
theorem dX3_add_31 : decode cX3_add 31 = .ok (.iastore, 1) := dk_79 (dk_at dksX3_add_1 7 rfl rfl)
theorem dX3_add_32 : decode cX3_add 32 = .ok (.aload_n 0, 1) := dk_42 (dk_at dksX3_add_1 8 rfl rfl)
theorem dX3_add_33 : decode cX3_add 33 = .ok (.getfield 22, 3) := dk_180 0 22 (dk_at dksX3_add_1 9 rfl rfl)
theorem dX3_add_36 : decode cX3_add 36 = .ok (.iload 6, 2) := dk_21 6 (dk_at dksX3_add_1 12 rfl rfl)
theorem dX3_add_38 : decode cX3_add 38 = .ok (.iload_n 3, 1) := dk_29 (dk_at dksX3_add_1 14 rfl rfl)
theorem dX3_add_39 : decode cX3_add 39 = .ok (.iastore, 1) := dk_79 (dk_at dksX3_add_1 15 rfl rfl)
theorem dX3_add_40 : decode cX3_add 40 = .ok (.aload_n 0, 1) := dk_42 (dk_at dksX3_add_1 16 rfl rfl)
theorem dX3_add_41 : decode cX3_add 41 = .ok (.getfield 25, 3) := dk_180 0 25 (dk_at dksX3_add_1 17 rfl rfl)
theorem dX3_add_44 : decode cX3_add 44 = .ok (.iload 6, 2) := dk_21 6 (dk_at dksX3_add_1 20 rfl rfl)
theorem dX3_add_46 : decode cX3_add 46 = .ok (.iload 4, 2) := dk_21 4 (dk_at dksX3_add_1 22 rfl rfl)
theorem dX3_add_48 : decode cX3_add 48 = .ok (.iastore, 1) := dk_79 (dk_at dksX3_add_2 0 rfl rfl)
theorem dX3_add_49 : decode cX3_add 49 = .ok (.aload_n 0, 1) := dk_42 (dk_at dksX3_add_2 1 rfl rfl)
theorem dX3_add_50 : decode cX3_add 50 = .ok (.getfield 28, 3) := dk_180 0 28 (dk_at dksX3_add_2 2 rfl rfl)
theorem dX3_add_53 : decode cX3_add 53 = .ok (.iload 6, 2) := dk_21 6 (dk_at dksX3_add_2 5 rfl rfl)
theorem dX3_add_55 : decode cX3_add 55 = .ok (.iload 5, 2) := dk_21 5 (dk_at dksX3_add_2 7 rfl rfl)
theorem dX3_add_57 : decode cX3_add 57 = .ok (.iastore, 1) := dk_79 (dk_at dksX3_add_2 9 rfl rfl)
theorem dX3_add_58 : decode cX3_add 58 = .ok (.aload_n 0, 1) := dk_42 (dk_at dksX3_add_2 10 rfl rfl)
theorem dX3_add_59 : decode cX3_add 59 = .ok (.getfield 31, 3) := dk_180 0 31 (dk_at dksX3_add_2 11 rfl rfl)
theorem dX3_add_62 : decode cX3_add 62 = .ok (.iload 6, 2) := dk_21 6 (dk_at dksX3_add_2 14 rfl rfl)
theorem dX3_add_64 : decode cX3_add 64 = .ok (.iconst (-1), 1) := dk_2 (dk_at dksX3_add_2 16 rfl rfl)
theorem dX3_add_65 : decode cX3_add 65 = .ok (.iastore, 1) := dk_79 (dk_at dksX3_add_2 17 rfl rfl)
theorem dX3_add_66 : decode cX3_add 66 = .ok (.aload_n 0, 1) := dk_42 (dk_at dksX3_add_2 18 rfl rfl)
theorem dX3_add_67 : decode cX3_add 67 = .ok (.getfield 34, 3) := dk_180 0 34 (dk_at dksX3_add_2 19 rfl rfl)
theorem dX3_add_70 : decode cX3_add 70 = .ok (.iload 6, 2) := dk_21 6 (dk_at dksX3_add_2 22 rfl rfl)
theorem dX3_add_72 : decode cX3_add 72 = .ok (.iconst (-1), 1) := dk_2 (dk_at dksX3_add_3 0 rfl rfl)
theorem dX3_add_73 : decode cX3_add 73 = .ok (.iastore, 1) := dk_79 (dk_at dksX3_add_3 1 rfl rfl)
theorem dX3_add_74 : decode cX3_add 74 = .ok (.aload_n 0, 1) := dk_42 (dk_at dksX3_add_3 2 rfl rfl)
theorem dX3_add_75 : decode cX3_add 75 = .ok (.getfield 37, 3) := dk_180 0 37 (dk_at dksX3_add_3 3 rfl rfl)
theorem dX3_add_78 : decode cX3_add 78 = .ok (.iload 6, 2) := dk_21 6 (dk_at dksX3_add_3 6 rfl rfl)
theorem dX3_add_80 : decode cX3_add 80 = .ok (.iconst 0, 1) := dk_3 (dk_at dksX3_add_3 8 rfl rfl)
theorem dX3_add_81 : decode cX3_add 81 = .ok (.bastore, 1) := dk_84 (dk_at dksX3_add_3 9 rfl rfl)
theorem dX3_add_82 : decode cX3_add 82 = .ok (.aload_n 0, 1) := dk_42 (dk_at dksX3_add_3 10 rfl rfl)
theorem dX3_add_83 : decode cX3_add 83 = .ok (.getfield 41, 3) := dk_180 0 41 (dk_at dksX3_add_3 11 rfl rfl)
theorem dX3_add_86 : decode cX3_add 86 = .ok (.iload 6, 2) := dk_21 6 (dk_at dksX3_add_3 14 rfl rfl)
theorem dX3_add_88 : decode cX3_add 88 = .ok (.iconst 0, 1) := dk_3 (dk_at dksX3_add_3 16 rfl rfl)
theorem dX3_add_89 : decode cX3_add 89 = .ok (.iastore, 1) := dk_79 (dk_at dksX3_add_3 17 rfl rfl)
theorem dX3_add_90 : decode cX3_add 90 = .ok (.aload_n 0, 1) := dk_42 (dk_at dksX3_add_3 18 rfl rfl)
theorem dX3_add_91 : decode cX3_add 91 = .ok (.getfield 44, 3) := dk_180 0 44 (dk_at dksX3_add_3 19 rfl rfl)
theorem dX3_add_94 : decode cX3_add 94 = .ok (.iload 6, 2) := dk_21 6 (dk_at dksX3_add_3 22 rfl rfl)
theorem dX3_add_96 : decode cX3_add 96 = .ok (.sipush 1000, 3) := dk_17 3 232 (dk_at dksX3_add_4 0 rfl rfl)
theorem dX3_add_99 : decode cX3_add 99 = .ok (.iastore, 1) := dk_79 (dk_at dksX3_add_4 3 rfl rfl)
theorem dX3_add_100 : decode cX3_add 100 = .ok (.aload_n 0, 1) := dk_42 (dk_at dksX3_add_4 4 rfl rfl)
theorem dX3_add_101 : decode cX3_add 101 = .ok (.getfield 47, 3) := dk_180 0 47 (dk_at dksX3_add_4 5 rfl rfl)
theorem dX3_add_104 : decode cX3_add 104 = .ok (.iload 6, 2) := dk_21 6 (dk_at dksX3_add_4 8 rfl rfl)
theorem dX3_add_106 : decode cX3_add 106 = .ok (.iconst 1, 1) := dk_4 (dk_at dksX3_add_4 10 rfl rfl)
theorem dX3_add_107 : decode cX3_add 107 = .ok (.bastore, 1) := dk_84 (dk_at dksX3_add_4 11 rfl rfl)
theorem dX3_add_108 : decode cX3_add 108 = .ok (.aload_n 0, 1) := dk_42 (dk_at dksX3_add_4 12 rfl rfl)
theorem dX3_add_109 : decode cX3_add 109 = .ok (.getfield 56, 3) := dk_180 0 56 (dk_at dksX3_add_4 13 rfl rfl)
theorem dX3_add_112 : decode cX3_add 112 = .ok (.iload 6, 2) := dk_21 6 (dk_at dksX3_add_4 16 rfl rfl)
theorem dX3_add_114 : decode cX3_add 114 = .ok (.iconst 0, 1) := dk_3 (dk_at dksX3_add_4 18 rfl rfl)
theorem dX3_add_115 : decode cX3_add 115 = .ok (.iastore, 1) := dk_79 (dk_at dksX3_add_4 19 rfl rfl)
theorem dX3_add_116 : decode cX3_add 116 = .ok (.iconst 0, 1) := dk_3 (dk_at dksX3_add_4 20 rfl rfl)
theorem dX3_add_117 : decode cX3_add 117 = .ok (.istore 7, 2) := dk_54 7 (dk_at dksX3_add_4 21 rfl rfl)
theorem dX3_add_119 : decode cX3_add 119 = .ok (.iload 7, 2) := dk_21 7 (dk_at dksX3_add_5 0 rfl rfl)
theorem dX3_add_121 : decode cX3_add 121 = .ok (.bipush 8, 2) := dk_16 8 (dk_at dksX3_add_5 2 rfl rfl)
theorem dX3_add_123 : decode cX3_add 123 = .ok (.if_icmp .ge 23, 3) := dk_162 0 23 (dk_at dksX3_add_5 4 rfl rfl)
theorem dX3_add_126 : decode cX3_add 126 = .ok (.aload_n 0, 1) := dk_42 (dk_at dksX3_add_5 7 rfl rfl)
theorem dX3_add_127 : decode cX3_add 127 = .ok (.getfield 59, 3) := dk_180 0 59 (dk_at dksX3_add_5 8 rfl rfl)
theorem dX3_add_130 : decode cX3_add 130 = .ok (.bipush 8, 2) := dk_16 8 (dk_at dksX3_add_5 11 rfl rfl)
theorem dX3_add_132 : decode cX3_add 132 = .ok (.iload 6, 2) := dk_21 6 (dk_at dksX3_add_5 13 rfl rfl)
theorem dX3_add_134 : decode cX3_add 134 = .ok (.imul, 1) := dk_104 (dk_at dksX3_add_5 15 rfl rfl)
theorem dX3_add_135 : decode cX3_add 135 = .ok (.iload 7, 2) := dk_21 7 (dk_at dksX3_add_5 16 rfl rfl)
theorem dX3_add_137 : decode cX3_add 137 = .ok (.iadd, 1) := dk_96 (dk_at dksX3_add_5 18 rfl rfl)
theorem dX3_add_138 : decode cX3_add 138 = .ok (.iconst 0, 1) := dk_3 (dk_at dksX3_add_5 19 rfl rfl)
theorem dX3_add_139 : decode cX3_add 139 = .ok (.iastore, 1) := dk_79 (dk_at dksX3_add_5 20 rfl rfl)
theorem dX3_add_140 : decode cX3_add 140 = .ok (.iinc 7 1, 3) := dk_132 7 1 (dk_at dksX3_add_5 21 rfl rfl)
theorem dX3_add_143 : decode cX3_add 143 = .ok (.goto (-24), 3) := dk_167 255 232 (dk_at dksX3_add_6 0 rfl rfl)
theorem dX3_add_146 : decode cX3_add 146 = .ok (.aload_n 0, 1) := dk_42 (dk_at dksX3_add_6 3 rfl rfl)
theorem dX3_add_147 : decode cX3_add 147 = .ok (.getfield 9, 3) := dk_180 0 9 (dk_at dksX3_add_6 4 rfl rfl)
theorem dX3_add_150 : decode cX3_add 150 = .ok (.bipush 12, 2) := dk_16 12 (dk_at dksX3_add_6 7 rfl rfl)
theorem dX3_add_152 : decode cX3_add 152 = .ok (.iload_n 2, 1) := dk_28 (dk_at dksX3_add_6 9 rfl rfl)
theorem dX3_add_153 : decode cX3_add 153 = .ok (.imul, 1) := dk_104 (dk_at dksX3_add_6 10 rfl rfl)
theorem dX3_add_154 : decode cX3_add 154 = .ok (.aload_n 0, 1) := dk_42 (dk_at dksX3_add_6 11 rfl rfl)
theorem dX3_add_155 : decode cX3_add 155 = .ok (.getfield 13, 3) := dk_180 0 13 (dk_at dksX3_add_6 12 rfl rfl)
theorem dX3_add_158 : decode cX3_add 158 = .ok (.iload_n 2, 1) := dk_28 (dk_at dksX3_add_6 15 rfl rfl)
theorem dX3_add_159 : decode cX3_add 159 = .ok (.iaload, 1) := dk_46 (dk_at dksX3_add_6 16 rfl rfl)
theorem dX3_add_160 : decode cX3_add 160 = .ok (.iadd, 1) := dk_96 (dk_at dksX3_add_6 17 rfl rfl)
theorem dX3_add_161 : decode cX3_add 161 = .ok (.iload 6, 2) := dk_21 6 (dk_at dksX3_add_6 18 rfl rfl)
theorem dX3_add_163 : decode cX3_add 163 = .ok (.iastore, 1) := dk_79 (dk_at dksX3_add_6 20 rfl rfl)
theorem dX3_add_164 : decode cX3_add 164 = .ok (.aload_n 0, 1) := dk_42 (dk_at dksX3_add_6 21 rfl rfl)
theorem dX3_add_165 : decode cX3_add 165 = .ok (.getfield 13, 3) := dk_180 0 13 (dk_at dksX3_add_7 0 rfl rfl)
theorem dX3_add_168 : decode cX3_add 168 = .ok (.iload_n 2, 1) := dk_28 (dk_at dksX3_add_7 3 rfl rfl)
theorem dX3_add_169 : decode cX3_add 169 = .ok (.dup2, 1) := dk_92 (dk_at dksX3_add_7 4 rfl rfl)
theorem dX3_add_170 : decode cX3_add 170 = .ok (.iaload, 1) := dk_46 (dk_at dksX3_add_7 5 rfl rfl)
theorem dX3_add_171 : decode cX3_add 171 = .ok (.iconst 1, 1) := dk_4 (dk_at dksX3_add_7 6 rfl rfl)
theorem dX3_add_172 : decode cX3_add 172 = .ok (.iadd, 1) := dk_96 (dk_at dksX3_add_7 7 rfl rfl)
theorem dX3_add_173 : decode cX3_add 173 = .ok (.iastore, 1) := dk_79 (dk_at dksX3_add_7 8 rfl rfl)
theorem dX3_add_174 : decode cX3_add 174 = .ok (.iload 6, 2) := dk_21 6 (dk_at dksX3_add_7 9 rfl rfl)
theorem dX3_add_176 : decode cX3_add 176 = .ok (.ireturn, 1) := dk_172 (dk_at dksX3_add_7 11 rfl rfl)
abbrev cX3_addStroke : ByteArray := prog_20_method_12_code
def yX3_addStroke : MethodName := ⟨RX3, "addStroke", "(II)I"⟩
def dkwX3_addStroke_1 : List UInt8 := [4, 27, 3, 3, 28, 182, 0, 112, 167, 0, 4, 3, 172]
abbrev dktX3_addStroke_1 : List UInt8 := dkwX3_addStroke_1 ++ []
def dkwX3_addStroke_0 : List UInt8 := [42, 42, 27, 182, 0, 104, 28, 4, 16, 9, 184, 0, 96, 42, 182, 0, 108, 182, 0, 100, 153, 0, 15, 42]
abbrev dktX3_addStroke_0 : List UInt8 := dkwX3_addStroke_0 ++ dktX3_addStroke_1
theorem dksX3_addStroke_0 : cX3_addStroke.data.toList.drop 0 = dktX3_addStroke_0 := by decide +kernel
theorem dksX3_addStroke_1 : cX3_addStroke.data.toList.drop 24 = dktX3_addStroke_1 := dk_seg dksX3_addStroke_0 24 rfl rfl
theorem dX3_addStroke_0 : decode cX3_addStroke 0 = .ok (.aload_n 0, 1) := dk_42 (dk_at dksX3_addStroke_0 0 rfl rfl)
theorem dX3_addStroke_1 : decode cX3_addStroke 1 = .ok (.aload_n 0, 1) := dk_42 (dk_at dksX3_addStroke_0 1 rfl rfl)
theorem dX3_addStroke_2 : decode cX3_addStroke 2 = .ok (.iload_n 1, 1) := dk_27 (dk_at dksX3_addStroke_0 2 rfl rfl)
theorem dX3_addStroke_3 : decode cX3_addStroke 3 = .ok (.invokevirtual 104, 3) := dk_182 0 104 (dk_at dksX3_addStroke_0 3 rfl rfl)
theorem dX3_addStroke_6 : decode cX3_addStroke 6 = .ok (.iload_n 2, 1) := dk_28 (dk_at dksX3_addStroke_0 6 rfl rfl)
theorem dX3_addStroke_7 : decode cX3_addStroke 7 = .ok (.iconst 1, 1) := dk_4 (dk_at dksX3_addStroke_0 7 rfl rfl)
theorem dX3_addStroke_8 : decode cX3_addStroke 8 = .ok (.bipush 9, 2) := dk_16 9 (dk_at dksX3_addStroke_0 8 rfl rfl)
theorem dX3_addStroke_10 : decode cX3_addStroke 10 = .ok (.invokestatic 96, 3) := dk_184 0 96 (dk_at dksX3_addStroke_0 10 rfl rfl)
theorem dX3_addStroke_13 : decode cX3_addStroke 13 = .ok (.aload_n 0, 1) := dk_42 (dk_at dksX3_addStroke_0 13 rfl rfl)
theorem dX3_addStroke_14 : decode cX3_addStroke 14 = .ok (.invokevirtual 108, 3) := dk_182 0 108 (dk_at dksX3_addStroke_0 14 rfl rfl)
theorem dX3_addStroke_17 : decode cX3_addStroke 17 = .ok (.invokevirtual 100, 3) := dk_182 0 100 (dk_at dksX3_addStroke_0 17 rfl rfl)
theorem dX3_addStroke_20 : decode cX3_addStroke 20 = .ok (.ifCond .eq 15, 3) := dk_153 0 15 (dk_at dksX3_addStroke_0 20 rfl rfl)
theorem dX3_addStroke_23 : decode cX3_addStroke 23 = .ok (.aload_n 0, 1) := dk_42 (dk_at dksX3_addStroke_0 23 rfl rfl)
theorem dX3_addStroke_24 : decode cX3_addStroke 24 = .ok (.iconst 1, 1) := dk_4 (dk_at dksX3_addStroke_1 0 rfl rfl)
theorem dX3_addStroke_25 : decode cX3_addStroke 25 = .ok (.iload_n 1, 1) := dk_27 (dk_at dksX3_addStroke_1 1 rfl rfl)
theorem dX3_addStroke_26 : decode cX3_addStroke 26 = .ok (.iconst 0, 1) := dk_3 (dk_at dksX3_addStroke_1 2 rfl rfl)
theorem dX3_addStroke_27 : decode cX3_addStroke 27 = .ok (.iconst 0, 1) := dk_3 (dk_at dksX3_addStroke_1 3 rfl rfl)
theorem dX3_addStroke_28 : decode cX3_addStroke 28 = .ok (.iload_n 2, 1) := dk_28 (dk_at dksX3_addStroke_1 4 rfl rfl)
theorem dX3_addStroke_29 : decode cX3_addStroke 29 = .ok (.invokevirtual 112, 3) := dk_182 0 112 (dk_at dksX3_addStroke_1 5 rfl rfl)
theorem dX3_addStroke_32 : decode cX3_addStroke 32 = .ok (.goto 4, 3) := dk_167 0 4 (dk_at dksX3_addStroke_1 8 rfl rfl)
theorem dX3_addStroke_35 : decode cX3_addStroke 35 = .ok (.iconst 0, 1) := dk_3 (dk_at dksX3_addStroke_1 11 rfl rfl)
theorem dX3_addStroke_36 : decode cX3_addStroke 36 = .ok (.ireturn, 1) := dk_172 (dk_at dksX3_addStroke_1 12 rfl rfl)
abbrev cX3_addPoint : ByteArray := prog_20_method_14_code
def yX3_addPoint : MethodName := ⟨RX3, "addPoint", "(III)I"⟩
def dkwX3_addPoint_4 : List UInt8 := [42, 180, 0, 56, 27, 92, 46, 4, 96, 79, 42, 180, 0, 56, 27, 46, 172]
abbrev dktX3_addPoint_4 : List UInt8 := dkwX3_addPoint_4 ++ []
def dkwX3_addPoint_3 : List UInt8 := [180, 0, 56, 27, 46, 96, 54, 5, 42, 180, 0, 50, 21, 5, 28, 79, 42, 180, 0, 53, 21, 5, 29, 79]
abbrev dktX3_addPoint_3 : List UInt8 := dkwX3_addPoint_3 ++ dktX3_addPoint_4
def dkwX3_addPoint_2 : List UInt8 := [182, 0, 119, 153, 0, 7, 4, 167, 0, 4, 3, 182, 0, 100, 154, 0, 5, 3, 172, 16, 6, 27, 104, 42]
abbrev dktX3_addPoint_2 : List UInt8 := dkwX3_addPoint_2 ++ dktX3_addPoint_3
def dkwX3_addPoint_1 : List UInt8 := [16, 40, 184, 0, 96, 153, 0, 7, 4, 167, 0, 4, 3, 21, 4, 153, 0, 17, 42, 27, 28, 29]
abbrev dktX3_addPoint_1 : List UInt8 := dkwX3_addPoint_1 ++ dktX3_addPoint_2
def dkwX3_addPoint_0 : List UInt8 := [42, 27, 182, 0, 116, 54, 4, 42, 21, 4, 28, 16, 236, 16, 40, 184, 0, 96, 153, 0, 18, 29, 16, 236]
abbrev dktX3_addPoint_0 : List UInt8 := dkwX3_addPoint_0 ++ dktX3_addPoint_1
theorem dksX3_addPoint_0 : cX3_addPoint.data.toList.drop 0 = dktX3_addPoint_0 := by decide +kernel
theorem dksX3_addPoint_1 : cX3_addPoint.data.toList.drop 24 = dktX3_addPoint_1 := dk_seg dksX3_addPoint_0 24 rfl rfl
theorem dksX3_addPoint_2 : cX3_addPoint.data.toList.drop 46 = dktX3_addPoint_2 := dk_seg dksX3_addPoint_1 22 rfl rfl
theorem dksX3_addPoint_3 : cX3_addPoint.data.toList.drop 70 = dktX3_addPoint_3 := dk_seg dksX3_addPoint_2 24 rfl rfl
theorem dksX3_addPoint_4 : cX3_addPoint.data.toList.drop 94 = dktX3_addPoint_4 := dk_seg dksX3_addPoint_3 24 rfl rfl
theorem dX3_addPoint_0 : decode cX3_addPoint 0 = .ok (.aload_n 0, 1) := dk_42 (dk_at dksX3_addPoint_0 0 rfl rfl)
theorem dX3_addPoint_1 : decode cX3_addPoint 1 = .ok (.iload_n 1, 1) := dk_27 (dk_at dksX3_addPoint_0 1 rfl rfl)
theorem dX3_addPoint_2 : decode cX3_addPoint 2 = .ok (.invokevirtual 116, 3) := dk_182 0 116 (dk_at dksX3_addPoint_0 2 rfl rfl)
theorem dX3_addPoint_5 : decode cX3_addPoint 5 = .ok (.istore 4, 2) := dk_54 4 (dk_at dksX3_addPoint_0 5 rfl rfl)
theorem dX3_addPoint_7 : decode cX3_addPoint 7 = .ok (.aload_n 0, 1) := dk_42 (dk_at dksX3_addPoint_0 7 rfl rfl)
theorem dX3_addPoint_8 : decode cX3_addPoint 8 = .ok (.iload 4, 2) := dk_21 4 (dk_at dksX3_addPoint_0 8 rfl rfl)
theorem dX3_addPoint_10 : decode cX3_addPoint 10 = .ok (.iload_n 2, 1) := dk_28 (dk_at dksX3_addPoint_0 10 rfl rfl)
theorem dX3_addPoint_11 : decode cX3_addPoint 11 = .ok (.bipush (-20), 2) := dk_16 236 (dk_at dksX3_addPoint_0 11 rfl rfl)
theorem dX3_addPoint_13 : decode cX3_addPoint 13 = .ok (.bipush 40, 2) := dk_16 40 (dk_at dksX3_addPoint_0 13 rfl rfl)
theorem dX3_addPoint_15 : decode cX3_addPoint 15 = .ok (.invokestatic 96, 3) := dk_184 0 96 (dk_at dksX3_addPoint_0 15 rfl rfl)
theorem dX3_addPoint_18 : decode cX3_addPoint 18 = .ok (.ifCond .eq 18, 3) := dk_153 0 18 (dk_at dksX3_addPoint_0 18 rfl rfl)
theorem dX3_addPoint_21 : decode cX3_addPoint 21 = .ok (.iload_n 3, 1) := dk_29 (dk_at dksX3_addPoint_0 21 rfl rfl)
theorem dX3_addPoint_22 : decode cX3_addPoint 22 = .ok (.bipush (-20), 2) := dk_16 236 (dk_at dksX3_addPoint_0 22 rfl rfl)
theorem dX3_addPoint_24 : decode cX3_addPoint 24 = .ok (.bipush 40, 2) := dk_16 40 (dk_at dksX3_addPoint_1 0 rfl rfl)
theorem dX3_addPoint_26 : decode cX3_addPoint 26 = .ok (.invokestatic 96, 3) := dk_184 0 96 (dk_at dksX3_addPoint_1 2 rfl rfl)
theorem dX3_addPoint_29 : decode cX3_addPoint 29 = .ok (.ifCond .eq 7, 3) := dk_153 0 7 (dk_at dksX3_addPoint_1 5 rfl rfl)
theorem dX3_addPoint_32 : decode cX3_addPoint 32 = .ok (.iconst 1, 1) := dk_4 (dk_at dksX3_addPoint_1 8 rfl rfl)
theorem dX3_addPoint_33 : decode cX3_addPoint 33 = .ok (.goto 4, 3) := dk_167 0 4 (dk_at dksX3_addPoint_1 9 rfl rfl)
theorem dX3_addPoint_36 : decode cX3_addPoint 36 = .ok (.iconst 0, 1) := dk_3 (dk_at dksX3_addPoint_1 12 rfl rfl)
theorem dX3_addPoint_37 : decode cX3_addPoint 37 = .ok (.iload 4, 2) := dk_21 4 (dk_at dksX3_addPoint_1 13 rfl rfl)
theorem dX3_addPoint_39 : decode cX3_addPoint 39 = .ok (.ifCond .eq 17, 3) := dk_153 0 17 (dk_at dksX3_addPoint_1 15 rfl rfl)
theorem dX3_addPoint_42 : decode cX3_addPoint 42 = .ok (.aload_n 0, 1) := dk_42 (dk_at dksX3_addPoint_1 18 rfl rfl)
theorem dX3_addPoint_43 : decode cX3_addPoint 43 = .ok (.iload_n 1, 1) := dk_27 (dk_at dksX3_addPoint_1 19 rfl rfl)
theorem dX3_addPoint_44 : decode cX3_addPoint 44 = .ok (.iload_n 2, 1) := dk_28 (dk_at dksX3_addPoint_1 20 rfl rfl)
theorem dX3_addPoint_45 : decode cX3_addPoint 45 = .ok (.iload_n 3, 1) := dk_29 (dk_at dksX3_addPoint_1 21 rfl rfl)
theorem dX3_addPoint_46 : decode cX3_addPoint 46 = .ok (.invokevirtual 119, 3) := dk_182 0 119 (dk_at dksX3_addPoint_2 0 rfl rfl)
theorem dX3_addPoint_49 : decode cX3_addPoint 49 = .ok (.ifCond .eq 7, 3) := dk_153 0 7 (dk_at dksX3_addPoint_2 3 rfl rfl)
theorem dX3_addPoint_52 : decode cX3_addPoint 52 = .ok (.iconst 1, 1) := dk_4 (dk_at dksX3_addPoint_2 6 rfl rfl)
theorem dX3_addPoint_53 : decode cX3_addPoint 53 = .ok (.goto 4, 3) := dk_167 0 4 (dk_at dksX3_addPoint_2 7 rfl rfl)
theorem dX3_addPoint_56 : decode cX3_addPoint 56 = .ok (.iconst 0, 1) := dk_3 (dk_at dksX3_addPoint_2 10 rfl rfl)
theorem dX3_addPoint_57 : decode cX3_addPoint 57 = .ok (.invokevirtual 100, 3) := dk_182 0 100 (dk_at dksX3_addPoint_2 11 rfl rfl)
theorem dX3_addPoint_60 : decode cX3_addPoint 60 = .ok (.ifCond .ne 5, 3) := dk_154 0 5 (dk_at dksX3_addPoint_2 14 rfl rfl)
theorem dX3_addPoint_63 : decode cX3_addPoint 63 = .ok (.iconst 0, 1) := dk_3 (dk_at dksX3_addPoint_2 17 rfl rfl)
theorem dX3_addPoint_64 : decode cX3_addPoint 64 = .ok (.ireturn, 1) := dk_172 (dk_at dksX3_addPoint_2 18 rfl rfl)
theorem dX3_addPoint_65 : decode cX3_addPoint 65 = .ok (.bipush 6, 2) := dk_16 6 (dk_at dksX3_addPoint_2 19 rfl rfl)
theorem dX3_addPoint_67 : decode cX3_addPoint 67 = .ok (.iload_n 1, 1) := dk_27 (dk_at dksX3_addPoint_2 21 rfl rfl)
theorem dX3_addPoint_68 : decode cX3_addPoint 68 = .ok (.imul, 1) := dk_104 (dk_at dksX3_addPoint_2 22 rfl rfl)
theorem dX3_addPoint_69 : decode cX3_addPoint 69 = .ok (.aload_n 0, 1) := dk_42 (dk_at dksX3_addPoint_2 23 rfl rfl)
theorem dX3_addPoint_70 : decode cX3_addPoint 70 = .ok (.getfield 56, 3) := dk_180 0 56 (dk_at dksX3_addPoint_3 0 rfl rfl)
theorem dX3_addPoint_73 : decode cX3_addPoint 73 = .ok (.iload_n 1, 1) := dk_27 (dk_at dksX3_addPoint_3 3 rfl rfl)
theorem dX3_addPoint_74 : decode cX3_addPoint 74 = .ok (.iaload, 1) := dk_46 (dk_at dksX3_addPoint_3 4 rfl rfl)
theorem dX3_addPoint_75 : decode cX3_addPoint 75 = .ok (.iadd, 1) := dk_96 (dk_at dksX3_addPoint_3 5 rfl rfl)
theorem dX3_addPoint_76 : decode cX3_addPoint 76 = .ok (.istore 5, 2) := dk_54 5 (dk_at dksX3_addPoint_3 6 rfl rfl)
theorem dX3_addPoint_78 : decode cX3_addPoint 78 = .ok (.aload_n 0, 1) := dk_42 (dk_at dksX3_addPoint_3 8 rfl rfl)
theorem dX3_addPoint_79 : decode cX3_addPoint 79 = .ok (.getfield 50, 3) := dk_180 0 50 (dk_at dksX3_addPoint_3 9 rfl rfl)
theorem dX3_addPoint_82 : decode cX3_addPoint 82 = .ok (.iload 5, 2) := dk_21 5 (dk_at dksX3_addPoint_3 12 rfl rfl)
theorem dX3_addPoint_84 : decode cX3_addPoint 84 = .ok (.iload_n 2, 1) := dk_28 (dk_at dksX3_addPoint_3 14 rfl rfl)
theorem dX3_addPoint_85 : decode cX3_addPoint 85 = .ok (.iastore, 1) := dk_79 (dk_at dksX3_addPoint_3 15 rfl rfl)
theorem dX3_addPoint_86 : decode cX3_addPoint 86 = .ok (.aload_n 0, 1) := dk_42 (dk_at dksX3_addPoint_3 16 rfl rfl)
theorem dX3_addPoint_87 : decode cX3_addPoint 87 = .ok (.getfield 53, 3) := dk_180 0 53 (dk_at dksX3_addPoint_3 17 rfl rfl)
theorem dX3_addPoint_90 : decode cX3_addPoint 90 = .ok (.iload 5, 2) := dk_21 5 (dk_at dksX3_addPoint_3 20 rfl rfl)
theorem dX3_addPoint_92 : decode cX3_addPoint 92 = .ok (.iload_n 3, 1) := dk_29 (dk_at dksX3_addPoint_3 22 rfl rfl)
theorem dX3_addPoint_93 : decode cX3_addPoint 93 = .ok (.iastore, 1) := dk_79 (dk_at dksX3_addPoint_3 23 rfl rfl)
theorem dX3_addPoint_94 : decode cX3_addPoint 94 = .ok (.aload_n 0, 1) := dk_42 (dk_at dksX3_addPoint_4 0 rfl rfl)
theorem dX3_addPoint_95 : decode cX3_addPoint 95 = .ok (.getfield 56, 3) := dk_180 0 56 (dk_at dksX3_addPoint_4 1 rfl rfl)
theorem dX3_addPoint_98 : decode cX3_addPoint 98 = .ok (.iload_n 1, 1) := dk_27 (dk_at dksX3_addPoint_4 4 rfl rfl)
theorem dX3_addPoint_99 : decode cX3_addPoint 99 = .ok (.dup2, 1) := dk_92 (dk_at dksX3_addPoint_4 5 rfl rfl)
theorem dX3_addPoint_100 : decode cX3_addPoint 100 = .ok (.iaload, 1) := dk_46 (dk_at dksX3_addPoint_4 6 rfl rfl)
theorem dX3_addPoint_101 : decode cX3_addPoint 101 = .ok (.iconst 1, 1) := dk_4 (dk_at dksX3_addPoint_4 7 rfl rfl)
theorem dX3_addPoint_102 : decode cX3_addPoint 102 = .ok (.iadd, 1) := dk_96 (dk_at dksX3_addPoint_4 8 rfl rfl)
theorem dX3_addPoint_103 : decode cX3_addPoint 103 = .ok (.iastore, 1) := dk_79 (dk_at dksX3_addPoint_4 9 rfl rfl)
theorem dX3_addPoint_104 : decode cX3_addPoint 104 = .ok (.aload_n 0, 1) := dk_42 (dk_at dksX3_addPoint_4 10 rfl rfl)
theorem dX3_addPoint_105 : decode cX3_addPoint 105 = .ok (.getfield 56, 3) := dk_180 0 56 (dk_at dksX3_addPoint_4 11 rfl rfl)
theorem dX3_addPoint_108 : decode cX3_addPoint 108 = .ok (.iload_n 1, 1) := dk_27 (dk_at dksX3_addPoint_4 14 rfl rfl)
theorem dX3_addPoint_109 : decode cX3_addPoint 109 = .ok (.iaload, 1) := dk_46 (dk_at dksX3_addPoint_4 15 rfl rfl)
theorem dX3_addPoint_110 : decode cX3_addPoint 110 = .ok (.ireturn, 1) := dk_172 (dk_at dksX3_addPoint_4 16 rfl rfl)
abbrev cX3_isLayer : ByteArray := prog_20_method_7_code
def yX3_isLayer : MethodName := ⟨RX3, "isLayer", "(I)Z"⟩
def dkwX3_isLayer_1 : List UInt8 := [167, 0, 4, 3, 172]
abbrev dktX3_isLayer_1 : List UInt8 := dkwX3_isLayer_1 ++ []
def dkwX3_isLayer_0 : List UInt8 := [27, 3, 42, 180, 0, 90, 4, 100, 184, 0, 96, 153, 0, 16, 42, 180, 0, 47, 27, 51, 153, 0, 7, 4]
abbrev dktX3_isLayer_0 : List UInt8 := dkwX3_isLayer_0 ++ dktX3_isLayer_1
theorem dksX3_isLayer_0 : cX3_isLayer.data.toList.drop 0 = dktX3_isLayer_0 := by decide +kernel
theorem dksX3_isLayer_1 : cX3_isLayer.data.toList.drop 24 = dktX3_isLayer_1 := dk_seg dksX3_isLayer_0 24 rfl rfl
theorem dX3_isLayer_0 : decode cX3_isLayer 0 = .ok (.iload_n 1, 1) := dk_27 (dk_at dksX3_isLayer_0 0 rfl rfl)
theorem dX3_isLayer_1 : decode cX3_isLayer 1 = .ok (.iconst 0, 1) := dk_3 (dk_at dksX3_isLayer_0 1 rfl rfl)
theorem dX3_isLayer_2 : decode cX3_isLayer 2 = .ok (.aload_n 0, 1) := dk_42 (dk_at dksX3_isLayer_0 2 rfl rfl)
theorem dX3_isLayer_3 : decode cX3_isLayer 3 = .ok (.getfield 90, 3) := dk_180 0 90 (dk_at dksX3_isLayer_0 3 rfl rfl)
theorem dX3_isLayer_6 : decode cX3_isLayer 6 = .ok (.iconst 1, 1) := dk_4 (dk_at dksX3_isLayer_0 6 rfl rfl)
theorem dX3_isLayer_7 : decode cX3_isLayer 7 = .ok (.isub, 1) := dk_100 (dk_at dksX3_isLayer_0 7 rfl rfl)
theorem dX3_isLayer_8 : decode cX3_isLayer 8 = .ok (.invokestatic 96, 3) := dk_184 0 96 (dk_at dksX3_isLayer_0 8 rfl rfl)
theorem dX3_isLayer_11 : decode cX3_isLayer 11 = .ok (.ifCond .eq 16, 3) := dk_153 0 16 (dk_at dksX3_isLayer_0 11 rfl rfl)
theorem dX3_isLayer_14 : decode cX3_isLayer 14 = .ok (.aload_n 0, 1) := dk_42 (dk_at dksX3_isLayer_0 14 rfl rfl)
theorem dX3_isLayer_15 : decode cX3_isLayer 15 = .ok (.getfield 47, 3) := dk_180 0 47 (dk_at dksX3_isLayer_0 15 rfl rfl)
theorem dX3_isLayer_18 : decode cX3_isLayer 18 = .ok (.iload_n 1, 1) := dk_27 (dk_at dksX3_isLayer_0 18 rfl rfl)
theorem dX3_isLayer_19 : decode cX3_isLayer 19 = .ok (.baload, 1) := dk_51 (dk_at dksX3_isLayer_0 19 rfl rfl)
theorem dX3_isLayer_20 : decode cX3_isLayer 20 = .ok (.ifCond .eq 7, 3) := dk_153 0 7 (dk_at dksX3_isLayer_0 20 rfl rfl)
theorem dX3_isLayer_23 : decode cX3_isLayer 23 = .ok (.iconst 1, 1) := dk_4 (dk_at dksX3_isLayer_0 23 rfl rfl)
theorem dX3_isLayer_24 : decode cX3_isLayer 24 = .ok (.goto 4, 3) := dk_167 0 4 (dk_at dksX3_isLayer_1 0 rfl rfl)
theorem dX3_isLayer_27 : decode cX3_isLayer 27 = .ok (.iconst 0, 1) := dk_3 (dk_at dksX3_isLayer_1 3 rfl rfl)
theorem dX3_isLayer_28 : decode cX3_isLayer 28 = .ok (.ireturn, 1) := dk_172 (dk_at dksX3_isLayer_1 4 rfl rfl)
abbrev cX3_canAdd : ByteArray := prog_20_method_13_code
def yX3_canAdd : MethodName := ⟨RX3, "canAdd", "(III)Z"⟩
def dkwX3_canAdd_3 : List UInt8 := [160, 0, 7, 4, 167, 0, 4, 3, 159, 0, 7, 4, 167, 0, 4, 3, 172]
abbrev dktX3_canAdd_3 : List UInt8 := dkwX3_canAdd_3 ++ []
def dkwX3_canAdd_2 : List UInt8 := [42, 180, 0, 50, 21, 4, 46, 28, 160, 0, 7, 4, 167, 0, 4, 3, 42, 180, 0, 53, 21, 4, 46, 29]
abbrev dktX3_canAdd_2 : List UInt8 := dkwX3_canAdd_2 ++ dktX3_canAdd_3
def dkwX3_canAdd_1 : List UInt8 := [16, 6, 27, 104, 42, 180, 0, 56, 27, 46, 96, 4, 100, 54, 4, 42, 180, 0, 56, 27, 46, 153, 0, 38]
abbrev dktX3_canAdd_1 : List UInt8 := dkwX3_canAdd_1 ++ dktX3_canAdd_2
def dkwX3_canAdd_0 : List UInt8 := [42, 180, 0, 16, 27, 46, 4, 160, 0, 14, 42, 180, 0, 56, 27, 46, 16, 6, 160, 0, 5, 3, 172]
abbrev dktX3_canAdd_0 : List UInt8 := dkwX3_canAdd_0 ++ dktX3_canAdd_1
theorem dksX3_canAdd_0 : cX3_canAdd.data.toList.drop 0 = dktX3_canAdd_0 := by decide +kernel
theorem dksX3_canAdd_1 : cX3_canAdd.data.toList.drop 23 = dktX3_canAdd_1 := dk_seg dksX3_canAdd_0 23 rfl rfl
theorem dksX3_canAdd_2 : cX3_canAdd.data.toList.drop 47 = dktX3_canAdd_2 := dk_seg dksX3_canAdd_1 24 rfl rfl
theorem dksX3_canAdd_3 : cX3_canAdd.data.toList.drop 71 = dktX3_canAdd_3 := dk_seg dksX3_canAdd_2 24 rfl rfl
theorem dX3_canAdd_0 : decode cX3_canAdd 0 = .ok (.aload_n 0, 1) := dk_42 (dk_at dksX3_canAdd_0 0 rfl rfl)
theorem dX3_canAdd_1 : decode cX3_canAdd 1 = .ok (.getfield 16, 3) := dk_180 0 16 (dk_at dksX3_canAdd_0 1 rfl rfl)
theorem dX3_canAdd_4 : decode cX3_canAdd 4 = .ok (.iload_n 1, 1) := dk_27 (dk_at dksX3_canAdd_0 4 rfl rfl)
theorem dX3_canAdd_5 : decode cX3_canAdd 5 = .ok (.iaload, 1) := dk_46 (dk_at dksX3_canAdd_0 5 rfl rfl)
theorem dX3_canAdd_6 : decode cX3_canAdd 6 = .ok (.iconst 1, 1) := dk_4 (dk_at dksX3_canAdd_0 6 rfl rfl)
theorem dX3_canAdd_7 : decode cX3_canAdd 7 = .ok (.if_icmp .ne 14, 3) := dk_160 0 14 (dk_at dksX3_canAdd_0 7 rfl rfl)
theorem dX3_canAdd_10 : decode cX3_canAdd 10 = .ok (.aload_n 0, 1) := dk_42 (dk_at dksX3_canAdd_0 10 rfl rfl)
theorem dX3_canAdd_11 : decode cX3_canAdd 11 = .ok (.getfield 56, 3) := dk_180 0 56 (dk_at dksX3_canAdd_0 11 rfl rfl)
theorem dX3_canAdd_14 : decode cX3_canAdd 14 = .ok (.iload_n 1, 1) := dk_27 (dk_at dksX3_canAdd_0 14 rfl rfl)
theorem dX3_canAdd_15 : decode cX3_canAdd 15 = .ok (.iaload, 1) := dk_46 (dk_at dksX3_canAdd_0 15 rfl rfl)
theorem dX3_canAdd_16 : decode cX3_canAdd 16 = .ok (.bipush 6, 2) := dk_16 6 (dk_at dksX3_canAdd_0 16 rfl rfl)
theorem dX3_canAdd_18 : decode cX3_canAdd 18 = .ok (.if_icmp .ne 5, 3) := dk_160 0 5 (dk_at dksX3_canAdd_0 18 rfl rfl)
theorem dX3_canAdd_21 : decode cX3_canAdd 21 = .ok (.iconst 0, 1) := dk_3 (dk_at dksX3_canAdd_0 21 rfl rfl)
theorem dX3_canAdd_22 : decode cX3_canAdd 22 = .ok (.ireturn, 1) := dk_172 (dk_at dksX3_canAdd_0 22 rfl rfl)
theorem dX3_canAdd_23 : decode cX3_canAdd 23 = .ok (.bipush 6, 2) := dk_16 6 (dk_at dksX3_canAdd_1 0 rfl rfl)
theorem dX3_canAdd_25 : decode cX3_canAdd 25 = .ok (.iload_n 1, 1) := dk_27 (dk_at dksX3_canAdd_1 2 rfl rfl)
theorem dX3_canAdd_26 : decode cX3_canAdd 26 = .ok (.imul, 1) := dk_104 (dk_at dksX3_canAdd_1 3 rfl rfl)
theorem dX3_canAdd_27 : decode cX3_canAdd 27 = .ok (.aload_n 0, 1) := dk_42 (dk_at dksX3_canAdd_1 4 rfl rfl)
theorem dX3_canAdd_28 : decode cX3_canAdd 28 = .ok (.getfield 56, 3) := dk_180 0 56 (dk_at dksX3_canAdd_1 5 rfl rfl)
theorem dX3_canAdd_31 : decode cX3_canAdd 31 = .ok (.iload_n 1, 1) := dk_27 (dk_at dksX3_canAdd_1 8 rfl rfl)
theorem dX3_canAdd_32 : decode cX3_canAdd 32 = .ok (.iaload, 1) := dk_46 (dk_at dksX3_canAdd_1 9 rfl rfl)
theorem dX3_canAdd_33 : decode cX3_canAdd 33 = .ok (.iadd, 1) := dk_96 (dk_at dksX3_canAdd_1 10 rfl rfl)
theorem dX3_canAdd_34 : decode cX3_canAdd 34 = .ok (.iconst 1, 1) := dk_4 (dk_at dksX3_canAdd_1 11 rfl rfl)
theorem dX3_canAdd_35 : decode cX3_canAdd 35 = .ok (.isub, 1) := dk_100 (dk_at dksX3_canAdd_1 12 rfl rfl)
theorem dX3_canAdd_36 : decode cX3_canAdd 36 = .ok (.istore 4, 2) := dk_54 4 (dk_at dksX3_canAdd_1 13 rfl rfl)
theorem dX3_canAdd_38 : decode cX3_canAdd 38 = .ok (.aload_n 0, 1) := dk_42 (dk_at dksX3_canAdd_1 15 rfl rfl)
theorem dX3_canAdd_39 : decode cX3_canAdd 39 = .ok (.getfield 56, 3) := dk_180 0 56 (dk_at dksX3_canAdd_1 16 rfl rfl)
theorem dX3_canAdd_42 : decode cX3_canAdd 42 = .ok (.iload_n 1, 1) := dk_27 (dk_at dksX3_canAdd_1 19 rfl rfl)
theorem dX3_canAdd_43 : decode cX3_canAdd 43 = .ok (.iaload, 1) := dk_46 (dk_at dksX3_canAdd_1 20 rfl rfl)
theorem dX3_canAdd_44 : decode cX3_canAdd 44 = .ok (.ifCond .eq 38, 3) := dk_153 0 38 (dk_at dksX3_canAdd_1 21 rfl rfl)
theorem dX3_canAdd_47 : decode cX3_canAdd 47 = .ok (.aload_n 0, 1) := dk_42 (dk_at dksX3_canAdd_2 0 rfl rfl)
theorem dX3_canAdd_48 : decode cX3_canAdd 48 = .ok (.getfield 50, 3) := dk_180 0 50 (dk_at dksX3_canAdd_2 1 rfl rfl)
theorem dX3_canAdd_51 : decode cX3_canAdd 51 = .ok (.iload 4, 2) := dk_21 4 (dk_at dksX3_canAdd_2 4 rfl rfl)
theorem dX3_canAdd_53 : decode cX3_canAdd 53 = .ok (.iaload, 1) := dk_46 (dk_at dksX3_canAdd_2 6 rfl rfl)
theorem dX3_canAdd_54 : decode cX3_canAdd 54 = .ok (.iload_n 2, 1) := dk_28 (dk_at dksX3_canAdd_2 7 rfl rfl)
theorem dX3_canAdd_55 : decode cX3_canAdd 55 = .ok (.if_icmp .ne 7, 3) := dk_160 0 7 (dk_at dksX3_canAdd_2 8 rfl rfl)
theorem dX3_canAdd_58 : decode cX3_canAdd 58 = .ok (.iconst 1, 1) := dk_4 (dk_at dksX3_canAdd_2 11 rfl rfl)
theorem dX3_canAdd_59 : decode cX3_canAdd 59 = .ok (.goto 4, 3) := dk_167 0 4 (dk_at dksX3_canAdd_2 12 rfl rfl)
theorem dX3_canAdd_62 : decode cX3_canAdd 62 = .ok (.iconst 0, 1) := dk_3 (dk_at dksX3_canAdd_2 15 rfl rfl)
theorem dX3_canAdd_63 : decode cX3_canAdd 63 = .ok (.aload_n 0, 1) := dk_42 (dk_at dksX3_canAdd_2 16 rfl rfl)
theorem dX3_canAdd_64 : decode cX3_canAdd 64 = .ok (.getfield 53, 3) := dk_180 0 53 (dk_at dksX3_canAdd_2 17 rfl rfl)
theorem dX3_canAdd_67 : decode cX3_canAdd 67 = .ok (.iload 4, 2) := dk_21 4 (dk_at dksX3_canAdd_2 20 rfl rfl)
theorem dX3_canAdd_69 : decode cX3_canAdd 69 = .ok (.iaload, 1) := dk_46 (dk_at dksX3_canAdd_2 22 rfl rfl)
theorem dX3_canAdd_70 : decode cX3_canAdd 70 = .ok (.iload_n 3, 1) := dk_29 (dk_at dksX3_canAdd_2 23 rfl rfl)
theorem dX3_canAdd_71 : decode cX3_canAdd 71 = .ok (.if_icmp .ne 7, 3) := dk_160 0 7 (dk_at dksX3_canAdd_3 0 rfl rfl)
theorem dX3_canAdd_74 : decode cX3_canAdd 74 = .ok (.iconst 1, 1) := dk_4 (dk_at dksX3_canAdd_3 3 rfl rfl)
theorem dX3_canAdd_75 : decode cX3_canAdd 75 = .ok (.goto 4, 3) := dk_167 0 4 (dk_at dksX3_canAdd_3 4 rfl rfl)
theorem dX3_canAdd_78 : decode cX3_canAdd 78 = .ok (.iconst 0, 1) := dk_3 (dk_at dksX3_canAdd_3 7 rfl rfl)
theorem dX3_canAdd_79 : decode cX3_canAdd 79 = .ok (.if_icmp .eq 7, 3) := dk_159 0 7 (dk_at dksX3_canAdd_3 8 rfl rfl)
theorem dX3_canAdd_82 : decode cX3_canAdd 82 = .ok (.iconst 1, 1) := dk_4 (dk_at dksX3_canAdd_3 11 rfl rfl)
theorem dX3_canAdd_83 : decode cX3_canAdd 83 = .ok (.goto 4, 3) := dk_167 0 4 (dk_at dksX3_canAdd_3 12 rfl rfl)
theorem dX3_canAdd_86 : decode cX3_canAdd 86 = .ok (.iconst 0, 1) := dk_3 (dk_at dksX3_canAdd_3 15 rfl rfl)
theorem dX3_canAdd_87 : decode cX3_canAdd 87 = .ok (.ireturn, 1) := dk_172 (dk_at dksX3_canAdd_3 16 rfl rfl)
abbrev cX3_addNested : ByteArray := prog_20_method_16_code
def yX3_addNested : MethodName := ⟨RX3, "addNested", "(II)I"⟩
def dkwX3_addNested_2 : List UInt8 := [3, 4, 182, 0, 100, 153, 0, 15, 42, 5, 27, 28, 3, 3, 182, 0, 112, 167, 0, 4, 3, 172]
abbrev dktX3_addNested_2 : List UInt8 := dkwX3_addNested_2 ++ []
def dkwX3_addNested_1 : List UInt8 := [29, 153, 0, 23, 42, 182, 0, 108, 153, 0, 16, 42, 27, 28, 182, 0, 122, 154, 0, 7, 4, 167, 0, 4]
abbrev dktX3_addNested_1 : List UInt8 := dkwX3_addNested_1 ++ dktX3_addNested_2
def dkwX3_addNested_0 : List UInt8 := [42, 27, 182, 0, 104, 153, 0, 15, 42, 28, 182, 0, 104, 153, 0, 7, 4, 167, 0, 4, 3, 62, 42, 29]
abbrev dktX3_addNested_0 : List UInt8 := dkwX3_addNested_0 ++ dktX3_addNested_1
theorem dksX3_addNested_0 : cX3_addNested.data.toList.drop 0 = dktX3_addNested_0 := by decide +kernel
theorem dksX3_addNested_1 : cX3_addNested.data.toList.drop 24 = dktX3_addNested_1 := dk_seg dksX3_addNested_0 24 rfl rfl
theorem dksX3_addNested_2 : cX3_addNested.data.toList.drop 48 = dktX3_addNested_2 := dk_seg dksX3_addNested_1 24 rfl rfl
theorem dX3_addNested_0 : decode cX3_addNested 0 = .ok (.aload_n 0, 1) := dk_42 (dk_at dksX3_addNested_0 0 rfl rfl)
theorem dX3_addNested_1 : decode cX3_addNested 1 = .ok (.iload_n 1, 1) := dk_27 (dk_at dksX3_addNested_0 1 rfl rfl)
theorem dX3_addNested_2 : decode cX3_addNested 2 = .ok (.invokevirtual 104, 3) := dk_182 0 104 (dk_at dksX3_addNested_0 2 rfl rfl)
theorem dX3_addNested_5 : decode cX3_addNested 5 = .ok (.ifCond .eq 15, 3) := dk_153 0 15 (dk_at dksX3_addNested_0 5 rfl rfl)
theorem dX3_addNested_8 : decode cX3_addNested 8 = .ok (.aload_n 0, 1) := dk_42 (dk_at dksX3_addNested_0 8 rfl rfl)
theorem dX3_addNested_9 : decode cX3_addNested 9 = .ok (.iload_n 2, 1) := dk_28 (dk_at dksX3_addNested_0 9 rfl rfl)
theorem dX3_addNested_10 : decode cX3_addNested 10 = .ok (.invokevirtual 104, 3) := dk_182 0 104 (dk_at dksX3_addNested_0 10 rfl rfl)
theorem dX3_addNested_13 : decode cX3_addNested 13 = .ok (.ifCond .eq 7, 3) := dk_153 0 7 (dk_at dksX3_addNested_0 13 rfl rfl)
theorem dX3_addNested_16 : decode cX3_addNested 16 = .ok (.iconst 1, 1) := dk_4 (dk_at dksX3_addNested_0 16 rfl rfl)
theorem dX3_addNested_17 : decode cX3_addNested 17 = .ok (.goto 4, 3) := dk_167 0 4 (dk_at dksX3_addNested_0 17 rfl rfl)
theorem dX3_addNested_20 : decode cX3_addNested 20 = .ok (.iconst 0, 1) := dk_3 (dk_at dksX3_addNested_0 20 rfl rfl)
theorem dX3_addNested_21 : decode cX3_addNested 21 = .ok (.istore_n 3, 1) := dk_62 (dk_at dksX3_addNested_0 21 rfl rfl)
theorem dX3_addNested_22 : decode cX3_addNested 22 = .ok (.aload_n 0, 1) := dk_42 (dk_at dksX3_addNested_0 22 rfl rfl)
theorem dX3_addNested_23 : decode cX3_addNested 23 = .ok (.iload_n 3, 1) := dk_29 (dk_at dksX3_addNested_0 23 rfl rfl)
theorem dX3_addNested_24 : decode cX3_addNested 24 = .ok (.iload_n 3, 1) := dk_29 (dk_at dksX3_addNested_1 0 rfl rfl)
theorem dX3_addNested_25 : decode cX3_addNested 25 = .ok (.ifCond .eq 23, 3) := dk_153 0 23 (dk_at dksX3_addNested_1 1 rfl rfl)
theorem dX3_addNested_28 : decode cX3_addNested 28 = .ok (.aload_n 0, 1) := dk_42 (dk_at dksX3_addNested_1 4 rfl rfl)
theorem dX3_addNested_29 : decode cX3_addNested 29 = .ok (.invokevirtual 108, 3) := dk_182 0 108 (dk_at dksX3_addNested_1 5 rfl rfl)
theorem dX3_addNested_32 : decode cX3_addNested 32 = .ok (.ifCond .eq 16, 3) := dk_153 0 16 (dk_at dksX3_addNested_1 8 rfl rfl)
theorem dX3_addNested_35 : decode cX3_addNested 35 = .ok (.aload_n 0, 1) := dk_42 (dk_at dksX3_addNested_1 11 rfl rfl)
theorem dX3_addNested_36 : decode cX3_addNested 36 = .ok (.iload_n 1, 1) := dk_27 (dk_at dksX3_addNested_1 12 rfl rfl)
theorem dX3_addNested_37 : decode cX3_addNested 37 = .ok (.iload_n 2, 1) := dk_28 (dk_at dksX3_addNested_1 13 rfl rfl)
theorem dX3_addNested_38 : decode cX3_addNested 38 = .ok (.invokevirtual 122, 3) := dk_182 0 122 (dk_at dksX3_addNested_1 14 rfl rfl)
theorem dX3_addNested_41 : decode cX3_addNested 41 = .ok (.ifCond .ne 7, 3) := dk_154 0 7 (dk_at dksX3_addNested_1 17 rfl rfl)
theorem dX3_addNested_44 : decode cX3_addNested 44 = .ok (.iconst 1, 1) := dk_4 (dk_at dksX3_addNested_1 20 rfl rfl)
theorem dX3_addNested_45 : decode cX3_addNested 45 = .ok (.goto 4, 3) := dk_167 0 4 (dk_at dksX3_addNested_1 21 rfl rfl)
theorem dX3_addNested_48 : decode cX3_addNested 48 = .ok (.iconst 0, 1) := dk_3 (dk_at dksX3_addNested_2 0 rfl rfl)
theorem dX3_addNested_49 : decode cX3_addNested 49 = .ok (.iconst 1, 1) := dk_4 (dk_at dksX3_addNested_2 1 rfl rfl)
theorem dX3_addNested_50 : decode cX3_addNested 50 = .ok (.invokevirtual 100, 3) := dk_182 0 100 (dk_at dksX3_addNested_2 2 rfl rfl)
theorem dX3_addNested_53 : decode cX3_addNested 53 = .ok (.ifCond .eq 15, 3) := dk_153 0 15 (dk_at dksX3_addNested_2 5 rfl rfl)
theorem dX3_addNested_56 : decode cX3_addNested 56 = .ok (.aload_n 0, 1) := dk_42 (dk_at dksX3_addNested_2 8 rfl rfl)
theorem dX3_addNested_57 : decode cX3_addNested 57 = .ok (.iconst 2, 1) := dk_5 (dk_at dksX3_addNested_2 9 rfl rfl)
theorem dX3_addNested_58 : decode cX3_addNested 58 = .ok (.iload_n 1, 1) := dk_27 (dk_at dksX3_addNested_2 10 rfl rfl)
theorem dX3_addNested_59 : decode cX3_addNested 59 = .ok (.iload_n 2, 1) := dk_28 (dk_at dksX3_addNested_2 11 rfl rfl)
theorem dX3_addNested_60 : decode cX3_addNested 60 = .ok (.iconst 0, 1) := dk_3 (dk_at dksX3_addNested_2 12 rfl rfl)
theorem dX3_addNested_61 : decode cX3_addNested 61 = .ok (.iconst 0, 1) := dk_3 (dk_at dksX3_addNested_2 13 rfl rfl)
theorem dX3_addNested_62 : decode cX3_addNested 62 = .ok (.invokevirtual 112, 3) := dk_182 0 112 (dk_at dksX3_addNested_2 14 rfl rfl)
theorem dX3_addNested_65 : decode cX3_addNested 65 = .ok (.goto 4, 3) := dk_167 0 4 (dk_at dksX3_addNested_2 17 rfl rfl)
theorem dX3_addNested_68 : decode cX3_addNested 68 = .ok (.iconst 0, 1) := dk_3 (dk_at dksX3_addNested_2 20 rfl rfl)
theorem dX3_addNested_69 : decode cX3_addNested 69 = .ok (.ireturn, 1) := dk_172 (dk_at dksX3_addNested_2 21 rfl rfl)
abbrev cX3_isShownIn : ByteArray := prog_20_method_15_code
def yX3_isShownIn : MethodName := ⟨RX3, "isShownIn", "(II)Z"⟩
def dkwX3_isShownIn_3 : List UInt8 := [153, 0, 7, 4, 167, 0, 4, 3, 62, 132, 4, 1, 167, 255, 187, 29, 172]
abbrev dktX3_isShownIn_3 : List UInt8 := dkwX3_isShownIn_3 ++ []
def dkwX3_isShownIn_2 : List UInt8 := [42, 180, 0, 19, 21, 4, 46, 28, 160, 0, 22, 42, 27, 42, 180, 0, 22, 21, 4, 46, 182, 0, 122]
abbrev dktX3_isShownIn_2 : List UInt8 := dkwX3_isShownIn_2 ++ dktX3_isShownIn_3
def dkwX3_isShownIn_1 : List UInt8 := [154, 0, 62, 42, 180, 0, 47, 21, 4, 51, 153, 0, 44, 42, 180, 0, 16, 21, 4, 46, 5, 160, 0, 33]
abbrev dktX3_isShownIn_1 : List UInt8 := dkwX3_isShownIn_1 ++ dktX3_isShownIn_2
def dkwX3_isShownIn_0 : List UInt8 := [27, 28, 160, 0, 7, 4, 167, 0, 4, 3, 62, 3, 54, 4, 21, 4, 42, 180, 0, 90, 162, 0, 66, 29]
abbrev dktX3_isShownIn_0 : List UInt8 := dkwX3_isShownIn_0 ++ dktX3_isShownIn_1
theorem dksX3_isShownIn_0 : cX3_isShownIn.data.toList.drop 0 = dktX3_isShownIn_0 := by decide +kernel
theorem dksX3_isShownIn_1 : cX3_isShownIn.data.toList.drop 24 = dktX3_isShownIn_1 := dk_seg dksX3_isShownIn_0 24 rfl rfl
theorem dksX3_isShownIn_2 : cX3_isShownIn.data.toList.drop 48 = dktX3_isShownIn_2 := dk_seg dksX3_isShownIn_1 24 rfl rfl
theorem dksX3_isShownIn_3 : cX3_isShownIn.data.toList.drop 71 = dktX3_isShownIn_3 := dk_seg dksX3_isShownIn_2 23 rfl rfl
theorem dX3_isShownIn_0 : decode cX3_isShownIn 0 = .ok (.iload_n 1, 1) := dk_27 (dk_at dksX3_isShownIn_0 0 rfl rfl)
theorem dX3_isShownIn_1 : decode cX3_isShownIn 1 = .ok (.iload_n 2, 1) := dk_28 (dk_at dksX3_isShownIn_0 1 rfl rfl)
theorem dX3_isShownIn_2 : decode cX3_isShownIn 2 = .ok (.if_icmp .ne 7, 3) := dk_160 0 7 (dk_at dksX3_isShownIn_0 2 rfl rfl)
theorem dX3_isShownIn_5 : decode cX3_isShownIn 5 = .ok (.iconst 1, 1) := dk_4 (dk_at dksX3_isShownIn_0 5 rfl rfl)
theorem dX3_isShownIn_6 : decode cX3_isShownIn 6 = .ok (.goto 4, 3) := dk_167 0 4 (dk_at dksX3_isShownIn_0 6 rfl rfl)
theorem dX3_isShownIn_9 : decode cX3_isShownIn 9 = .ok (.iconst 0, 1) := dk_3 (dk_at dksX3_isShownIn_0 9 rfl rfl)
theorem dX3_isShownIn_10 : decode cX3_isShownIn 10 = .ok (.istore_n 3, 1) := dk_62 (dk_at dksX3_isShownIn_0 10 rfl rfl)
theorem dX3_isShownIn_11 : decode cX3_isShownIn 11 = .ok (.iconst 0, 1) := dk_3 (dk_at dksX3_isShownIn_0 11 rfl rfl)
theorem dX3_isShownIn_12 : decode cX3_isShownIn 12 = .ok (.istore 4, 2) := dk_54 4 (dk_at dksX3_isShownIn_0 12 rfl rfl)
theorem dX3_isShownIn_14 : decode cX3_isShownIn 14 = .ok (.iload 4, 2) := dk_21 4 (dk_at dksX3_isShownIn_0 14 rfl rfl)
theorem dX3_isShownIn_16 : decode cX3_isShownIn 16 = .ok (.aload_n 0, 1) := dk_42 (dk_at dksX3_isShownIn_0 16 rfl rfl)
theorem dX3_isShownIn_17 : decode cX3_isShownIn 17 = .ok (.getfield 90, 3) := dk_180 0 90 (dk_at dksX3_isShownIn_0 17 rfl rfl)
theorem dX3_isShownIn_20 : decode cX3_isShownIn 20 = .ok (.if_icmp .ge 66, 3) := dk_162 0 66 (dk_at dksX3_isShownIn_0 20 rfl rfl)
theorem dX3_isShownIn_23 : decode cX3_isShownIn 23 = .ok (.iload_n 3, 1) := dk_29 (dk_at dksX3_isShownIn_0 23 rfl rfl)
theorem dX3_isShownIn_24 : decode cX3_isShownIn 24 = .ok (.ifCond .ne 62, 3) := dk_154 0 62 (dk_at dksX3_isShownIn_1 0 rfl rfl)
theorem dX3_isShownIn_27 : decode cX3_isShownIn 27 = .ok (.aload_n 0, 1) := dk_42 (dk_at dksX3_isShownIn_1 3 rfl rfl)
theorem dX3_isShownIn_28 : decode cX3_isShownIn 28 = .ok (.getfield 47, 3) := dk_180 0 47 (dk_at dksX3_isShownIn_1 4 rfl rfl)
theorem dX3_isShownIn_31 : decode cX3_isShownIn 31 = .ok (.iload 4, 2) := dk_21 4 (dk_at dksX3_isShownIn_1 7 rfl rfl)
theorem dX3_isShownIn_33 : decode cX3_isShownIn 33 = .ok (.baload, 1) := dk_51 (dk_at dksX3_isShownIn_1 9 rfl rfl)
theorem dX3_isShownIn_34 : decode cX3_isShownIn 34 = .ok (.ifCond .eq 44, 3) := dk_153 0 44 (dk_at dksX3_isShownIn_1 10 rfl rfl)
theorem dX3_isShownIn_37 : decode cX3_isShownIn 37 = .ok (.aload_n 0, 1) := dk_42 (dk_at dksX3_isShownIn_1 13 rfl rfl)
theorem dX3_isShownIn_38 : decode cX3_isShownIn 38 = .ok (.getfield 16, 3) := dk_180 0 16 (dk_at dksX3_isShownIn_1 14 rfl rfl)
theorem dX3_isShownIn_41 : decode cX3_isShownIn 41 = .ok (.iload 4, 2) := dk_21 4 (dk_at dksX3_isShownIn_1 17 rfl rfl)
theorem dX3_isShownIn_43 : decode cX3_isShownIn 43 = .ok (.iaload, 1) := dk_46 (dk_at dksX3_isShownIn_1 19 rfl rfl)
theorem dX3_isShownIn_44 : decode cX3_isShownIn 44 = .ok (.iconst 2, 1) := dk_5 (dk_at dksX3_isShownIn_1 20 rfl rfl)
theorem dX3_isShownIn_45 : decode cX3_isShownIn 45 = .ok (.if_icmp .ne 33, 3) := dk_160 0 33 (dk_at dksX3_isShownIn_1 21 rfl rfl)
theorem dX3_isShownIn_48 : decode cX3_isShownIn 48 = .ok (.aload_n 0, 1) := dk_42 (dk_at dksX3_isShownIn_2 0 rfl rfl)
theorem dX3_isShownIn_49 : decode cX3_isShownIn 49 = .ok (.getfield 19, 3) := dk_180 0 19 (dk_at dksX3_isShownIn_2 1 rfl rfl)
theorem dX3_isShownIn_52 : decode cX3_isShownIn 52 = .ok (.iload 4, 2) := dk_21 4 (dk_at dksX3_isShownIn_2 4 rfl rfl)
theorem dX3_isShownIn_54 : decode cX3_isShownIn 54 = .ok (.iaload, 1) := dk_46 (dk_at dksX3_isShownIn_2 6 rfl rfl)
theorem dX3_isShownIn_55 : decode cX3_isShownIn 55 = .ok (.iload_n 2, 1) := dk_28 (dk_at dksX3_isShownIn_2 7 rfl rfl)
theorem dX3_isShownIn_56 : decode cX3_isShownIn 56 = .ok (.if_icmp .ne 22, 3) := dk_160 0 22 (dk_at dksX3_isShownIn_2 8 rfl rfl)
theorem dX3_isShownIn_59 : decode cX3_isShownIn 59 = .ok (.aload_n 0, 1) := dk_42 (dk_at dksX3_isShownIn_2 11 rfl rfl)
theorem dX3_isShownIn_60 : decode cX3_isShownIn 60 = .ok (.iload_n 1, 1) := dk_27 (dk_at dksX3_isShownIn_2 12 rfl rfl)
theorem dX3_isShownIn_61 : decode cX3_isShownIn 61 = .ok (.aload_n 0, 1) := dk_42 (dk_at dksX3_isShownIn_2 13 rfl rfl)
theorem dX3_isShownIn_62 : decode cX3_isShownIn 62 = .ok (.getfield 22, 3) := dk_180 0 22 (dk_at dksX3_isShownIn_2 14 rfl rfl)
theorem dX3_isShownIn_65 : decode cX3_isShownIn 65 = .ok (.iload 4, 2) := dk_21 4 (dk_at dksX3_isShownIn_2 17 rfl rfl)
theorem dX3_isShownIn_67 : decode cX3_isShownIn 67 = .ok (.iaload, 1) := dk_46 (dk_at dksX3_isShownIn_2 19 rfl rfl)
theorem dX3_isShownIn_68 : decode cX3_isShownIn 68 = .ok (.invokevirtual 122, 3) := dk_182 0 122 (dk_at dksX3_isShownIn_2 20 rfl rfl)
theorem dX3_isShownIn_71 : decode cX3_isShownIn 71 = .ok (.ifCond .eq 7, 3) := dk_153 0 7 (dk_at dksX3_isShownIn_3 0 rfl rfl)
theorem dX3_isShownIn_74 : decode cX3_isShownIn 74 = .ok (.iconst 1, 1) := dk_4 (dk_at dksX3_isShownIn_3 3 rfl rfl)
theorem dX3_isShownIn_75 : decode cX3_isShownIn 75 = .ok (.goto 4, 3) := dk_167 0 4 (dk_at dksX3_isShownIn_3 4 rfl rfl)
theorem dX3_isShownIn_78 : decode cX3_isShownIn 78 = .ok (.iconst 0, 1) := dk_3 (dk_at dksX3_isShownIn_3 7 rfl rfl)
theorem dX3_isShownIn_79 : decode cX3_isShownIn 79 = .ok (.istore_n 3, 1) := dk_62 (dk_at dksX3_isShownIn_3 8 rfl rfl)
theorem dX3_isShownIn_80 : decode cX3_isShownIn 80 = .ok (.iinc 4 1, 3) := dk_132 4 1 (dk_at dksX3_isShownIn_3 9 rfl rfl)
theorem dX3_isShownIn_83 : decode cX3_isShownIn 83 = .ok (.goto (-69), 3) := dk_167 255 187 (dk_at dksX3_isShownIn_3 12 rfl rfl)
theorem dX3_isShownIn_86 : decode cX3_isShownIn 86 = .ok (.iload_n 3, 1) := dk_29 (dk_at dksX3_isShownIn_3 15 rfl rfl)
theorem dX3_isShownIn_87 : decode cX3_isShownIn 87 = .ok (.ireturn, 1) := dk_172 (dk_at dksX3_isShownIn_3 16 rfl rfl)
abbrev cX3_addNull : ByteArray := prog_20_method_17_code
def yX3_addNull : MethodName := ⟨RX3, "addNull", "(I)I"⟩
def dkwX3_addNull_1 : List UInt8 := [182, 0, 112, 167, 0, 4, 3, 172]
abbrev dktX3_addNull_1 : List UInt8 := dkwX3_addNull_1 ++ []
def dkwX3_addNull_0 : List UInt8 := [42, 42, 27, 182, 0, 104, 42, 182, 0, 108, 4, 182, 0, 100, 153, 0, 15, 42, 6, 27, 3, 3, 3]
abbrev dktX3_addNull_0 : List UInt8 := dkwX3_addNull_0 ++ dktX3_addNull_1
theorem dksX3_addNull_0 : cX3_addNull.data.toList.drop 0 = dktX3_addNull_0 := by decide +kernel
theorem dksX3_addNull_1 : cX3_addNull.data.toList.drop 23 = dktX3_addNull_1 := dk_seg dksX3_addNull_0 23 rfl rfl
theorem dX3_addNull_0 : decode cX3_addNull 0 = .ok (.aload_n 0, 1) := dk_42 (dk_at dksX3_addNull_0 0 rfl rfl)
theorem dX3_addNull_1 : decode cX3_addNull 1 = .ok (.aload_n 0, 1) := dk_42 (dk_at dksX3_addNull_0 1 rfl rfl)
theorem dX3_addNull_2 : decode cX3_addNull 2 = .ok (.iload_n 1, 1) := dk_27 (dk_at dksX3_addNull_0 2 rfl rfl)
theorem dX3_addNull_3 : decode cX3_addNull 3 = .ok (.invokevirtual 104, 3) := dk_182 0 104 (dk_at dksX3_addNull_0 3 rfl rfl)
theorem dX3_addNull_6 : decode cX3_addNull 6 = .ok (.aload_n 0, 1) := dk_42 (dk_at dksX3_addNull_0 6 rfl rfl)
theorem dX3_addNull_7 : decode cX3_addNull 7 = .ok (.invokevirtual 108, 3) := dk_182 0 108 (dk_at dksX3_addNull_0 7 rfl rfl)
theorem dX3_addNull_10 : decode cX3_addNull 10 = .ok (.iconst 1, 1) := dk_4 (dk_at dksX3_addNull_0 10 rfl rfl)
theorem dX3_addNull_11 : decode cX3_addNull 11 = .ok (.invokevirtual 100, 3) := dk_182 0 100 (dk_at dksX3_addNull_0 11 rfl rfl)
theorem dX3_addNull_14 : decode cX3_addNull 14 = .ok (.ifCond .eq 15, 3) := dk_153 0 15 (dk_at dksX3_addNull_0 14 rfl rfl)
theorem dX3_addNull_17 : decode cX3_addNull 17 = .ok (.aload_n 0, 1) := dk_42 (dk_at dksX3_addNull_0 17 rfl rfl)
theorem dX3_addNull_18 : decode cX3_addNull 18 = .ok (.iconst 3, 1) := dk_6 (dk_at dksX3_addNull_0 18 rfl rfl)
theorem dX3_addNull_19 : decode cX3_addNull 19 = .ok (.iload_n 1, 1) := dk_27 (dk_at dksX3_addNull_0 19 rfl rfl)
theorem dX3_addNull_20 : decode cX3_addNull 20 = .ok (.iconst 0, 1) := dk_3 (dk_at dksX3_addNull_0 20 rfl rfl)
theorem dX3_addNull_21 : decode cX3_addNull 21 = .ok (.iconst 0, 1) := dk_3 (dk_at dksX3_addNull_0 21 rfl rfl)
theorem dX3_addNull_22 : decode cX3_addNull 22 = .ok (.iconst 0, 1) := dk_3 (dk_at dksX3_addNull_0 22 rfl rfl)
theorem dX3_addNull_23 : decode cX3_addNull 23 = .ok (.invokevirtual 112, 3) := dk_182 0 112 (dk_at dksX3_addNull_1 0 rfl rfl)
theorem dX3_addNull_26 : decode cX3_addNull 26 = .ok (.goto 4, 3) := dk_167 0 4 (dk_at dksX3_addNull_1 3 rfl rfl)
theorem dX3_addNull_29 : decode cX3_addNull 29 = .ok (.iconst 0, 1) := dk_3 (dk_at dksX3_addNull_1 6 rfl rfl)
theorem dX3_addNull_30 : decode cX3_addNull 30 = .ok (.ireturn, 1) := dk_172 (dk_at dksX3_addNull_1 7 rfl rfl)
abbrev cX3_remove : ByteArray := prog_20_method_20_code
def yX3_remove : MethodName := ⟨RX3, "remove", "(I)I"⟩
def dkwX3_remove_4 : List UInt8 := [132, 2, 1, 167, 255, 193, 42, 180, 0, 13, 42, 180, 0, 19, 27, 46, 46, 172]
abbrev dktX3_remove_4 : List UInt8 := dkwX3_remove_4 ++ []
def dkwX3_remove_3 : List UInt8 := [28, 42, 180, 0, 34, 28, 46, 27, 160, 0, 7, 2, 167, 0, 9, 42, 180, 0, 34, 28, 46, 79]
abbrev dktX3_remove_3 : List UInt8 := dkwX3_remove_3 ++ dktX3_remove_4
def dkwX3_remove_2 : List UInt8 := [180, 0, 31, 28, 46, 27, 160, 0, 7, 2, 167, 0, 9, 42, 180, 0, 31, 28, 46, 79, 42, 180, 0, 34]
abbrev dktX3_remove_2 : List UInt8 := dkwX3_remove_2 ++ dktX3_remove_3
def dkwX3_remove_1 : List UInt8 := [180, 0, 47, 27, 3, 84, 3, 61, 28, 42, 180, 0, 90, 162, 0, 61, 42, 180, 0, 31, 28, 42]
abbrev dktX3_remove_1 : List UInt8 := dkwX3_remove_1 ++ dktX3_remove_2
def dkwX3_remove_0 : List UInt8 := [42, 42, 27, 182, 0, 116, 4, 4, 182, 0, 100, 154, 0, 5, 3, 172, 42, 27, 182, 0, 130, 42]
abbrev dktX3_remove_0 : List UInt8 := dkwX3_remove_0 ++ dktX3_remove_1
theorem dksX3_remove_0 : cX3_remove.data.toList.drop 0 = dktX3_remove_0 := by decide +kernel
theorem dksX3_remove_1 : cX3_remove.data.toList.drop 22 = dktX3_remove_1 := dk_seg dksX3_remove_0 22 rfl rfl
theorem dksX3_remove_2 : cX3_remove.data.toList.drop 44 = dktX3_remove_2 := dk_seg dksX3_remove_1 22 rfl rfl
theorem dksX3_remove_3 : cX3_remove.data.toList.drop 68 = dktX3_remove_3 := dk_seg dksX3_remove_2 24 rfl rfl
theorem dksX3_remove_4 : cX3_remove.data.toList.drop 90 = dktX3_remove_4 := dk_seg dksX3_remove_3 22 rfl rfl
theorem dX3_remove_0 : decode cX3_remove 0 = .ok (.aload_n 0, 1) := dk_42 (dk_at dksX3_remove_0 0 rfl rfl)
theorem dX3_remove_1 : decode cX3_remove 1 = .ok (.aload_n 0, 1) := dk_42 (dk_at dksX3_remove_0 1 rfl rfl)
theorem dX3_remove_2 : decode cX3_remove 2 = .ok (.iload_n 1, 1) := dk_27 (dk_at dksX3_remove_0 2 rfl rfl)
theorem dX3_remove_3 : decode cX3_remove 3 = .ok (.invokevirtual 116, 3) := dk_182 0 116 (dk_at dksX3_remove_0 3 rfl rfl)
theorem dX3_remove_6 : decode cX3_remove 6 = .ok (.iconst 1, 1) := dk_4 (dk_at dksX3_remove_0 6 rfl rfl)
theorem dX3_remove_7 : decode cX3_remove 7 = .ok (.iconst 1, 1) := dk_4 (dk_at dksX3_remove_0 7 rfl rfl)
theorem dX3_remove_8 : decode cX3_remove 8 = .ok (.invokevirtual 100, 3) := dk_182 0 100 (dk_at dksX3_remove_0 8 rfl rfl)
theorem dX3_remove_11 : decode cX3_remove 11 = .ok (.ifCond .ne 5, 3) := dk_154 0 5 (dk_at dksX3_remove_0 11 rfl rfl)
theorem dX3_remove_14 : decode cX3_remove 14 = .ok (.iconst 0, 1) := dk_3 (dk_at dksX3_remove_0 14 rfl rfl)
theorem dX3_remove_15 : decode cX3_remove 15 = .ok (.ireturn, 1) := dk_172 (dk_at dksX3_remove_0 15 rfl rfl)
theorem dX3_remove_16 : decode cX3_remove 16 = .ok (.aload_n 0, 1) := dk_42 (dk_at dksX3_remove_0 16 rfl rfl)
theorem dX3_remove_17 : decode cX3_remove 17 = .ok (.iload_n 1, 1) := dk_27 (dk_at dksX3_remove_0 17 rfl rfl)
theorem dX3_remove_18 : decode cX3_remove 18 = .ok (.invokevirtual 130, 3) := dk_182 0 130 (dk_at dksX3_remove_0 18 rfl rfl)
theorem dX3_remove_21 : decode cX3_remove 21 = .ok (.aload_n 0, 1) := dk_42 (dk_at dksX3_remove_0 21 rfl rfl)
theorem dX3_remove_22 : decode cX3_remove 22 = .ok (.getfield 47, 3) := dk_180 0 47 (dk_at dksX3_remove_1 0 rfl rfl)
theorem dX3_remove_25 : decode cX3_remove 25 = .ok (.iload_n 1, 1) := dk_27 (dk_at dksX3_remove_1 3 rfl rfl)
theorem dX3_remove_26 : decode cX3_remove 26 = .ok (.iconst 0, 1) := dk_3 (dk_at dksX3_remove_1 4 rfl rfl)
theorem dX3_remove_27 : decode cX3_remove 27 = .ok (.bastore, 1) := dk_84 (dk_at dksX3_remove_1 5 rfl rfl)
theorem dX3_remove_28 : decode cX3_remove 28 = .ok (.iconst 0, 1) := dk_3 (dk_at dksX3_remove_1 6 rfl rfl)
theorem dX3_remove_29 : decode cX3_remove 29 = .ok (.istore_n 2, 1) := dk_61 (dk_at dksX3_remove_1 7 rfl rfl)
theorem dX3_remove_30 : decode cX3_remove 30 = .ok (.iload_n 2, 1) := dk_28 (dk_at dksX3_remove_1 8 rfl rfl)
theorem dX3_remove_31 : decode cX3_remove 31 = .ok (.aload_n 0, 1) := dk_42 (dk_at dksX3_remove_1 9 rfl rfl)
theorem dX3_remove_32 : decode cX3_remove 32 = .ok (.getfield 90, 3) := dk_180 0 90 (dk_at dksX3_remove_1 10 rfl rfl)
theorem dX3_remove_35 : decode cX3_remove 35 = .ok (.if_icmp .ge 61, 3) := dk_162 0 61 (dk_at dksX3_remove_1 13 rfl rfl)
theorem dX3_remove_38 : decode cX3_remove 38 = .ok (.aload_n 0, 1) := dk_42 (dk_at dksX3_remove_1 16 rfl rfl)
theorem dX3_remove_39 : decode cX3_remove 39 = .ok (.getfield 31, 3) := dk_180 0 31 (dk_at dksX3_remove_1 17 rfl rfl)
theorem dX3_remove_42 : decode cX3_remove 42 = .ok (.iload_n 2, 1) := dk_28 (dk_at dksX3_remove_1 20 rfl rfl)
theorem dX3_remove_43 : decode cX3_remove 43 = .ok (.aload_n 0, 1) := dk_42 (dk_at dksX3_remove_1 21 rfl rfl)
theorem dX3_remove_44 : decode cX3_remove 44 = .ok (.getfield 31, 3) := dk_180 0 31 (dk_at dksX3_remove_2 0 rfl rfl)
theorem dX3_remove_47 : decode cX3_remove 47 = .ok (.iload_n 2, 1) := dk_28 (dk_at dksX3_remove_2 3 rfl rfl)
theorem dX3_remove_48 : decode cX3_remove 48 = .ok (.iaload, 1) := dk_46 (dk_at dksX3_remove_2 4 rfl rfl)
theorem dX3_remove_49 : decode cX3_remove 49 = .ok (.iload_n 1, 1) := dk_27 (dk_at dksX3_remove_2 5 rfl rfl)
theorem dX3_remove_50 : decode cX3_remove 50 = .ok (.if_icmp .ne 7, 3) := dk_160 0 7 (dk_at dksX3_remove_2 6 rfl rfl)
theorem dX3_remove_53 : decode cX3_remove 53 = .ok (.iconst (-1), 1) := dk_2 (dk_at dksX3_remove_2 9 rfl rfl)
theorem dX3_remove_54 : decode cX3_remove 54 = .ok (.goto 9, 3) := dk_167 0 9 (dk_at dksX3_remove_2 10 rfl rfl)
theorem dX3_remove_57 : decode cX3_remove 57 = .ok (.aload_n 0, 1) := dk_42 (dk_at dksX3_remove_2 13 rfl rfl)
theorem dX3_remove_58 : decode cX3_remove 58 = .ok (.getfield 31, 3) := dk_180 0 31 (dk_at dksX3_remove_2 14 rfl rfl)
theorem dX3_remove_61 : decode cX3_remove 61 = .ok (.iload_n 2, 1) := dk_28 (dk_at dksX3_remove_2 17 rfl rfl)
theorem dX3_remove_62 : decode cX3_remove 62 = .ok (.iaload, 1) := dk_46 (dk_at dksX3_remove_2 18 rfl rfl)
theorem dX3_remove_63 : decode cX3_remove 63 = .ok (.iastore, 1) := dk_79 (dk_at dksX3_remove_2 19 rfl rfl)
theorem dX3_remove_64 : decode cX3_remove 64 = .ok (.aload_n 0, 1) := dk_42 (dk_at dksX3_remove_2 20 rfl rfl)
theorem dX3_remove_65 : decode cX3_remove 65 = .ok (.getfield 34, 3) := dk_180 0 34 (dk_at dksX3_remove_2 21 rfl rfl)
theorem dX3_remove_68 : decode cX3_remove 68 = .ok (.iload_n 2, 1) := dk_28 (dk_at dksX3_remove_3 0 rfl rfl)
theorem dX3_remove_69 : decode cX3_remove 69 = .ok (.aload_n 0, 1) := dk_42 (dk_at dksX3_remove_3 1 rfl rfl)
theorem dX3_remove_70 : decode cX3_remove 70 = .ok (.getfield 34, 3) := dk_180 0 34 (dk_at dksX3_remove_3 2 rfl rfl)
theorem dX3_remove_73 : decode cX3_remove 73 = .ok (.iload_n 2, 1) := dk_28 (dk_at dksX3_remove_3 5 rfl rfl)
theorem dX3_remove_74 : decode cX3_remove 74 = .ok (.iaload, 1) := dk_46 (dk_at dksX3_remove_3 6 rfl rfl)
theorem dX3_remove_75 : decode cX3_remove 75 = .ok (.iload_n 1, 1) := dk_27 (dk_at dksX3_remove_3 7 rfl rfl)
theorem dX3_remove_76 : decode cX3_remove 76 = .ok (.if_icmp .ne 7, 3) := dk_160 0 7 (dk_at dksX3_remove_3 8 rfl rfl)
theorem dX3_remove_79 : decode cX3_remove 79 = .ok (.iconst (-1), 1) := dk_2 (dk_at dksX3_remove_3 11 rfl rfl)
theorem dX3_remove_80 : decode cX3_remove 80 = .ok (.goto 9, 3) := dk_167 0 9 (dk_at dksX3_remove_3 12 rfl rfl)
theorem dX3_remove_83 : decode cX3_remove 83 = .ok (.aload_n 0, 1) := dk_42 (dk_at dksX3_remove_3 15 rfl rfl)
theorem dX3_remove_84 : decode cX3_remove 84 = .ok (.getfield 34, 3) := dk_180 0 34 (dk_at dksX3_remove_3 16 rfl rfl)
theorem dX3_remove_87 : decode cX3_remove 87 = .ok (.iload_n 2, 1) := dk_28 (dk_at dksX3_remove_3 19 rfl rfl)
theorem dX3_remove_88 : decode cX3_remove 88 = .ok (.iaload, 1) := dk_46 (dk_at dksX3_remove_3 20 rfl rfl)
theorem dX3_remove_89 : decode cX3_remove 89 = .ok (.iastore, 1) := dk_79 (dk_at dksX3_remove_3 21 rfl rfl)
theorem dX3_remove_90 : decode cX3_remove 90 = .ok (.iinc 2 1, 3) := dk_132 2 1 (dk_at dksX3_remove_4 0 rfl rfl)
theorem dX3_remove_93 : decode cX3_remove 93 = .ok (.goto (-63), 3) := dk_167 255 193 (dk_at dksX3_remove_4 3 rfl rfl)
theorem dX3_remove_96 : decode cX3_remove 96 = .ok (.aload_n 0, 1) := dk_42 (dk_at dksX3_remove_4 6 rfl rfl)
theorem dX3_remove_97 : decode cX3_remove 97 = .ok (.getfield 13, 3) := dk_180 0 13 (dk_at dksX3_remove_4 7 rfl rfl)
theorem dX3_remove_100 : decode cX3_remove 100 = .ok (.aload_n 0, 1) := dk_42 (dk_at dksX3_remove_4 10 rfl rfl)
theorem dX3_remove_101 : decode cX3_remove 101 = .ok (.getfield 19, 3) := dk_180 0 19 (dk_at dksX3_remove_4 11 rfl rfl)
theorem dX3_remove_104 : decode cX3_remove 104 = .ok (.iload_n 1, 1) := dk_27 (dk_at dksX3_remove_4 14 rfl rfl)
theorem dX3_remove_105 : decode cX3_remove 105 = .ok (.iaload, 1) := dk_46 (dk_at dksX3_remove_4 15 rfl rfl)
theorem dX3_remove_106 : decode cX3_remove 106 = .ok (.iaload, 1) := dk_46 (dk_at dksX3_remove_4 16 rfl rfl)
theorem dX3_remove_107 : decode cX3_remove 107 = .ok (.ireturn, 1) := dk_172 (dk_at dksX3_remove_4 17 rfl rfl)
abbrev cX3_takeOut : ByteArray := prog_20_method_19_code
def yX3_takeOut : MethodName := ⟨RX3, "takeOut", "(I)V"⟩
def dkwX3_takeOut_2 : List UInt8 := [96, 46, 79, 132, 3, 1, 167, 255, 217, 42, 180, 0, 13, 28, 92, 46, 4, 100, 79, 177]
abbrev dktX3_takeOut_2 : List UInt8 := dkwX3_takeOut_2 ++ []
def dkwX3_takeOut_1 : List UInt8 := [162, 0, 33, 42, 180, 0, 9, 16, 12, 28, 104, 29, 96, 42, 180, 0, 9, 16, 12, 28, 104, 29, 96, 4]
abbrev dktX3_takeOut_1 : List UInt8 := dkwX3_takeOut_1 ++ dktX3_takeOut_2
def dkwX3_takeOut_0 : List UInt8 := [42, 180, 0, 19, 27, 46, 61, 42, 27, 182, 0, 126, 62, 29, 42, 180, 0, 13, 28, 46, 4, 100]
abbrev dktX3_takeOut_0 : List UInt8 := dkwX3_takeOut_0 ++ dktX3_takeOut_1
theorem dksX3_takeOut_0 : cX3_takeOut.data.toList.drop 0 = dktX3_takeOut_0 := by decide +kernel
theorem dksX3_takeOut_1 : cX3_takeOut.data.toList.drop 22 = dktX3_takeOut_1 := dk_seg dksX3_takeOut_0 22 rfl rfl
theorem dksX3_takeOut_2 : cX3_takeOut.data.toList.drop 46 = dktX3_takeOut_2 := dk_seg dksX3_takeOut_1 24 rfl rfl
theorem dX3_takeOut_0 : decode cX3_takeOut 0 = .ok (.aload_n 0, 1) := dk_42 (dk_at dksX3_takeOut_0 0 rfl rfl)
theorem dX3_takeOut_1 : decode cX3_takeOut 1 = .ok (.getfield 19, 3) := dk_180 0 19 (dk_at dksX3_takeOut_0 1 rfl rfl)
theorem dX3_takeOut_4 : decode cX3_takeOut 4 = .ok (.iload_n 1, 1) := dk_27 (dk_at dksX3_takeOut_0 4 rfl rfl)
theorem dX3_takeOut_5 : decode cX3_takeOut 5 = .ok (.iaload, 1) := dk_46 (dk_at dksX3_takeOut_0 5 rfl rfl)
theorem dX3_takeOut_6 : decode cX3_takeOut 6 = .ok (.istore_n 2, 1) := dk_61 (dk_at dksX3_takeOut_0 6 rfl rfl)
theorem dX3_takeOut_7 : decode cX3_takeOut 7 = .ok (.aload_n 0, 1) := dk_42 (dk_at dksX3_takeOut_0 7 rfl rfl)
theorem dX3_takeOut_8 : decode cX3_takeOut 8 = .ok (.iload_n 1, 1) := dk_27 (dk_at dksX3_takeOut_0 8 rfl rfl)
theorem dX3_takeOut_9 : decode cX3_takeOut 9 = .ok (.invokevirtual 126, 3) := dk_182 0 126 (dk_at dksX3_takeOut_0 9 rfl rfl)
theorem dX3_takeOut_12 : decode cX3_takeOut 12 = .ok (.istore_n 3, 1) := dk_62 (dk_at dksX3_takeOut_0 12 rfl rfl)
theorem dX3_takeOut_13 : decode cX3_takeOut 13 = .ok (.iload_n 3, 1) := dk_29 (dk_at dksX3_takeOut_0 13 rfl rfl)
theorem dX3_takeOut_14 : decode cX3_takeOut 14 = .ok (.aload_n 0, 1) := dk_42 (dk_at dksX3_takeOut_0 14 rfl rfl)
theorem dX3_takeOut_15 : decode cX3_takeOut 15 = .ok (.getfield 13, 3) := dk_180 0 13 (dk_at dksX3_takeOut_0 15 rfl rfl)
theorem dX3_takeOut_18 : decode cX3_takeOut 18 = .ok (.iload_n 2, 1) := dk_28 (dk_at dksX3_takeOut_0 18 rfl rfl)
theorem dX3_takeOut_19 : decode cX3_takeOut 19 = .ok (.iaload, 1) := dk_46 (dk_at dksX3_takeOut_0 19 rfl rfl)
theorem dX3_takeOut_20 : decode cX3_takeOut 20 = .ok (.iconst 1, 1) := dk_4 (dk_at dksX3_takeOut_0 20 rfl rfl)
theorem dX3_takeOut_21 : decode cX3_takeOut 21 = .ok (.isub, 1) := dk_100 (dk_at dksX3_takeOut_0 21 rfl rfl)
theorem dX3_takeOut_22 : decode cX3_takeOut 22 = .ok (.if_icmp .ge 33, 3) := dk_162 0 33 (dk_at dksX3_takeOut_1 0 rfl rfl)
theorem dX3_takeOut_25 : decode cX3_takeOut 25 = .ok (.aload_n 0, 1) := dk_42 (dk_at dksX3_takeOut_1 3 rfl rfl)
theorem dX3_takeOut_26 : decode cX3_takeOut 26 = .ok (.getfield 9, 3) := dk_180 0 9 (dk_at dksX3_takeOut_1 4 rfl rfl)
theorem dX3_takeOut_29 : decode cX3_takeOut 29 = .ok (.bipush 12, 2) := dk_16 12 (dk_at dksX3_takeOut_1 7 rfl rfl)
theorem dX3_takeOut_31 : decode cX3_takeOut 31 = .ok (.iload_n 2, 1) := dk_28 (dk_at dksX3_takeOut_1 9 rfl rfl)
theorem dX3_takeOut_32 : decode cX3_takeOut 32 = .ok (.imul, 1) := dk_104 (dk_at dksX3_takeOut_1 10 rfl rfl)
theorem dX3_takeOut_33 : decode cX3_takeOut 33 = .ok (.iload_n 3, 1) := dk_29 (dk_at dksX3_takeOut_1 11 rfl rfl)
theorem dX3_takeOut_34 : decode cX3_takeOut 34 = .ok (.iadd, 1) := dk_96 (dk_at dksX3_takeOut_1 12 rfl rfl)
theorem dX3_takeOut_35 : decode cX3_takeOut 35 = .ok (.aload_n 0, 1) := dk_42 (dk_at dksX3_takeOut_1 13 rfl rfl)
theorem dX3_takeOut_36 : decode cX3_takeOut 36 = .ok (.getfield 9, 3) := dk_180 0 9 (dk_at dksX3_takeOut_1 14 rfl rfl)
theorem dX3_takeOut_39 : decode cX3_takeOut 39 = .ok (.bipush 12, 2) := dk_16 12 (dk_at dksX3_takeOut_1 17 rfl rfl)
theorem dX3_takeOut_41 : decode cX3_takeOut 41 = .ok (.iload_n 2, 1) := dk_28 (dk_at dksX3_takeOut_1 19 rfl rfl)
theorem dX3_takeOut_42 : decode cX3_takeOut 42 = .ok (.imul, 1) := dk_104 (dk_at dksX3_takeOut_1 20 rfl rfl)
theorem dX3_takeOut_43 : decode cX3_takeOut 43 = .ok (.iload_n 3, 1) := dk_29 (dk_at dksX3_takeOut_1 21 rfl rfl)
theorem dX3_takeOut_44 : decode cX3_takeOut 44 = .ok (.iadd, 1) := dk_96 (dk_at dksX3_takeOut_1 22 rfl rfl)
theorem dX3_takeOut_45 : decode cX3_takeOut 45 = .ok (.iconst 1, 1) := dk_4 (dk_at dksX3_takeOut_1 23 rfl rfl)
theorem dX3_takeOut_46 : decode cX3_takeOut 46 = .ok (.iadd, 1) := dk_96 (dk_at dksX3_takeOut_2 0 rfl rfl)
theorem dX3_takeOut_47 : decode cX3_takeOut 47 = .ok (.iaload, 1) := dk_46 (dk_at dksX3_takeOut_2 1 rfl rfl)
theorem dX3_takeOut_48 : decode cX3_takeOut 48 = .ok (.iastore, 1) := dk_79 (dk_at dksX3_takeOut_2 2 rfl rfl)
theorem dX3_takeOut_49 : decode cX3_takeOut 49 = .ok (.iinc 3 1, 3) := dk_132 3 1 (dk_at dksX3_takeOut_2 3 rfl rfl)
theorem dX3_takeOut_52 : decode cX3_takeOut 52 = .ok (.goto (-39), 3) := dk_167 255 217 (dk_at dksX3_takeOut_2 6 rfl rfl)
theorem dX3_takeOut_55 : decode cX3_takeOut 55 = .ok (.aload_n 0, 1) := dk_42 (dk_at dksX3_takeOut_2 9 rfl rfl)
theorem dX3_takeOut_56 : decode cX3_takeOut 56 = .ok (.getfield 13, 3) := dk_180 0 13 (dk_at dksX3_takeOut_2 10 rfl rfl)
theorem dX3_takeOut_59 : decode cX3_takeOut 59 = .ok (.iload_n 2, 1) := dk_28 (dk_at dksX3_takeOut_2 13 rfl rfl)
theorem dX3_takeOut_60 : decode cX3_takeOut 60 = .ok (.dup2, 1) := dk_92 (dk_at dksX3_takeOut_2 14 rfl rfl)
theorem dX3_takeOut_61 : decode cX3_takeOut 61 = .ok (.iaload, 1) := dk_46 (dk_at dksX3_takeOut_2 15 rfl rfl)
theorem dX3_takeOut_62 : decode cX3_takeOut 62 = .ok (.iconst 1, 1) := dk_4 (dk_at dksX3_takeOut_2 16 rfl rfl)
theorem dX3_takeOut_63 : decode cX3_takeOut 63 = .ok (.isub, 1) := dk_100 (dk_at dksX3_takeOut_2 17 rfl rfl)
theorem dX3_takeOut_64 : decode cX3_takeOut 64 = .ok (.iastore, 1) := dk_79 (dk_at dksX3_takeOut_2 18 rfl rfl)
theorem dX3_takeOut_65 : decode cX3_takeOut 65 = .ok (.return_, 1) := dk_177 (dk_at dksX3_takeOut_2 19 rfl rfl)
abbrev cX3_placeOf : ByteArray := prog_20_method_18_code
def yX3_placeOf : MethodName := ⟨RX3, "placeOf", "(I)I"⟩
def dkwX3_placeOf_1 : List UInt8 := [132, 2, 1, 167, 255, 233, 28, 172]
abbrev dktX3_placeOf_1 : List UInt8 := dkwX3_placeOf_1 ++ []
def dkwX3_placeOf_0 : List UInt8 := [3, 61, 42, 180, 0, 9, 16, 12, 42, 180, 0, 19, 27, 46, 104, 28, 96, 46, 27, 159, 0, 9]
abbrev dktX3_placeOf_0 : List UInt8 := dkwX3_placeOf_0 ++ dktX3_placeOf_1
theorem dksX3_placeOf_0 : cX3_placeOf.data.toList.drop 0 = dktX3_placeOf_0 := by decide +kernel
theorem dksX3_placeOf_1 : cX3_placeOf.data.toList.drop 22 = dktX3_placeOf_1 := dk_seg dksX3_placeOf_0 22 rfl rfl
theorem dX3_placeOf_0 : decode cX3_placeOf 0 = .ok (.iconst 0, 1) := dk_3 (dk_at dksX3_placeOf_0 0 rfl rfl)
theorem dX3_placeOf_1 : decode cX3_placeOf 1 = .ok (.istore_n 2, 1) := dk_61 (dk_at dksX3_placeOf_0 1 rfl rfl)
theorem dX3_placeOf_2 : decode cX3_placeOf 2 = .ok (.aload_n 0, 1) := dk_42 (dk_at dksX3_placeOf_0 2 rfl rfl)
theorem dX3_placeOf_3 : decode cX3_placeOf 3 = .ok (.getfield 9, 3) := dk_180 0 9 (dk_at dksX3_placeOf_0 3 rfl rfl)
theorem dX3_placeOf_6 : decode cX3_placeOf 6 = .ok (.bipush 12, 2) := dk_16 12 (dk_at dksX3_placeOf_0 6 rfl rfl)
theorem dX3_placeOf_8 : decode cX3_placeOf 8 = .ok (.aload_n 0, 1) := dk_42 (dk_at dksX3_placeOf_0 8 rfl rfl)
theorem dX3_placeOf_9 : decode cX3_placeOf 9 = .ok (.getfield 19, 3) := dk_180 0 19 (dk_at dksX3_placeOf_0 9 rfl rfl)
theorem dX3_placeOf_12 : decode cX3_placeOf 12 = .ok (.iload_n 1, 1) := dk_27 (dk_at dksX3_placeOf_0 12 rfl rfl)
theorem dX3_placeOf_13 : decode cX3_placeOf 13 = .ok (.iaload, 1) := dk_46 (dk_at dksX3_placeOf_0 13 rfl rfl)
theorem dX3_placeOf_14 : decode cX3_placeOf 14 = .ok (.imul, 1) := dk_104 (dk_at dksX3_placeOf_0 14 rfl rfl)
theorem dX3_placeOf_15 : decode cX3_placeOf 15 = .ok (.iload_n 2, 1) := dk_28 (dk_at dksX3_placeOf_0 15 rfl rfl)
theorem dX3_placeOf_16 : decode cX3_placeOf 16 = .ok (.iadd, 1) := dk_96 (dk_at dksX3_placeOf_0 16 rfl rfl)
theorem dX3_placeOf_17 : decode cX3_placeOf 17 = .ok (.iaload, 1) := dk_46 (dk_at dksX3_placeOf_0 17 rfl rfl)
theorem dX3_placeOf_18 : decode cX3_placeOf 18 = .ok (.iload_n 1, 1) := dk_27 (dk_at dksX3_placeOf_0 18 rfl rfl)
theorem dX3_placeOf_19 : decode cX3_placeOf 19 = .ok (.if_icmp .eq 9, 3) := dk_159 0 9 (dk_at dksX3_placeOf_0 19 rfl rfl)
theorem dX3_placeOf_22 : decode cX3_placeOf 22 = .ok (.iinc 2 1, 3) := dk_132 2 1 (dk_at dksX3_placeOf_1 0 rfl rfl)
theorem dX3_placeOf_25 : decode cX3_placeOf 25 = .ok (.goto (-23), 3) := dk_167 255 233 (dk_at dksX3_placeOf_1 3 rfl rfl)
theorem dX3_placeOf_28 : decode cX3_placeOf 28 = .ok (.iload_n 2, 1) := dk_28 (dk_at dksX3_placeOf_1 6 rfl rfl)
theorem dX3_placeOf_29 : decode cX3_placeOf 29 = .ok (.ireturn, 1) := dk_172 (dk_at dksX3_placeOf_1 7 rfl rfl)
abbrev cX3_order : ByteArray := prog_20_method_21_code
def yX3_order : MethodName := ⟨RX3, "order", "(II)I"⟩
def dkwX3_order_6 : List UInt8 := [21, 4, 172]
abbrev dktX3_order_6 : List UInt8 := dkwX3_order_6 ++ []
def dkwX3_order_5 : List UInt8 := [180, 0, 9, 16, 12, 21, 5, 104, 28, 96, 27, 79, 42, 180, 0, 13, 21, 5, 92, 46, 4, 96, 79]
abbrev dktX3_order_5 : List UInt8 := dkwX3_order_5 ++ dktX3_order_6
def dkwX3_order_4 : List UInt8 := [180, 0, 9, 16, 12, 21, 5, 104, 21, 6, 96, 4, 100, 46, 79, 132, 6, 255, 167, 255, 219, 42]
abbrev dktX3_order_4 : List UInt8 := dkwX3_order_4 ++ dktX3_order_5
def dkwX3_order_3 : List UInt8 := [21, 5, 46, 54, 6, 21, 6, 28, 164, 0, 37, 42, 180, 0, 9, 16, 12, 21, 5, 104, 21, 6, 96, 42]
abbrev dktX3_order_3 : List UInt8 := dkwX3_order_3 ++ dktX3_order_4
def dkwX3_order_2 : List UInt8 := [27, 182, 0, 126, 54, 4, 42, 180, 0, 19, 27, 46, 54, 5, 42, 27, 182, 0, 130, 42, 180, 0, 13]
abbrev dktX3_order_2 : List UInt8 := dkwX3_order_2 ++ dktX3_order_3
def dkwX3_order_1 : List UInt8 := [46, 4, 100, 184, 0, 96, 153, 0, 7, 4, 167, 0, 4, 3, 4, 182, 0, 100, 154, 0, 5, 3, 172, 42]
abbrev dktX3_order_1 : List UInt8 := dkwX3_order_1 ++ dktX3_order_2
def dkwX3_order_0 : List UInt8 := [42, 27, 182, 0, 116, 62, 42, 29, 29, 153, 0, 28, 28, 3, 42, 180, 0, 13, 42, 180, 0, 19, 27, 46]
abbrev dktX3_order_0 : List UInt8 := dkwX3_order_0 ++ dktX3_order_1
theorem dksX3_order_0 : cX3_order.data.toList.drop 0 = dktX3_order_0 := by decide +kernel
theorem dksX3_order_1 : cX3_order.data.toList.drop 24 = dktX3_order_1 := dk_seg dksX3_order_0 24 rfl rfl
theorem dksX3_order_2 : cX3_order.data.toList.drop 48 = dktX3_order_2 := dk_seg dksX3_order_1 24 rfl rfl
theorem dksX3_order_3 : cX3_order.data.toList.drop 71 = dktX3_order_3 := dk_seg dksX3_order_2 23 rfl rfl
theorem dksX3_order_4 : cX3_order.data.toList.drop 95 = dktX3_order_4 := dk_seg dksX3_order_3 24 rfl rfl
theorem dksX3_order_5 : cX3_order.data.toList.drop 117 = dktX3_order_5 := dk_seg dksX3_order_4 22 rfl rfl
theorem dksX3_order_6 : cX3_order.data.toList.drop 140 = dktX3_order_6 := dk_seg dksX3_order_5 23 rfl rfl
theorem dX3_order_0 : decode cX3_order 0 = .ok (.aload_n 0, 1) := dk_42 (dk_at dksX3_order_0 0 rfl rfl)
theorem dX3_order_1 : decode cX3_order 1 = .ok (.iload_n 1, 1) := dk_27 (dk_at dksX3_order_0 1 rfl rfl)
theorem dX3_order_2 : decode cX3_order 2 = .ok (.invokevirtual 116, 3) := dk_182 0 116 (dk_at dksX3_order_0 2 rfl rfl)
theorem dX3_order_5 : decode cX3_order 5 = .ok (.istore_n 3, 1) := dk_62 (dk_at dksX3_order_0 5 rfl rfl)
theorem dX3_order_6 : decode cX3_order 6 = .ok (.aload_n 0, 1) := dk_42 (dk_at dksX3_order_0 6 rfl rfl)
theorem dX3_order_7 : decode cX3_order 7 = .ok (.iload_n 3, 1) := dk_29 (dk_at dksX3_order_0 7 rfl rfl)
theorem dX3_order_8 : decode cX3_order 8 = .ok (.iload_n 3, 1) := dk_29 (dk_at dksX3_order_0 8 rfl rfl)
theorem dX3_order_9 : decode cX3_order 9 = .ok (.ifCond .eq 28, 3) := dk_153 0 28 (dk_at dksX3_order_0 9 rfl rfl)
theorem dX3_order_12 : decode cX3_order 12 = .ok (.iload_n 2, 1) := dk_28 (dk_at dksX3_order_0 12 rfl rfl)
theorem dX3_order_13 : decode cX3_order 13 = .ok (.iconst 0, 1) := dk_3 (dk_at dksX3_order_0 13 rfl rfl)
theorem dX3_order_14 : decode cX3_order 14 = .ok (.aload_n 0, 1) := dk_42 (dk_at dksX3_order_0 14 rfl rfl)
theorem dX3_order_15 : decode cX3_order 15 = .ok (.getfield 13, 3) := dk_180 0 13 (dk_at dksX3_order_0 15 rfl rfl)
theorem dX3_order_18 : decode cX3_order 18 = .ok (.aload_n 0, 1) := dk_42 (dk_at dksX3_order_0 18 rfl rfl)
theorem dX3_order_19 : decode cX3_order 19 = .ok (.getfield 19, 3) := dk_180 0 19 (dk_at dksX3_order_0 19 rfl rfl)
theorem dX3_order_22 : decode cX3_order 22 = .ok (.iload_n 1, 1) := dk_27 (dk_at dksX3_order_0 22 rfl rfl)
theorem dX3_order_23 : decode cX3_order 23 = .ok (.iaload, 1) := dk_46 (dk_at dksX3_order_0 23 rfl rfl)
theorem dX3_order_24 : decode cX3_order 24 = .ok (.iaload, 1) := dk_46 (dk_at dksX3_order_1 0 rfl rfl)
theorem dX3_order_25 : decode cX3_order 25 = .ok (.iconst 1, 1) := dk_4 (dk_at dksX3_order_1 1 rfl rfl)
theorem dX3_order_26 : decode cX3_order 26 = .ok (.isub, 1) := dk_100 (dk_at dksX3_order_1 2 rfl rfl)
theorem dX3_order_27 : decode cX3_order 27 = .ok (.invokestatic 96, 3) := dk_184 0 96 (dk_at dksX3_order_1 3 rfl rfl)
theorem dX3_order_30 : decode cX3_order 30 = .ok (.ifCond .eq 7, 3) := dk_153 0 7 (dk_at dksX3_order_1 6 rfl rfl)
theorem dX3_order_33 : decode cX3_order 33 = .ok (.iconst 1, 1) := dk_4 (dk_at dksX3_order_1 9 rfl rfl)
theorem dX3_order_34 : decode cX3_order 34 = .ok (.goto 4, 3) := dk_167 0 4 (dk_at dksX3_order_1 10 rfl rfl)
theorem dX3_order_37 : decode cX3_order 37 = .ok (.iconst 0, 1) := dk_3 (dk_at dksX3_order_1 13 rfl rfl)
theorem dX3_order_38 : decode cX3_order 38 = .ok (.iconst 1, 1) := dk_4 (dk_at dksX3_order_1 14 rfl rfl)
theorem dX3_order_39 : decode cX3_order 39 = .ok (.invokevirtual 100, 3) := dk_182 0 100 (dk_at dksX3_order_1 15 rfl rfl)
theorem dX3_order_42 : decode cX3_order 42 = .ok (.ifCond .ne 5, 3) := dk_154 0 5 (dk_at dksX3_order_1 18 rfl rfl)
theorem dX3_order_45 : decode cX3_order 45 = .ok (.iconst 0, 1) := dk_3 (dk_at dksX3_order_1 21 rfl rfl)
theorem dX3_order_46 : decode cX3_order 46 = .ok (.ireturn, 1) := dk_172 (dk_at dksX3_order_1 22 rfl rfl)
theorem dX3_order_47 : decode cX3_order 47 = .ok (.aload_n 0, 1) := dk_42 (dk_at dksX3_order_1 23 rfl rfl)
theorem dX3_order_48 : decode cX3_order 48 = .ok (.iload_n 1, 1) := dk_27 (dk_at dksX3_order_2 0 rfl rfl)
theorem dX3_order_49 : decode cX3_order 49 = .ok (.invokevirtual 126, 3) := dk_182 0 126 (dk_at dksX3_order_2 1 rfl rfl)
theorem dX3_order_52 : decode cX3_order 52 = .ok (.istore 4, 2) := dk_54 4 (dk_at dksX3_order_2 4 rfl rfl)
theorem dX3_order_54 : decode cX3_order 54 = .ok (.aload_n 0, 1) := dk_42 (dk_at dksX3_order_2 6 rfl rfl)
theorem dX3_order_55 : decode cX3_order 55 = .ok (.getfield 19, 3) := dk_180 0 19 (dk_at dksX3_order_2 7 rfl rfl)
theorem dX3_order_58 : decode cX3_order 58 = .ok (.iload_n 1, 1) := dk_27 (dk_at dksX3_order_2 10 rfl rfl)
theorem dX3_order_59 : decode cX3_order 59 = .ok (.iaload, 1) := dk_46 (dk_at dksX3_order_2 11 rfl rfl)
theorem dX3_order_60 : decode cX3_order 60 = .ok (.istore 5, 2) := dk_54 5 (dk_at dksX3_order_2 12 rfl rfl)
theorem dX3_order_62 : decode cX3_order 62 = .ok (.aload_n 0, 1) := dk_42 (dk_at dksX3_order_2 14 rfl rfl)
theorem dX3_order_63 : decode cX3_order 63 = .ok (.iload_n 1, 1) := dk_27 (dk_at dksX3_order_2 15 rfl rfl)
theorem dX3_order_64 : decode cX3_order 64 = .ok (.invokevirtual 130, 3) := dk_182 0 130 (dk_at dksX3_order_2 16 rfl rfl)
theorem dX3_order_67 : decode cX3_order 67 = .ok (.aload_n 0, 1) := dk_42 (dk_at dksX3_order_2 19 rfl rfl)
theorem dX3_order_68 : decode cX3_order 68 = .ok (.getfield 13, 3) := dk_180 0 13 (dk_at dksX3_order_2 20 rfl rfl)
theorem dX3_order_71 : decode cX3_order 71 = .ok (.iload 5, 2) := dk_21 5 (dk_at dksX3_order_3 0 rfl rfl)
theorem dX3_order_73 : decode cX3_order 73 = .ok (.iaload, 1) := dk_46 (dk_at dksX3_order_3 2 rfl rfl)
theorem dX3_order_74 : decode cX3_order 74 = .ok (.istore 6, 2) := dk_54 6 (dk_at dksX3_order_3 3 rfl rfl)
theorem dX3_order_76 : decode cX3_order 76 = .ok (.iload 6, 2) := dk_21 6 (dk_at dksX3_order_3 5 rfl rfl)
theorem dX3_order_78 : decode cX3_order 78 = .ok (.iload_n 2, 1) := dk_28 (dk_at dksX3_order_3 7 rfl rfl)
theorem dX3_order_79 : decode cX3_order 79 = .ok (.if_icmp .le 37, 3) := dk_164 0 37 (dk_at dksX3_order_3 8 rfl rfl)
theorem dX3_order_82 : decode cX3_order 82 = .ok (.aload_n 0, 1) := dk_42 (dk_at dksX3_order_3 11 rfl rfl)
theorem dX3_order_83 : decode cX3_order 83 = .ok (.getfield 9, 3) := dk_180 0 9 (dk_at dksX3_order_3 12 rfl rfl)
theorem dX3_order_86 : decode cX3_order 86 = .ok (.bipush 12, 2) := dk_16 12 (dk_at dksX3_order_3 15 rfl rfl)
theorem dX3_order_88 : decode cX3_order 88 = .ok (.iload 5, 2) := dk_21 5 (dk_at dksX3_order_3 17 rfl rfl)
theorem dX3_order_90 : decode cX3_order 90 = .ok (.imul, 1) := dk_104 (dk_at dksX3_order_3 19 rfl rfl)
theorem dX3_order_91 : decode cX3_order 91 = .ok (.iload 6, 2) := dk_21 6 (dk_at dksX3_order_3 20 rfl rfl)
theorem dX3_order_93 : decode cX3_order 93 = .ok (.iadd, 1) := dk_96 (dk_at dksX3_order_3 22 rfl rfl)
theorem dX3_order_94 : decode cX3_order 94 = .ok (.aload_n 0, 1) := dk_42 (dk_at dksX3_order_3 23 rfl rfl)
theorem dX3_order_95 : decode cX3_order 95 = .ok (.getfield 9, 3) := dk_180 0 9 (dk_at dksX3_order_4 0 rfl rfl)
theorem dX3_order_98 : decode cX3_order 98 = .ok (.bipush 12, 2) := dk_16 12 (dk_at dksX3_order_4 3 rfl rfl)
theorem dX3_order_100 : decode cX3_order 100 = .ok (.iload 5, 2) := dk_21 5 (dk_at dksX3_order_4 5 rfl rfl)
theorem dX3_order_102 : decode cX3_order 102 = .ok (.imul, 1) := dk_104 (dk_at dksX3_order_4 7 rfl rfl)
theorem dX3_order_103 : decode cX3_order 103 = .ok (.iload 6, 2) := dk_21 6 (dk_at dksX3_order_4 8 rfl rfl)
theorem dX3_order_105 : decode cX3_order 105 = .ok (.iadd, 1) := dk_96 (dk_at dksX3_order_4 10 rfl rfl)
theorem dX3_order_106 : decode cX3_order 106 = .ok (.iconst 1, 1) := dk_4 (dk_at dksX3_order_4 11 rfl rfl)
theorem dX3_order_107 : decode cX3_order 107 = .ok (.isub, 1) := dk_100 (dk_at dksX3_order_4 12 rfl rfl)
theorem dX3_order_108 : decode cX3_order 108 = .ok (.iaload, 1) := dk_46 (dk_at dksX3_order_4 13 rfl rfl)
theorem dX3_order_109 : decode cX3_order 109 = .ok (.iastore, 1) := dk_79 (dk_at dksX3_order_4 14 rfl rfl)
theorem dX3_order_110 : decode cX3_order 110 = .ok (.iinc 6 (-1), 3) := dk_132 6 255 (dk_at dksX3_order_4 15 rfl rfl)
theorem dX3_order_113 : decode cX3_order 113 = .ok (.goto (-37), 3) := dk_167 255 219 (dk_at dksX3_order_4 18 rfl rfl)
theorem dX3_order_116 : decode cX3_order 116 = .ok (.aload_n 0, 1) := dk_42 (dk_at dksX3_order_4 21 rfl rfl)
theorem dX3_order_117 : decode cX3_order 117 = .ok (.getfield 9, 3) := dk_180 0 9 (dk_at dksX3_order_5 0 rfl rfl)
theorem dX3_order_120 : decode cX3_order 120 = .ok (.bipush 12, 2) := dk_16 12 (dk_at dksX3_order_5 3 rfl rfl)
theorem dX3_order_122 : decode cX3_order 122 = .ok (.iload 5, 2) := dk_21 5 (dk_at dksX3_order_5 5 rfl rfl)
theorem dX3_order_124 : decode cX3_order 124 = .ok (.imul, 1) := dk_104 (dk_at dksX3_order_5 7 rfl rfl)
theorem dX3_order_125 : decode cX3_order 125 = .ok (.iload_n 2, 1) := dk_28 (dk_at dksX3_order_5 8 rfl rfl)
theorem dX3_order_126 : decode cX3_order 126 = .ok (.iadd, 1) := dk_96 (dk_at dksX3_order_5 9 rfl rfl)
theorem dX3_order_127 : decode cX3_order 127 = .ok (.iload_n 1, 1) := dk_27 (dk_at dksX3_order_5 10 rfl rfl)
theorem dX3_order_128 : decode cX3_order 128 = .ok (.iastore, 1) := dk_79 (dk_at dksX3_order_5 11 rfl rfl)
theorem dX3_order_129 : decode cX3_order 129 = .ok (.aload_n 0, 1) := dk_42 (dk_at dksX3_order_5 12 rfl rfl)
theorem dX3_order_130 : decode cX3_order 130 = .ok (.getfield 13, 3) := dk_180 0 13 (dk_at dksX3_order_5 13 rfl rfl)
theorem dX3_order_133 : decode cX3_order 133 = .ok (.iload 5, 2) := dk_21 5 (dk_at dksX3_order_5 16 rfl rfl)
theorem dX3_order_135 : decode cX3_order 135 = .ok (.dup2, 1) := dk_92 (dk_at dksX3_order_5 18 rfl rfl)
theorem dX3_order_136 : decode cX3_order 136 = .ok (.iaload, 1) := dk_46 (dk_at dksX3_order_5 19 rfl rfl)
theorem dX3_order_137 : decode cX3_order 137 = .ok (.iconst 1, 1) := dk_4 (dk_at dksX3_order_5 20 rfl rfl)
theorem dX3_order_138 : decode cX3_order 138 = .ok (.iadd, 1) := dk_96 (dk_at dksX3_order_5 21 rfl rfl)
theorem dX3_order_139 : decode cX3_order 139 = .ok (.iastore, 1) := dk_79 (dk_at dksX3_order_5 22 rfl rfl)
theorem dX3_order_140 : decode cX3_order 140 = .ok (.iload 4, 2) := dk_21 4 (dk_at dksX3_order_6 0 rfl rfl)
theorem dX3_order_142 : decode cX3_order 142 = .ok (.ireturn, 1) := dk_172 (dk_at dksX3_order_6 2 rfl rfl)
abbrev cX3_setParent : ByteArray := prog_20_method_23_code
def yX3_setParent : MethodName := ⟨RX3, "setParent", "(II)I"⟩
def dkwX3_setParent_4 : List UInt8 := [28, 79, 21, 5, 172]
abbrev dktX3_setParent_4 : List UInt8 := dkwX3_setParent_4 ++ []
def dkwX3_setParent_3 : List UInt8 := [21, 4, 4, 182, 0, 100, 154, 0, 5, 3, 172, 42, 180, 0, 31, 27, 46, 54, 5, 42, 180, 0, 31, 27]
abbrev dktX3_setParent_3 : List UInt8 := dkwX3_setParent_3 ++ dktX3_setParent_4
def dkwX3_setParent_2 : List UInt8 := [27, 46, 160, 0, 16, 42, 27, 28, 182, 0, 134, 154, 0, 7, 4, 167, 0, 4, 3, 54, 4, 42, 29]
abbrev dktX3_setParent_2 : List UInt8 := dkwX3_setParent_2 ++ dktX3_setParent_3
def dkwX3_setParent_1 : List UInt8 := [167, 0, 4, 3, 62, 29, 153, 0, 36, 28, 2, 159, 0, 27, 42, 180, 0, 19, 28, 46, 42, 180, 0, 19]
abbrev dktX3_setParent_1 : List UInt8 := dkwX3_setParent_1 ++ dktX3_setParent_2
def dkwX3_setParent_0 : List UInt8 := [42, 27, 182, 0, 116, 153, 0, 20, 28, 2, 159, 0, 11, 42, 28, 182, 0, 116, 153, 0, 7, 4]
abbrev dktX3_setParent_0 : List UInt8 := dkwX3_setParent_0 ++ dktX3_setParent_1
theorem dksX3_setParent_0 : cX3_setParent.data.toList.drop 0 = dktX3_setParent_0 := by decide +kernel
theorem dksX3_setParent_1 : cX3_setParent.data.toList.drop 22 = dktX3_setParent_1 := dk_seg dksX3_setParent_0 22 rfl rfl
theorem dksX3_setParent_2 : cX3_setParent.data.toList.drop 46 = dktX3_setParent_2 := dk_seg dksX3_setParent_1 24 rfl rfl
theorem dksX3_setParent_3 : cX3_setParent.data.toList.drop 69 = dktX3_setParent_3 := dk_seg dksX3_setParent_2 23 rfl rfl
theorem dksX3_setParent_4 : cX3_setParent.data.toList.drop 93 = dktX3_setParent_4 := dk_seg dksX3_setParent_3 24 rfl rfl
theorem dX3_setParent_0 : decode cX3_setParent 0 = .ok (.aload_n 0, 1) := dk_42 (dk_at dksX3_setParent_0 0 rfl rfl)
theorem dX3_setParent_1 : decode cX3_setParent 1 = .ok (.iload_n 1, 1) := dk_27 (dk_at dksX3_setParent_0 1 rfl rfl)
theorem dX3_setParent_2 : decode cX3_setParent 2 = .ok (.invokevirtual 116, 3) := dk_182 0 116 (dk_at dksX3_setParent_0 2 rfl rfl)
theorem dX3_setParent_5 : decode cX3_setParent 5 = .ok (.ifCond .eq 20, 3) := dk_153 0 20 (dk_at dksX3_setParent_0 5 rfl rfl)
theorem dX3_setParent_8 : decode cX3_setParent 8 = .ok (.iload_n 2, 1) := dk_28 (dk_at dksX3_setParent_0 8 rfl rfl)
theorem dX3_setParent_9 : decode cX3_setParent 9 = .ok (.iconst (-1), 1) := dk_2 (dk_at dksX3_setParent_0 9 rfl rfl)
theorem dX3_setParent_10 : decode cX3_setParent 10 = .ok (.if_icmp .eq 11, 3) := dk_159 0 11 (dk_at dksX3_setParent_0 10 rfl rfl)
theorem dX3_setParent_13 : decode cX3_setParent 13 = .ok (.aload_n 0, 1) := dk_42 (dk_at dksX3_setParent_0 13 rfl rfl)
theorem dX3_setParent_14 : decode cX3_setParent 14 = .ok (.iload_n 2, 1) := dk_28 (dk_at dksX3_setParent_0 14 rfl rfl)
theorem dX3_setParent_15 : decode cX3_setParent 15 = .ok (.invokevirtual 116, 3) := dk_182 0 116 (dk_at dksX3_setParent_0 15 rfl rfl)
theorem dX3_setParent_18 : decode cX3_setParent 18 = .ok (.ifCond .eq 7, 3) := dk_153 0 7 (dk_at dksX3_setParent_0 18 rfl rfl)
theorem dX3_setParent_21 : decode cX3_setParent 21 = .ok (.iconst 1, 1) := dk_4 (dk_at dksX3_setParent_0 21 rfl rfl)
theorem dX3_setParent_22 : decode cX3_setParent 22 = .ok (.goto 4, 3) := dk_167 0 4 (dk_at dksX3_setParent_1 0 rfl rfl)
theorem dX3_setParent_25 : decode cX3_setParent 25 = .ok (.iconst 0, 1) := dk_3 (dk_at dksX3_setParent_1 3 rfl rfl)
theorem dX3_setParent_26 : decode cX3_setParent 26 = .ok (.istore_n 3, 1) := dk_62 (dk_at dksX3_setParent_1 4 rfl rfl)
theorem dX3_setParent_27 : decode cX3_setParent 27 = .ok (.iload_n 3, 1) := dk_29 (dk_at dksX3_setParent_1 5 rfl rfl)
theorem dX3_setParent_28 : decode cX3_setParent 28 = .ok (.ifCond .eq 36, 3) := dk_153 0 36 (dk_at dksX3_setParent_1 6 rfl rfl)
theorem dX3_setParent_31 : decode cX3_setParent 31 = .ok (.iload_n 2, 1) := dk_28 (dk_at dksX3_setParent_1 9 rfl rfl)
theorem dX3_setParent_32 : decode cX3_setParent 32 = .ok (.iconst (-1), 1) := dk_2 (dk_at dksX3_setParent_1 10 rfl rfl)
theorem dX3_setParent_33 : decode cX3_setParent 33 = .ok (.if_icmp .eq 27, 3) := dk_159 0 27 (dk_at dksX3_setParent_1 11 rfl rfl)
theorem dX3_setParent_36 : decode cX3_setParent 36 = .ok (.aload_n 0, 1) := dk_42 (dk_at dksX3_setParent_1 14 rfl rfl)
theorem dX3_setParent_37 : decode cX3_setParent 37 = .ok (.getfield 19, 3) := dk_180 0 19 (dk_at dksX3_setParent_1 15 rfl rfl)
theorem dX3_setParent_40 : decode cX3_setParent 40 = .ok (.iload_n 2, 1) := dk_28 (dk_at dksX3_setParent_1 18 rfl rfl)
theorem dX3_setParent_41 : decode cX3_setParent 41 = .ok (.iaload, 1) := dk_46 (dk_at dksX3_setParent_1 19 rfl rfl)
theorem dX3_setParent_42 : decode cX3_setParent 42 = .ok (.aload_n 0, 1) := dk_42 (dk_at dksX3_setParent_1 20 rfl rfl)
theorem dX3_setParent_43 : decode cX3_setParent 43 = .ok (.getfield 19, 3) := dk_180 0 19 (dk_at dksX3_setParent_1 21 rfl rfl)
theorem dX3_setParent_46 : decode cX3_setParent 46 = .ok (.iload_n 1, 1) := dk_27 (dk_at dksX3_setParent_2 0 rfl rfl)
theorem dX3_setParent_47 : decode cX3_setParent 47 = .ok (.iaload, 1) := dk_46 (dk_at dksX3_setParent_2 1 rfl rfl)
theorem dX3_setParent_48 : decode cX3_setParent 48 = .ok (.if_icmp .ne 16, 3) := dk_160 0 16 (dk_at dksX3_setParent_2 2 rfl rfl)
theorem dX3_setParent_51 : decode cX3_setParent 51 = .ok (.aload_n 0, 1) := dk_42 (dk_at dksX3_setParent_2 5 rfl rfl)
theorem dX3_setParent_52 : decode cX3_setParent 52 = .ok (.iload_n 1, 1) := dk_27 (dk_at dksX3_setParent_2 6 rfl rfl)
theorem dX3_setParent_53 : decode cX3_setParent 53 = .ok (.iload_n 2, 1) := dk_28 (dk_at dksX3_setParent_2 7 rfl rfl)
theorem dX3_setParent_54 : decode cX3_setParent 54 = .ok (.invokevirtual 134, 3) := dk_182 0 134 (dk_at dksX3_setParent_2 8 rfl rfl)
theorem dX3_setParent_57 : decode cX3_setParent 57 = .ok (.ifCond .ne 7, 3) := dk_154 0 7 (dk_at dksX3_setParent_2 11 rfl rfl)
theorem dX3_setParent_60 : decode cX3_setParent 60 = .ok (.iconst 1, 1) := dk_4 (dk_at dksX3_setParent_2 14 rfl rfl)
theorem dX3_setParent_61 : decode cX3_setParent 61 = .ok (.goto 4, 3) := dk_167 0 4 (dk_at dksX3_setParent_2 15 rfl rfl)
theorem dX3_setParent_64 : decode cX3_setParent 64 = .ok (.iconst 0, 1) := dk_3 (dk_at dksX3_setParent_2 18 rfl rfl)
theorem dX3_setParent_65 : decode cX3_setParent 65 = .ok (.istore 4, 2) := dk_54 4 (dk_at dksX3_setParent_2 19 rfl rfl)
theorem dX3_setParent_67 : decode cX3_setParent 67 = .ok (.aload_n 0, 1) := dk_42 (dk_at dksX3_setParent_2 21 rfl rfl)
theorem dX3_setParent_68 : decode cX3_setParent 68 = .ok (.iload_n 3, 1) := dk_29 (dk_at dksX3_setParent_2 22 rfl rfl)
theorem dX3_setParent_69 : decode cX3_setParent 69 = .ok (.iload 4, 2) := dk_21 4 (dk_at dksX3_setParent_3 0 rfl rfl)
theorem dX3_setParent_71 : decode cX3_setParent 71 = .ok (.iconst 1, 1) := dk_4 (dk_at dksX3_setParent_3 2 rfl rfl)
theorem dX3_setParent_72 : decode cX3_setParent 72 = .ok (.invokevirtual 100, 3) := dk_182 0 100 (dk_at dksX3_setParent_3 3 rfl rfl)
theorem dX3_setParent_75 : decode cX3_setParent 75 = .ok (.ifCond .ne 5, 3) := dk_154 0 5 (dk_at dksX3_setParent_3 6 rfl rfl)
theorem dX3_setParent_78 : decode cX3_setParent 78 = .ok (.iconst 0, 1) := dk_3 (dk_at dksX3_setParent_3 9 rfl rfl)
theorem dX3_setParent_79 : decode cX3_setParent 79 = .ok (.ireturn, 1) := dk_172 (dk_at dksX3_setParent_3 10 rfl rfl)
theorem dX3_setParent_80 : decode cX3_setParent 80 = .ok (.aload_n 0, 1) := dk_42 (dk_at dksX3_setParent_3 11 rfl rfl)
theorem dX3_setParent_81 : decode cX3_setParent 81 = .ok (.getfield 31, 3) := dk_180 0 31 (dk_at dksX3_setParent_3 12 rfl rfl)
theorem dX3_setParent_84 : decode cX3_setParent 84 = .ok (.iload_n 1, 1) := dk_27 (dk_at dksX3_setParent_3 15 rfl rfl)
theorem dX3_setParent_85 : decode cX3_setParent 85 = .ok (.iaload, 1) := dk_46 (dk_at dksX3_setParent_3 16 rfl rfl)
theorem dX3_setParent_86 : decode cX3_setParent 86 = .ok (.istore 5, 2) := dk_54 5 (dk_at dksX3_setParent_3 17 rfl rfl)
theorem dX3_setParent_88 : decode cX3_setParent 88 = .ok (.aload_n 0, 1) := dk_42 (dk_at dksX3_setParent_3 19 rfl rfl)
theorem dX3_setParent_89 : decode cX3_setParent 89 = .ok (.getfield 31, 3) := dk_180 0 31 (dk_at dksX3_setParent_3 20 rfl rfl)
theorem dX3_setParent_92 : decode cX3_setParent 92 = .ok (.iload_n 1, 1) := dk_27 (dk_at dksX3_setParent_3 23 rfl rfl)
theorem dX3_setParent_93 : decode cX3_setParent 93 = .ok (.iload_n 2, 1) := dk_28 (dk_at dksX3_setParent_4 0 rfl rfl)
theorem dX3_setParent_94 : decode cX3_setParent 94 = .ok (.iastore, 1) := dk_79 (dk_at dksX3_setParent_4 1 rfl rfl)
theorem dX3_setParent_95 : decode cX3_setParent 95 = .ok (.iload 5, 2) := dk_21 5 (dk_at dksX3_setParent_4 2 rfl rfl)
theorem dX3_setParent_97 : decode cX3_setParent 97 = .ok (.ireturn, 1) := dk_172 (dk_at dksX3_setParent_4 4 rfl rfl)
abbrev cX3_isAbove : ByteArray := prog_20_method_22_code
def yX3_isAbove : MethodName := ⟨RX3, "isAbove", "(II)Z"⟩
def dkwX3_isAbove_1 : List UInt8 := [160, 0, 7, 4, 167, 0, 4, 3, 172]
abbrev dktX3_isAbove_1 : List UInt8 := dkwX3_isAbove_1 ++ []
def dkwX3_isAbove_0 : List UInt8 := [28, 62, 29, 2, 159, 0, 18, 29, 27, 159, 0, 13, 42, 180, 0, 31, 29, 46, 62, 167, 255, 239, 29, 27]
abbrev dktX3_isAbove_0 : List UInt8 := dkwX3_isAbove_0 ++ dktX3_isAbove_1
theorem dksX3_isAbove_0 : cX3_isAbove.data.toList.drop 0 = dktX3_isAbove_0 := by decide +kernel
theorem dksX3_isAbove_1 : cX3_isAbove.data.toList.drop 24 = dktX3_isAbove_1 := dk_seg dksX3_isAbove_0 24 rfl rfl
theorem dX3_isAbove_0 : decode cX3_isAbove 0 = .ok (.iload_n 2, 1) := dk_28 (dk_at dksX3_isAbove_0 0 rfl rfl)
theorem dX3_isAbove_1 : decode cX3_isAbove 1 = .ok (.istore_n 3, 1) := dk_62 (dk_at dksX3_isAbove_0 1 rfl rfl)
theorem dX3_isAbove_2 : decode cX3_isAbove 2 = .ok (.iload_n 3, 1) := dk_29 (dk_at dksX3_isAbove_0 2 rfl rfl)
theorem dX3_isAbove_3 : decode cX3_isAbove 3 = .ok (.iconst (-1), 1) := dk_2 (dk_at dksX3_isAbove_0 3 rfl rfl)
theorem dX3_isAbove_4 : decode cX3_isAbove 4 = .ok (.if_icmp .eq 18, 3) := dk_159 0 18 (dk_at dksX3_isAbove_0 4 rfl rfl)
theorem dX3_isAbove_7 : decode cX3_isAbove 7 = .ok (.iload_n 3, 1) := dk_29 (dk_at dksX3_isAbove_0 7 rfl rfl)
theorem dX3_isAbove_8 : decode cX3_isAbove 8 = .ok (.iload_n 1, 1) := dk_27 (dk_at dksX3_isAbove_0 8 rfl rfl)
theorem dX3_isAbove_9 : decode cX3_isAbove 9 = .ok (.if_icmp .eq 13, 3) := dk_159 0 13 (dk_at dksX3_isAbove_0 9 rfl rfl)
theorem dX3_isAbove_12 : decode cX3_isAbove 12 = .ok (.aload_n 0, 1) := dk_42 (dk_at dksX3_isAbove_0 12 rfl rfl)
theorem dX3_isAbove_13 : decode cX3_isAbove 13 = .ok (.getfield 31, 3) := dk_180 0 31 (dk_at dksX3_isAbove_0 13 rfl rfl)
theorem dX3_isAbove_16 : decode cX3_isAbove 16 = .ok (.iload_n 3, 1) := dk_29 (dk_at dksX3_isAbove_0 16 rfl rfl)
theorem dX3_isAbove_17 : decode cX3_isAbove 17 = .ok (.iaload, 1) := dk_46 (dk_at dksX3_isAbove_0 17 rfl rfl)
theorem dX3_isAbove_18 : decode cX3_isAbove 18 = .ok (.istore_n 3, 1) := dk_62 (dk_at dksX3_isAbove_0 18 rfl rfl)
theorem dX3_isAbove_19 : decode cX3_isAbove 19 = .ok (.goto (-17), 3) := dk_167 255 239 (dk_at dksX3_isAbove_0 19 rfl rfl)
theorem dX3_isAbove_22 : decode cX3_isAbove 22 = .ok (.iload_n 3, 1) := dk_29 (dk_at dksX3_isAbove_0 22 rfl rfl)
theorem dX3_isAbove_23 : decode cX3_isAbove 23 = .ok (.iload_n 1, 1) := dk_27 (dk_at dksX3_isAbove_0 23 rfl rfl)
theorem dX3_isAbove_24 : decode cX3_isAbove 24 = .ok (.if_icmp .ne 7, 3) := dk_160 0 7 (dk_at dksX3_isAbove_1 0 rfl rfl)
theorem dX3_isAbove_27 : decode cX3_isAbove 27 = .ok (.iconst 1, 1) := dk_4 (dk_at dksX3_isAbove_1 3 rfl rfl)
theorem dX3_isAbove_28 : decode cX3_isAbove 28 = .ok (.goto 4, 3) := dk_167 0 4 (dk_at dksX3_isAbove_1 4 rfl rfl)
theorem dX3_isAbove_31 : decode cX3_isAbove 31 = .ok (.iconst 0, 1) := dk_3 (dk_at dksX3_isAbove_1 7 rfl rfl)
theorem dX3_isAbove_32 : decode cX3_isAbove 32 = .ok (.ireturn, 1) := dk_172 (dk_at dksX3_isAbove_1 8 rfl rfl)
abbrev cX3_setMatte : ByteArray := prog_20_method_24_code
def yX3_setMatte : MethodName := ⟨RX3, "setMatte", "(IIZ)I"⟩
def dkwX3_setMatte_4 : List UInt8 := [28, 79, 42, 180, 0, 37, 27, 29, 84, 21, 6, 172]
abbrev dktX3_setMatte_4 : List UInt8 := dkwX3_setMatte_4 ++ []
def dkwX3_setMatte_3 : List UInt8 := [21, 5, 4, 182, 0, 100, 154, 0, 5, 3, 172, 42, 180, 0, 34, 27, 46, 54, 6, 42, 180, 0, 34, 27]
abbrev dktX3_setMatte_3 : List UInt8 := dkwX3_setMatte_3 ++ dktX3_setMatte_4
def dkwX3_setMatte_2 : List UInt8 := [180, 0, 19, 27, 46, 160, 0, 12, 28, 27, 159, 0, 7, 4, 167, 0, 4, 3, 54, 5, 42, 21, 4]
abbrev dktX3_setMatte_2 : List UInt8 := dkwX3_setMatte_2 ++ dktX3_setMatte_3
def dkwX3_setMatte_1 : List UInt8 := [167, 0, 4, 3, 54, 4, 21, 4, 153, 0, 32, 28, 2, 159, 0, 23, 42, 180, 0, 19, 28, 46, 42]
abbrev dktX3_setMatte_1 : List UInt8 := dkwX3_setMatte_1 ++ dktX3_setMatte_2
def dkwX3_setMatte_0 : List UInt8 := [42, 27, 182, 0, 116, 153, 0, 20, 28, 2, 159, 0, 11, 42, 28, 182, 0, 116, 153, 0, 7, 4]
abbrev dktX3_setMatte_0 : List UInt8 := dkwX3_setMatte_0 ++ dktX3_setMatte_1
theorem dksX3_setMatte_0 : cX3_setMatte.data.toList.drop 0 = dktX3_setMatte_0 := by decide +kernel
theorem dksX3_setMatte_1 : cX3_setMatte.data.toList.drop 22 = dktX3_setMatte_1 := dk_seg dksX3_setMatte_0 22 rfl rfl
theorem dksX3_setMatte_2 : cX3_setMatte.data.toList.drop 45 = dktX3_setMatte_2 := dk_seg dksX3_setMatte_1 23 rfl rfl
theorem dksX3_setMatte_3 : cX3_setMatte.data.toList.drop 68 = dktX3_setMatte_3 := dk_seg dksX3_setMatte_2 23 rfl rfl
theorem dksX3_setMatte_4 : cX3_setMatte.data.toList.drop 92 = dktX3_setMatte_4 := dk_seg dksX3_setMatte_3 24 rfl rfl
theorem dX3_setMatte_0 : decode cX3_setMatte 0 = .ok (.aload_n 0, 1) := dk_42 (dk_at dksX3_setMatte_0 0 rfl rfl)
theorem dX3_setMatte_1 : decode cX3_setMatte 1 = .ok (.iload_n 1, 1) := dk_27 (dk_at dksX3_setMatte_0 1 rfl rfl)
theorem dX3_setMatte_2 : decode cX3_setMatte 2 = .ok (.invokevirtual 116, 3) := dk_182 0 116 (dk_at dksX3_setMatte_0 2 rfl rfl)
theorem dX3_setMatte_5 : decode cX3_setMatte 5 = .ok (.ifCond .eq 20, 3) := dk_153 0 20 (dk_at dksX3_setMatte_0 5 rfl rfl)
theorem dX3_setMatte_8 : decode cX3_setMatte 8 = .ok (.iload_n 2, 1) := dk_28 (dk_at dksX3_setMatte_0 8 rfl rfl)
theorem dX3_setMatte_9 : decode cX3_setMatte 9 = .ok (.iconst (-1), 1) := dk_2 (dk_at dksX3_setMatte_0 9 rfl rfl)
theorem dX3_setMatte_10 : decode cX3_setMatte 10 = .ok (.if_icmp .eq 11, 3) := dk_159 0 11 (dk_at dksX3_setMatte_0 10 rfl rfl)
theorem dX3_setMatte_13 : decode cX3_setMatte 13 = .ok (.aload_n 0, 1) := dk_42 (dk_at dksX3_setMatte_0 13 rfl rfl)
theorem dX3_setMatte_14 : decode cX3_setMatte 14 = .ok (.iload_n 2, 1) := dk_28 (dk_at dksX3_setMatte_0 14 rfl rfl)
theorem dX3_setMatte_15 : decode cX3_setMatte 15 = .ok (.invokevirtual 116, 3) := dk_182 0 116 (dk_at dksX3_setMatte_0 15 rfl rfl)
theorem dX3_setMatte_18 : decode cX3_setMatte 18 = .ok (.ifCond .eq 7, 3) := dk_153 0 7 (dk_at dksX3_setMatte_0 18 rfl rfl)
theorem dX3_setMatte_21 : decode cX3_setMatte 21 = .ok (.iconst 1, 1) := dk_4 (dk_at dksX3_setMatte_0 21 rfl rfl)
theorem dX3_setMatte_22 : decode cX3_setMatte 22 = .ok (.goto 4, 3) := dk_167 0 4 (dk_at dksX3_setMatte_1 0 rfl rfl)
theorem dX3_setMatte_25 : decode cX3_setMatte 25 = .ok (.iconst 0, 1) := dk_3 (dk_at dksX3_setMatte_1 3 rfl rfl)
theorem dX3_setMatte_26 : decode cX3_setMatte 26 = .ok (.istore 4, 2) := dk_54 4 (dk_at dksX3_setMatte_1 4 rfl rfl)
theorem dX3_setMatte_28 : decode cX3_setMatte 28 = .ok (.iload 4, 2) := dk_21 4 (dk_at dksX3_setMatte_1 6 rfl rfl)
theorem dX3_setMatte_30 : decode cX3_setMatte 30 = .ok (.ifCond .eq 32, 3) := dk_153 0 32 (dk_at dksX3_setMatte_1 8 rfl rfl)
theorem dX3_setMatte_33 : decode cX3_setMatte 33 = .ok (.iload_n 2, 1) := dk_28 (dk_at dksX3_setMatte_1 11 rfl rfl)
theorem dX3_setMatte_34 : decode cX3_setMatte 34 = .ok (.iconst (-1), 1) := dk_2 (dk_at dksX3_setMatte_1 12 rfl rfl)
theorem dX3_setMatte_35 : decode cX3_setMatte 35 = .ok (.if_icmp .eq 23, 3) := dk_159 0 23 (dk_at dksX3_setMatte_1 13 rfl rfl)
theorem dX3_setMatte_38 : decode cX3_setMatte 38 = .ok (.aload_n 0, 1) := dk_42 (dk_at dksX3_setMatte_1 16 rfl rfl)
theorem dX3_setMatte_39 : decode cX3_setMatte 39 = .ok (.getfield 19, 3) := dk_180 0 19 (dk_at dksX3_setMatte_1 17 rfl rfl)
theorem dX3_setMatte_42 : decode cX3_setMatte 42 = .ok (.iload_n 2, 1) := dk_28 (dk_at dksX3_setMatte_1 20 rfl rfl)
theorem dX3_setMatte_43 : decode cX3_setMatte 43 = .ok (.iaload, 1) := dk_46 (dk_at dksX3_setMatte_1 21 rfl rfl)
theorem dX3_setMatte_44 : decode cX3_setMatte 44 = .ok (.aload_n 0, 1) := dk_42 (dk_at dksX3_setMatte_1 22 rfl rfl)
theorem dX3_setMatte_45 : decode cX3_setMatte 45 = .ok (.getfield 19, 3) := dk_180 0 19 (dk_at dksX3_setMatte_2 0 rfl rfl)
theorem dX3_setMatte_48 : decode cX3_setMatte 48 = .ok (.iload_n 1, 1) := dk_27 (dk_at dksX3_setMatte_2 3 rfl rfl)
theorem dX3_setMatte_49 : decode cX3_setMatte 49 = .ok (.iaload, 1) := dk_46 (dk_at dksX3_setMatte_2 4 rfl rfl)
theorem dX3_setMatte_50 : decode cX3_setMatte 50 = .ok (.if_icmp .ne 12, 3) := dk_160 0 12 (dk_at dksX3_setMatte_2 5 rfl rfl)
theorem dX3_setMatte_53 : decode cX3_setMatte 53 = .ok (.iload_n 2, 1) := dk_28 (dk_at dksX3_setMatte_2 8 rfl rfl)
theorem dX3_setMatte_54 : decode cX3_setMatte 54 = .ok (.iload_n 1, 1) := dk_27 (dk_at dksX3_setMatte_2 9 rfl rfl)
theorem dX3_setMatte_55 : decode cX3_setMatte 55 = .ok (.if_icmp .eq 7, 3) := dk_159 0 7 (dk_at dksX3_setMatte_2 10 rfl rfl)
theorem dX3_setMatte_58 : decode cX3_setMatte 58 = .ok (.iconst 1, 1) := dk_4 (dk_at dksX3_setMatte_2 13 rfl rfl)
theorem dX3_setMatte_59 : decode cX3_setMatte 59 = .ok (.goto 4, 3) := dk_167 0 4 (dk_at dksX3_setMatte_2 14 rfl rfl)
theorem dX3_setMatte_62 : decode cX3_setMatte 62 = .ok (.iconst 0, 1) := dk_3 (dk_at dksX3_setMatte_2 17 rfl rfl)
theorem dX3_setMatte_63 : decode cX3_setMatte 63 = .ok (.istore 5, 2) := dk_54 5 (dk_at dksX3_setMatte_2 18 rfl rfl)
theorem dX3_setMatte_65 : decode cX3_setMatte 65 = .ok (.aload_n 0, 1) := dk_42 (dk_at dksX3_setMatte_2 20 rfl rfl)
theorem dX3_setMatte_66 : decode cX3_setMatte 66 = .ok (.iload 4, 2) := dk_21 4 (dk_at dksX3_setMatte_2 21 rfl rfl)
theorem dX3_setMatte_68 : decode cX3_setMatte 68 = .ok (.iload 5, 2) := dk_21 5 (dk_at dksX3_setMatte_3 0 rfl rfl)
theorem dX3_setMatte_70 : decode cX3_setMatte 70 = .ok (.iconst 1, 1) := dk_4 (dk_at dksX3_setMatte_3 2 rfl rfl)
theorem dX3_setMatte_71 : decode cX3_setMatte 71 = .ok (.invokevirtual 100, 3) := dk_182 0 100 (dk_at dksX3_setMatte_3 3 rfl rfl)
theorem dX3_setMatte_74 : decode cX3_setMatte 74 = .ok (.ifCond .ne 5, 3) := dk_154 0 5 (dk_at dksX3_setMatte_3 6 rfl rfl)
theorem dX3_setMatte_77 : decode cX3_setMatte 77 = .ok (.iconst 0, 1) := dk_3 (dk_at dksX3_setMatte_3 9 rfl rfl)
theorem dX3_setMatte_78 : decode cX3_setMatte 78 = .ok (.ireturn, 1) := dk_172 (dk_at dksX3_setMatte_3 10 rfl rfl)
theorem dX3_setMatte_79 : decode cX3_setMatte 79 = .ok (.aload_n 0, 1) := dk_42 (dk_at dksX3_setMatte_3 11 rfl rfl)
theorem dX3_setMatte_80 : decode cX3_setMatte 80 = .ok (.getfield 34, 3) := dk_180 0 34 (dk_at dksX3_setMatte_3 12 rfl rfl)
theorem dX3_setMatte_83 : decode cX3_setMatte 83 = .ok (.iload_n 1, 1) := dk_27 (dk_at dksX3_setMatte_3 15 rfl rfl)
theorem dX3_setMatte_84 : decode cX3_setMatte 84 = .ok (.iaload, 1) := dk_46 (dk_at dksX3_setMatte_3 16 rfl rfl)
theorem dX3_setMatte_85 : decode cX3_setMatte 85 = .ok (.istore 6, 2) := dk_54 6 (dk_at dksX3_setMatte_3 17 rfl rfl)
theorem dX3_setMatte_87 : decode cX3_setMatte 87 = .ok (.aload_n 0, 1) := dk_42 (dk_at dksX3_setMatte_3 19 rfl rfl)
theorem dX3_setMatte_88 : decode cX3_setMatte 88 = .ok (.getfield 34, 3) := dk_180 0 34 (dk_at dksX3_setMatte_3 20 rfl rfl)
theorem dX3_setMatte_91 : decode cX3_setMatte 91 = .ok (.iload_n 1, 1) := dk_27 (dk_at dksX3_setMatte_3 23 rfl rfl)
theorem dX3_setMatte_92 : decode cX3_setMatte 92 = .ok (.iload_n 2, 1) := dk_28 (dk_at dksX3_setMatte_4 0 rfl rfl)
theorem dX3_setMatte_93 : decode cX3_setMatte 93 = .ok (.iastore, 1) := dk_79 (dk_at dksX3_setMatte_4 1 rfl rfl)
theorem dX3_setMatte_94 : decode cX3_setMatte 94 = .ok (.aload_n 0, 1) := dk_42 (dk_at dksX3_setMatte_4 2 rfl rfl)
theorem dX3_setMatte_95 : decode cX3_setMatte 95 = .ok (.getfield 37, 3) := dk_180 0 37 (dk_at dksX3_setMatte_4 3 rfl rfl)
theorem dX3_setMatte_98 : decode cX3_setMatte 98 = .ok (.iload_n 1, 1) := dk_27 (dk_at dksX3_setMatte_4 6 rfl rfl)
theorem dX3_setMatte_99 : decode cX3_setMatte 99 = .ok (.iload_n 3, 1) := dk_29 (dk_at dksX3_setMatte_4 7 rfl rfl)
theorem dX3_setMatte_100 : decode cX3_setMatte 100 = .ok (.bastore, 1) := dk_84 (dk_at dksX3_setMatte_4 8 rfl rfl)
theorem dX3_setMatte_101 : decode cX3_setMatte 101 = .ok (.iload 6, 2) := dk_21 6 (dk_at dksX3_setMatte_4 9 rfl rfl)
theorem dX3_setMatte_103 : decode cX3_setMatte 103 = .ok (.ireturn, 1) := dk_172 (dk_at dksX3_setMatte_4 11 rfl rfl)
abbrev cX3_setSpan : ByteArray := prog_20_method_26_code
def yX3_setSpan : MethodName := ⟨RX3, "setSpan", "(III)I"⟩
def dkwX3_setSpan_3 : List UInt8 := [172]
abbrev dktX3_setSpan_3 : List UInt8 := dkwX3_setSpan_3 ++ []
def dkwX3_setSpan_2 : List UInt8 := [180, 0, 41, 27, 46, 100, 54, 4, 42, 180, 0, 41, 27, 28, 79, 42, 180, 0, 44, 27, 29, 79, 21, 4]
abbrev dktX3_setSpan_2 : List UInt8 := dkwX3_setSpan_2 ++ dktX3_setSpan_3
def dkwX3_setSpan_1 : List UInt8 := [153, 0, 7, 4, 167, 0, 4, 3, 4, 182, 0, 100, 154, 0, 5, 3, 172, 42, 180, 0, 44, 27, 46, 42]
abbrev dktX3_setSpan_1 : List UInt8 := dkwX3_setSpan_1 ++ dktX3_setSpan_2
def dkwX3_setSpan_0 : List UInt8 := [42, 42, 27, 182, 0, 116, 28, 184, 0, 137, 153, 0, 20, 29, 28, 4, 96, 17, 3, 232, 184, 0, 96]
abbrev dktX3_setSpan_0 : List UInt8 := dkwX3_setSpan_0 ++ dktX3_setSpan_1
theorem dksX3_setSpan_0 : cX3_setSpan.data.toList.drop 0 = dktX3_setSpan_0 := by decide +kernel
theorem dksX3_setSpan_1 : cX3_setSpan.data.toList.drop 23 = dktX3_setSpan_1 := dk_seg dksX3_setSpan_0 23 rfl rfl
theorem dksX3_setSpan_2 : cX3_setSpan.data.toList.drop 47 = dktX3_setSpan_2 := dk_seg dksX3_setSpan_1 24 rfl rfl
theorem dksX3_setSpan_3 : cX3_setSpan.data.toList.drop 71 = dktX3_setSpan_3 := dk_seg dksX3_setSpan_2 24 rfl rfl
theorem dX3_setSpan_0 : decode cX3_setSpan 0 = .ok (.aload_n 0, 1) := dk_42 (dk_at dksX3_setSpan_0 0 rfl rfl)
theorem dX3_setSpan_1 : decode cX3_setSpan 1 = .ok (.aload_n 0, 1) := dk_42 (dk_at dksX3_setSpan_0 1 rfl rfl)
theorem dX3_setSpan_2 : decode cX3_setSpan 2 = .ok (.iload_n 1, 1) := dk_27 (dk_at dksX3_setSpan_0 2 rfl rfl)
theorem dX3_setSpan_3 : decode cX3_setSpan 3 = .ok (.invokevirtual 116, 3) := dk_182 0 116 (dk_at dksX3_setSpan_0 3 rfl rfl)
theorem dX3_setSpan_6 : decode cX3_setSpan 6 = .ok (.iload_n 2, 1) := dk_28 (dk_at dksX3_setSpan_0 6 rfl rfl)
theorem dX3_setSpan_7 : decode cX3_setSpan 7 = .ok (.invokestatic 137, 3) := dk_184 0 137 (dk_at dksX3_setSpan_0 7 rfl rfl)
theorem dX3_setSpan_10 : decode cX3_setSpan 10 = .ok (.ifCond .eq 20, 3) := dk_153 0 20 (dk_at dksX3_setSpan_0 10 rfl rfl)
theorem dX3_setSpan_13 : decode cX3_setSpan 13 = .ok (.iload_n 3, 1) := dk_29 (dk_at dksX3_setSpan_0 13 rfl rfl)
theorem dX3_setSpan_14 : decode cX3_setSpan 14 = .ok (.iload_n 2, 1) := dk_28 (dk_at dksX3_setSpan_0 14 rfl rfl)
theorem dX3_setSpan_15 : decode cX3_setSpan 15 = .ok (.iconst 1, 1) := dk_4 (dk_at dksX3_setSpan_0 15 rfl rfl)
theorem dX3_setSpan_16 : decode cX3_setSpan 16 = .ok (.iadd, 1) := dk_96 (dk_at dksX3_setSpan_0 16 rfl rfl)
theorem dX3_setSpan_17 : decode cX3_setSpan 17 = .ok (.sipush 1000, 3) := dk_17 3 232 (dk_at dksX3_setSpan_0 17 rfl rfl)
theorem dX3_setSpan_20 : decode cX3_setSpan 20 = .ok (.invokestatic 96, 3) := dk_184 0 96 (dk_at dksX3_setSpan_0 20 rfl rfl)
theorem dX3_setSpan_23 : decode cX3_setSpan 23 = .ok (.ifCond .eq 7, 3) := dk_153 0 7 (dk_at dksX3_setSpan_1 0 rfl rfl)
theorem dX3_setSpan_26 : decode cX3_setSpan 26 = .ok (.iconst 1, 1) := dk_4 (dk_at dksX3_setSpan_1 3 rfl rfl)
theorem dX3_setSpan_27 : decode cX3_setSpan 27 = .ok (.goto 4, 3) := dk_167 0 4 (dk_at dksX3_setSpan_1 4 rfl rfl)
theorem dX3_setSpan_30 : decode cX3_setSpan 30 = .ok (.iconst 0, 1) := dk_3 (dk_at dksX3_setSpan_1 7 rfl rfl)
theorem dX3_setSpan_31 : decode cX3_setSpan 31 = .ok (.iconst 1, 1) := dk_4 (dk_at dksX3_setSpan_1 8 rfl rfl)
theorem dX3_setSpan_32 : decode cX3_setSpan 32 = .ok (.invokevirtual 100, 3) := dk_182 0 100 (dk_at dksX3_setSpan_1 9 rfl rfl)
theorem dX3_setSpan_35 : decode cX3_setSpan 35 = .ok (.ifCond .ne 5, 3) := dk_154 0 5 (dk_at dksX3_setSpan_1 12 rfl rfl)
theorem dX3_setSpan_38 : decode cX3_setSpan 38 = .ok (.iconst 0, 1) := dk_3 (dk_at dksX3_setSpan_1 15 rfl rfl)
theorem dX3_setSpan_39 : decode cX3_setSpan 39 = .ok (.ireturn, 1) := dk_172 (dk_at dksX3_setSpan_1 16 rfl rfl)
theorem dX3_setSpan_40 : decode cX3_setSpan 40 = .ok (.aload_n 0, 1) := dk_42 (dk_at dksX3_setSpan_1 17 rfl rfl)
theorem dX3_setSpan_41 : decode cX3_setSpan 41 = .ok (.getfield 44, 3) := dk_180 0 44 (dk_at dksX3_setSpan_1 18 rfl rfl)
theorem dX3_setSpan_44 : decode cX3_setSpan 44 = .ok (.iload_n 1, 1) := dk_27 (dk_at dksX3_setSpan_1 21 rfl rfl)
theorem dX3_setSpan_45 : decode cX3_setSpan 45 = .ok (.iaload, 1) := dk_46 (dk_at dksX3_setSpan_1 22 rfl rfl)
theorem dX3_setSpan_46 : decode cX3_setSpan 46 = .ok (.aload_n 0, 1) := dk_42 (dk_at dksX3_setSpan_1 23 rfl rfl)
theorem dX3_setSpan_47 : decode cX3_setSpan 47 = .ok (.getfield 41, 3) := dk_180 0 41 (dk_at dksX3_setSpan_2 0 rfl rfl)
theorem dX3_setSpan_50 : decode cX3_setSpan 50 = .ok (.iload_n 1, 1) := dk_27 (dk_at dksX3_setSpan_2 3 rfl rfl)
theorem dX3_setSpan_51 : decode cX3_setSpan 51 = .ok (.iaload, 1) := dk_46 (dk_at dksX3_setSpan_2 4 rfl rfl)
theorem dX3_setSpan_52 : decode cX3_setSpan 52 = .ok (.isub, 1) := dk_100 (dk_at dksX3_setSpan_2 5 rfl rfl)
theorem dX3_setSpan_53 : decode cX3_setSpan 53 = .ok (.istore 4, 2) := dk_54 4 (dk_at dksX3_setSpan_2 6 rfl rfl)
theorem dX3_setSpan_55 : decode cX3_setSpan 55 = .ok (.aload_n 0, 1) := dk_42 (dk_at dksX3_setSpan_2 8 rfl rfl)
theorem dX3_setSpan_56 : decode cX3_setSpan 56 = .ok (.getfield 41, 3) := dk_180 0 41 (dk_at dksX3_setSpan_2 9 rfl rfl)
theorem dX3_setSpan_59 : decode cX3_setSpan 59 = .ok (.iload_n 1, 1) := dk_27 (dk_at dksX3_setSpan_2 12 rfl rfl)
theorem dX3_setSpan_60 : decode cX3_setSpan 60 = .ok (.iload_n 2, 1) := dk_28 (dk_at dksX3_setSpan_2 13 rfl rfl)
theorem dX3_setSpan_61 : decode cX3_setSpan 61 = .ok (.iastore, 1) := dk_79 (dk_at dksX3_setSpan_2 14 rfl rfl)
theorem dX3_setSpan_62 : decode cX3_setSpan 62 = .ok (.aload_n 0, 1) := dk_42 (dk_at dksX3_setSpan_2 15 rfl rfl)
theorem dX3_setSpan_63 : decode cX3_setSpan 63 = .ok (.getfield 44, 3) := dk_180 0 44 (dk_at dksX3_setSpan_2 16 rfl rfl)
theorem dX3_setSpan_66 : decode cX3_setSpan 66 = .ok (.iload_n 1, 1) := dk_27 (dk_at dksX3_setSpan_2 19 rfl rfl)
theorem dX3_setSpan_67 : decode cX3_setSpan 67 = .ok (.iload_n 3, 1) := dk_29 (dk_at dksX3_setSpan_2 20 rfl rfl)
theorem dX3_setSpan_68 : decode cX3_setSpan 68 = .ok (.iastore, 1) := dk_79 (dk_at dksX3_setSpan_2 21 rfl rfl)
theorem dX3_setSpan_69 : decode cX3_setSpan 69 = .ok (.iload 4, 2) := dk_21 4 (dk_at dksX3_setSpan_2 22 rfl rfl)
theorem dX3_setSpan_71 : decode cX3_setSpan 71 = .ok (.ireturn, 1) := dk_172 (dk_at dksX3_setSpan_3 0 rfl rfl)
abbrev cX3_isTime : ByteArray := prog_20_method_25_code
def yX3_isTime : MethodName := ⟨RX3, "isTime", "(I)Z"⟩
def dkwX3_isTime_0 : List UInt8 := [26, 3, 17, 3, 231, 184, 0, 96, 172]
abbrev dktX3_isTime_0 : List UInt8 := dkwX3_isTime_0 ++ []
theorem dksX3_isTime_0 : cX3_isTime.data.toList.drop 0 = dktX3_isTime_0 := by decide +kernel
theorem dX3_isTime_0 : decode cX3_isTime 0 = .ok (.iload_n 0, 1) := dk_26 (dk_at dksX3_isTime_0 0 rfl rfl)
theorem dX3_isTime_1 : decode cX3_isTime 1 = .ok (.iconst 0, 1) := dk_3 (dk_at dksX3_isTime_0 1 rfl rfl)
theorem dX3_isTime_2 : decode cX3_isTime 2 = .ok (.sipush 999, 3) := dk_17 3 231 (dk_at dksX3_isTime_0 2 rfl rfl)
theorem dX3_isTime_5 : decode cX3_isTime 5 = .ok (.invokestatic 96, 3) := dk_184 0 96 (dk_at dksX3_isTime_0 5 rfl rfl)
theorem dX3_isTime_8 : decode cX3_isTime 8 = .ok (.ireturn, 1) := dk_172 (dk_at dksX3_isTime_0 8 rfl rfl)
abbrev cX3_key : ByteArray := prog_20_method_31_code
def yX3_key : MethodName := ⟨RX3, "key", "(IIIII)I"⟩
def dkwX3_key_9 : List UInt8 := [180, 0, 68, 16, 8, 21, 7, 104, 21, 9, 96, 21, 5, 79, 42, 180, 0, 59, 21, 7, 46, 172]
abbrev dktX3_key_9 : List UInt8 := dkwX3_key_9 ++ []
def dkwX3_key_8 : List UInt8 := [21, 7, 104, 21, 9, 96, 29, 79, 42, 180, 0, 65, 16, 8, 21, 7, 104, 21, 9, 96, 21, 4, 79, 42]
abbrev dktX3_key_8 : List UInt8 := dkwX3_key_8 ++ dktX3_key_9
def dkwX3_key_7 : List UInt8 := [132, 10, 255, 167, 255, 234, 42, 180, 0, 59, 21, 7, 92, 46, 4, 96, 79, 42, 180, 0, 62, 16, 8]
abbrev dktX3_key_7 : List UInt8 := dkwX3_key_7 ++ dktX3_key_8
def dkwX3_key_6 : List UInt8 := [21, 7, 46, 54, 10, 21, 10, 21, 9, 164, 0, 21, 42, 21, 7, 21, 10, 21, 10, 4, 100, 182, 0, 152]
abbrev dktX3_key_6 : List UInt8 := dkwX3_key_6 ++ dktX3_key_7
def dkwX3_key_5 : List UInt8 := [42, 21, 7, 29, 182, 0, 140, 54, 9, 42, 21, 7, 29, 182, 0, 149, 154, 0, 48, 42, 180, 0, 59]
abbrev dktX3_key_5 : List UInt8 := dkwX3_key_5 ++ dktX3_key_6
def dkwX3_key_4 : List UInt8 := [180, 0, 59, 21, 7, 46, 16, 8, 162, 0, 7, 4, 167, 0, 4, 3, 182, 0, 100, 154, 0, 5, 3, 172]
abbrev dktX3_key_4 : List UInt8 := dkwX3_key_4 ++ dktX3_key_5
def dkwX3_key_3 : List UInt8 := [3, 54, 8, 42, 21, 6, 21, 8, 21, 6, 153, 0, 29, 42, 21, 7, 29, 182, 0, 149, 154, 0, 15, 42]
abbrev dktX3_key_3 : List UInt8 := dkwX3_key_3 ++ dktX3_key_4
def dkwX3_key_2 : List UInt8 := [18, 147, 18, 148, 184, 0, 96, 153, 0, 17, 21, 5, 3, 5, 184, 0, 96, 153, 0, 7, 4, 167, 0, 4]
abbrev dktX3_key_2 : List UInt8 := dkwX3_key_2 ++ dktX3_key_3
def dkwX3_key_1 : List UInt8 := [153, 0, 12, 16, 8, 27, 104, 28, 96, 167, 0, 4, 3, 54, 7, 29, 184, 0, 137, 153, 0, 29, 21, 4]
abbrev dktX3_key_1 : List UInt8 := dkwX3_key_1 ++ dktX3_key_2
def dkwX3_key_0 : List UInt8 := [42, 27, 182, 0, 116, 153, 0, 14, 28, 184, 0, 144, 153, 0, 7, 4, 167, 0, 4, 3, 54, 6, 21, 6]
abbrev dktX3_key_0 : List UInt8 := dkwX3_key_0 ++ dktX3_key_1
theorem dksX3_key_0 : cX3_key.data.toList.drop 0 = dktX3_key_0 := by decide +kernel
theorem dksX3_key_1 : cX3_key.data.toList.drop 24 = dktX3_key_1 := dk_seg dksX3_key_0 24 rfl rfl
theorem dksX3_key_2 : cX3_key.data.toList.drop 48 = dktX3_key_2 := dk_seg dksX3_key_1 24 rfl rfl
theorem dksX3_key_3 : cX3_key.data.toList.drop 72 = dktX3_key_3 := dk_seg dksX3_key_2 24 rfl rfl
theorem dksX3_key_4 : cX3_key.data.toList.drop 96 = dktX3_key_4 := dk_seg dksX3_key_3 24 rfl rfl
theorem dksX3_key_5 : cX3_key.data.toList.drop 120 = dktX3_key_5 := dk_seg dksX3_key_4 24 rfl rfl
theorem dksX3_key_6 : cX3_key.data.toList.drop 143 = dktX3_key_6 := dk_seg dksX3_key_5 23 rfl rfl
theorem dksX3_key_7 : cX3_key.data.toList.drop 167 = dktX3_key_7 := dk_seg dksX3_key_6 24 rfl rfl
theorem dksX3_key_8 : cX3_key.data.toList.drop 190 = dktX3_key_8 := dk_seg dksX3_key_7 23 rfl rfl
theorem dksX3_key_9 : cX3_key.data.toList.drop 214 = dktX3_key_9 := dk_seg dksX3_key_8 24 rfl rfl
theorem dX3_key_0 : decode cX3_key 0 = .ok (.aload_n 0, 1) := dk_42 (dk_at dksX3_key_0 0 rfl rfl)
theorem dX3_key_1 : decode cX3_key 1 = .ok (.iload_n 1, 1) := dk_27 (dk_at dksX3_key_0 1 rfl rfl)
theorem dX3_key_2 : decode cX3_key 2 = .ok (.invokevirtual 116, 3) := dk_182 0 116 (dk_at dksX3_key_0 2 rfl rfl)
theorem dX3_key_5 : decode cX3_key 5 = .ok (.ifCond .eq 14, 3) := dk_153 0 14 (dk_at dksX3_key_0 5 rfl rfl)
theorem dX3_key_8 : decode cX3_key 8 = .ok (.iload_n 2, 1) := dk_28 (dk_at dksX3_key_0 8 rfl rfl)
theorem dX3_key_9 : decode cX3_key 9 = .ok (.invokestatic 144, 3) := dk_184 0 144 (dk_at dksX3_key_0 9 rfl rfl)
theorem dX3_key_12 : decode cX3_key 12 = .ok (.ifCond .eq 7, 3) := dk_153 0 7 (dk_at dksX3_key_0 12 rfl rfl)
theorem dX3_key_15 : decode cX3_key 15 = .ok (.iconst 1, 1) := dk_4 (dk_at dksX3_key_0 15 rfl rfl)
theorem dX3_key_16 : decode cX3_key 16 = .ok (.goto 4, 3) := dk_167 0 4 (dk_at dksX3_key_0 16 rfl rfl)
theorem dX3_key_19 : decode cX3_key 19 = .ok (.iconst 0, 1) := dk_3 (dk_at dksX3_key_0 19 rfl rfl)
theorem dX3_key_20 : decode cX3_key 20 = .ok (.istore 6, 2) := dk_54 6 (dk_at dksX3_key_0 20 rfl rfl)
theorem dX3_key_22 : decode cX3_key 22 = .ok (.iload 6, 2) := dk_21 6 (dk_at dksX3_key_0 22 rfl rfl)
theorem dX3_key_24 : decode cX3_key 24 = .ok (.ifCond .eq 12, 3) := dk_153 0 12 (dk_at dksX3_key_1 0 rfl rfl)
theorem dX3_key_27 : decode cX3_key 27 = .ok (.bipush 8, 2) := dk_16 8 (dk_at dksX3_key_1 3 rfl rfl)
theorem dX3_key_29 : decode cX3_key 29 = .ok (.iload_n 1, 1) := dk_27 (dk_at dksX3_key_1 5 rfl rfl)
theorem dX3_key_30 : decode cX3_key 30 = .ok (.imul, 1) := dk_104 (dk_at dksX3_key_1 6 rfl rfl)
theorem dX3_key_31 : decode cX3_key 31 = .ok (.iload_n 2, 1) := dk_28 (dk_at dksX3_key_1 7 rfl rfl)
theorem dX3_key_32 : decode cX3_key 32 = .ok (.iadd, 1) := dk_96 (dk_at dksX3_key_1 8 rfl rfl)
theorem dX3_key_33 : decode cX3_key 33 = .ok (.goto 4, 3) := dk_167 0 4 (dk_at dksX3_key_1 9 rfl rfl)
theorem dX3_key_36 : decode cX3_key 36 = .ok (.iconst 0, 1) := dk_3 (dk_at dksX3_key_1 12 rfl rfl)
theorem dX3_key_37 : decode cX3_key 37 = .ok (.istore 7, 2) := dk_54 7 (dk_at dksX3_key_1 13 rfl rfl)
theorem dX3_key_39 : decode cX3_key 39 = .ok (.iload_n 3, 1) := dk_29 (dk_at dksX3_key_1 15 rfl rfl)
theorem dX3_key_40 : decode cX3_key 40 = .ok (.invokestatic 137, 3) := dk_184 0 137 (dk_at dksX3_key_1 16 rfl rfl)
theorem dX3_key_43 : decode cX3_key 43 = .ok (.ifCond .eq 29, 3) := dk_153 0 29 (dk_at dksX3_key_1 19 rfl rfl)
theorem dX3_key_46 : decode cX3_key 46 = .ok (.iload 4, 2) := dk_21 4 (dk_at dksX3_key_1 22 rfl rfl)
theorem dX3_key_48 : decode cX3_key 48 = .ok (.ldc 147, 2) := dk_18 147 (dk_at dksX3_key_2 0 rfl rfl)
theorem dX3_key_50 : decode cX3_key 50 = .ok (.ldc 148, 2) := dk_18 148 (dk_at dksX3_key_2 2 rfl rfl)
theorem dX3_key_52 : decode cX3_key 52 = .ok (.invokestatic 96, 3) := dk_184 0 96 (dk_at dksX3_key_2 4 rfl rfl)
theorem dX3_key_55 : decode cX3_key 55 = .ok (.ifCond .eq 17, 3) := dk_153 0 17 (dk_at dksX3_key_2 7 rfl rfl)
theorem dX3_key_58 : decode cX3_key 58 = .ok (.iload 5, 2) := dk_21 5 (dk_at dksX3_key_2 10 rfl rfl)
theorem dX3_key_60 : decode cX3_key 60 = .ok (.iconst 0, 1) := dk_3 (dk_at dksX3_key_2 12 rfl rfl)
theorem dX3_key_61 : decode cX3_key 61 = .ok (.iconst 2, 1) := dk_5 (dk_at dksX3_key_2 13 rfl rfl)
theorem dX3_key_62 : decode cX3_key 62 = .ok (.invokestatic 96, 3) := dk_184 0 96 (dk_at dksX3_key_2 14 rfl rfl)
theorem dX3_key_65 : decode cX3_key 65 = .ok (.ifCond .eq 7, 3) := dk_153 0 7 (dk_at dksX3_key_2 17 rfl rfl)
theorem dX3_key_68 : decode cX3_key 68 = .ok (.iconst 1, 1) := dk_4 (dk_at dksX3_key_2 20 rfl rfl)
theorem dX3_key_69 : decode cX3_key 69 = .ok (.goto 4, 3) := dk_167 0 4 (dk_at dksX3_key_2 21 rfl rfl)
theorem dX3_key_72 : decode cX3_key 72 = .ok (.iconst 0, 1) := dk_3 (dk_at dksX3_key_3 0 rfl rfl)
theorem dX3_key_73 : decode cX3_key 73 = .ok (.istore 8, 2) := dk_54 8 (dk_at dksX3_key_3 1 rfl rfl)
theorem dX3_key_75 : decode cX3_key 75 = .ok (.aload_n 0, 1) := dk_42 (dk_at dksX3_key_3 3 rfl rfl)
theorem dX3_key_76 : decode cX3_key 76 = .ok (.iload 6, 2) := dk_21 6 (dk_at dksX3_key_3 4 rfl rfl)
theorem dX3_key_78 : decode cX3_key 78 = .ok (.iload 8, 2) := dk_21 8 (dk_at dksX3_key_3 6 rfl rfl)
theorem dX3_key_80 : decode cX3_key 80 = .ok (.iload 6, 2) := dk_21 6 (dk_at dksX3_key_3 8 rfl rfl)
theorem dX3_key_82 : decode cX3_key 82 = .ok (.ifCond .eq 29, 3) := dk_153 0 29 (dk_at dksX3_key_3 10 rfl rfl)
theorem dX3_key_85 : decode cX3_key 85 = .ok (.aload_n 0, 1) := dk_42 (dk_at dksX3_key_3 13 rfl rfl)
theorem dX3_key_86 : decode cX3_key 86 = .ok (.iload 7, 2) := dk_21 7 (dk_at dksX3_key_3 14 rfl rfl)
theorem dX3_key_88 : decode cX3_key 88 = .ok (.iload_n 3, 1) := dk_29 (dk_at dksX3_key_3 16 rfl rfl)
theorem dX3_key_89 : decode cX3_key 89 = .ok (.invokevirtual 149, 3) := dk_182 0 149 (dk_at dksX3_key_3 17 rfl rfl)
theorem dX3_key_92 : decode cX3_key 92 = .ok (.ifCond .ne 15, 3) := dk_154 0 15 (dk_at dksX3_key_3 20 rfl rfl)
theorem dX3_key_95 : decode cX3_key 95 = .ok (.aload_n 0, 1) := dk_42 (dk_at dksX3_key_3 23 rfl rfl)
theorem dX3_key_96 : decode cX3_key 96 = .ok (.getfield 59, 3) := dk_180 0 59 (dk_at dksX3_key_4 0 rfl rfl)
theorem dX3_key_99 : decode cX3_key 99 = .ok (.iload 7, 2) := dk_21 7 (dk_at dksX3_key_4 3 rfl rfl)
theorem dX3_key_101 : decode cX3_key 101 = .ok (.iaload, 1) := dk_46 (dk_at dksX3_key_4 5 rfl rfl)
theorem dX3_key_102 : decode cX3_key 102 = .ok (.bipush 8, 2) := dk_16 8 (dk_at dksX3_key_4 6 rfl rfl)
theorem dX3_key_104 : decode cX3_key 104 = .ok (.if_icmp .ge 7, 3) := dk_162 0 7 (dk_at dksX3_key_4 8 rfl rfl)
theorem dX3_key_107 : decode cX3_key 107 = .ok (.iconst 1, 1) := dk_4 (dk_at dksX3_key_4 11 rfl rfl)
theorem dX3_key_108 : decode cX3_key 108 = .ok (.goto 4, 3) := dk_167 0 4 (dk_at dksX3_key_4 12 rfl rfl)
theorem dX3_key_111 : decode cX3_key 111 = .ok (.iconst 0, 1) := dk_3 (dk_at dksX3_key_4 15 rfl rfl)
theorem dX3_key_112 : decode cX3_key 112 = .ok (.invokevirtual 100, 3) := dk_182 0 100 (dk_at dksX3_key_4 16 rfl rfl)
theorem dX3_key_115 : decode cX3_key 115 = .ok (.ifCond .ne 5, 3) := dk_154 0 5 (dk_at dksX3_key_4 19 rfl rfl)
theorem dX3_key_118 : decode cX3_key 118 = .ok (.iconst 0, 1) := dk_3 (dk_at dksX3_key_4 22 rfl rfl)
theorem dX3_key_119 : decode cX3_key 119 = .ok (.ireturn, 1) := dk_172 (dk_at dksX3_key_4 23 rfl rfl)
theorem dX3_key_120 : decode cX3_key 120 = .ok (.aload_n 0, 1) := dk_42 (dk_at dksX3_key_5 0 rfl rfl)
theorem dX3_key_121 : decode cX3_key 121 = .ok (.iload 7, 2) := dk_21 7 (dk_at dksX3_key_5 1 rfl rfl)
theorem dX3_key_123 : decode cX3_key 123 = .ok (.iload_n 3, 1) := dk_29 (dk_at dksX3_key_5 3 rfl rfl)
theorem dX3_key_124 : decode cX3_key 124 = .ok (.invokevirtual 140, 3) := dk_182 0 140 (dk_at dksX3_key_5 4 rfl rfl)
theorem dX3_key_127 : decode cX3_key 127 = .ok (.istore 9, 2) := dk_54 9 (dk_at dksX3_key_5 7 rfl rfl)
theorem dX3_key_129 : decode cX3_key 129 = .ok (.aload_n 0, 1) := dk_42 (dk_at dksX3_key_5 9 rfl rfl)
theorem dX3_key_130 : decode cX3_key 130 = .ok (.iload 7, 2) := dk_21 7 (dk_at dksX3_key_5 10 rfl rfl)
theorem dX3_key_132 : decode cX3_key 132 = .ok (.iload_n 3, 1) := dk_29 (dk_at dksX3_key_5 12 rfl rfl)
theorem dX3_key_133 : decode cX3_key 133 = .ok (.invokevirtual 149, 3) := dk_182 0 149 (dk_at dksX3_key_5 13 rfl rfl)
theorem dX3_key_136 : decode cX3_key 136 = .ok (.ifCond .ne 48, 3) := dk_154 0 48 (dk_at dksX3_key_5 16 rfl rfl)
theorem dX3_key_139 : decode cX3_key 139 = .ok (.aload_n 0, 1) := dk_42 (dk_at dksX3_key_5 19 rfl rfl)
theorem dX3_key_140 : decode cX3_key 140 = .ok (.getfield 59, 3) := dk_180 0 59 (dk_at dksX3_key_5 20 rfl rfl)
theorem dX3_key_143 : decode cX3_key 143 = .ok (.iload 7, 2) := dk_21 7 (dk_at dksX3_key_6 0 rfl rfl)
theorem dX3_key_145 : decode cX3_key 145 = .ok (.iaload, 1) := dk_46 (dk_at dksX3_key_6 2 rfl rfl)
theorem dX3_key_146 : decode cX3_key 146 = .ok (.istore 10, 2) := dk_54 10 (dk_at dksX3_key_6 3 rfl rfl)
theorem dX3_key_148 : decode cX3_key 148 = .ok (.iload 10, 2) := dk_21 10 (dk_at dksX3_key_6 5 rfl rfl)
theorem dX3_key_150 : decode cX3_key 150 = .ok (.iload 9, 2) := dk_21 9 (dk_at dksX3_key_6 7 rfl rfl)
theorem dX3_key_152 : decode cX3_key 152 = .ok (.if_icmp .le 21, 3) := dk_164 0 21 (dk_at dksX3_key_6 9 rfl rfl)
theorem dX3_key_155 : decode cX3_key 155 = .ok (.aload_n 0, 1) := dk_42 (dk_at dksX3_key_6 12 rfl rfl)
theorem dX3_key_156 : decode cX3_key 156 = .ok (.iload 7, 2) := dk_21 7 (dk_at dksX3_key_6 13 rfl rfl)
theorem dX3_key_158 : decode cX3_key 158 = .ok (.iload 10, 2) := dk_21 10 (dk_at dksX3_key_6 15 rfl rfl)
theorem dX3_key_160 : decode cX3_key 160 = .ok (.iload 10, 2) := dk_21 10 (dk_at dksX3_key_6 17 rfl rfl)
theorem dX3_key_162 : decode cX3_key 162 = .ok (.iconst 1, 1) := dk_4 (dk_at dksX3_key_6 19 rfl rfl)
theorem dX3_key_163 : decode cX3_key 163 = .ok (.isub, 1) := dk_100 (dk_at dksX3_key_6 20 rfl rfl)
theorem dX3_key_164 : decode cX3_key 164 = .ok (.invokevirtual 152, 3) := dk_182 0 152 (dk_at dksX3_key_6 21 rfl rfl)
theorem dX3_key_167 : decode cX3_key 167 = .ok (.iinc 10 (-1), 3) := dk_132 10 255 (dk_at dksX3_key_7 0 rfl rfl)
theorem dX3_key_170 : decode cX3_key 170 = .ok (.goto (-22), 3) := dk_167 255 234 (dk_at dksX3_key_7 3 rfl rfl)
theorem dX3_key_173 : decode cX3_key 173 = .ok (.aload_n 0, 1) := dk_42 (dk_at dksX3_key_7 6 rfl rfl)
theorem dX3_key_174 : decode cX3_key 174 = .ok (.getfield 59, 3) := dk_180 0 59 (dk_at dksX3_key_7 7 rfl rfl)
theorem dX3_key_177 : decode cX3_key 177 = .ok (.iload 7, 2) := dk_21 7 (dk_at dksX3_key_7 10 rfl rfl)
theorem dX3_key_179 : decode cX3_key 179 = .ok (.dup2, 1) := dk_92 (dk_at dksX3_key_7 12 rfl rfl)
theorem dX3_key_180 : decode cX3_key 180 = .ok (.iaload, 1) := dk_46 (dk_at dksX3_key_7 13 rfl rfl)
theorem dX3_key_181 : decode cX3_key 181 = .ok (.iconst 1, 1) := dk_4 (dk_at dksX3_key_7 14 rfl rfl)
theorem dX3_key_182 : decode cX3_key 182 = .ok (.iadd, 1) := dk_96 (dk_at dksX3_key_7 15 rfl rfl)
theorem dX3_key_183 : decode cX3_key 183 = .ok (.iastore, 1) := dk_79 (dk_at dksX3_key_7 16 rfl rfl)
theorem dX3_key_184 : decode cX3_key 184 = .ok (.aload_n 0, 1) := dk_42 (dk_at dksX3_key_7 17 rfl rfl)
theorem dX3_key_185 : decode cX3_key 185 = .ok (.getfield 62, 3) := dk_180 0 62 (dk_at dksX3_key_7 18 rfl rfl)
theorem dX3_key_188 : decode cX3_key 188 = .ok (.bipush 8, 2) := dk_16 8 (dk_at dksX3_key_7 21 rfl rfl)
theorem dX3_key_190 : decode cX3_key 190 = .ok (.iload 7, 2) := dk_21 7 (dk_at dksX3_key_8 0 rfl rfl)
theorem dX3_key_192 : decode cX3_key 192 = .ok (.imul, 1) := dk_104 (dk_at dksX3_key_8 2 rfl rfl)
theorem dX3_key_193 : decode cX3_key 193 = .ok (.iload 9, 2) := dk_21 9 (dk_at dksX3_key_8 3 rfl rfl)
theorem dX3_key_195 : decode cX3_key 195 = .ok (.iadd, 1) := dk_96 (dk_at dksX3_key_8 5 rfl rfl)
theorem dX3_key_196 : decode cX3_key 196 = .ok (.iload_n 3, 1) := dk_29 (dk_at dksX3_key_8 6 rfl rfl)
theorem dX3_key_197 : decode cX3_key 197 = .ok (.iastore, 1) := dk_79 (dk_at dksX3_key_8 7 rfl rfl)
theorem dX3_key_198 : decode cX3_key 198 = .ok (.aload_n 0, 1) := dk_42 (dk_at dksX3_key_8 8 rfl rfl)
theorem dX3_key_199 : decode cX3_key 199 = .ok (.getfield 65, 3) := dk_180 0 65 (dk_at dksX3_key_8 9 rfl rfl)
theorem dX3_key_202 : decode cX3_key 202 = .ok (.bipush 8, 2) := dk_16 8 (dk_at dksX3_key_8 12 rfl rfl)
theorem dX3_key_204 : decode cX3_key 204 = .ok (.iload 7, 2) := dk_21 7 (dk_at dksX3_key_8 14 rfl rfl)
theorem dX3_key_206 : decode cX3_key 206 = .ok (.imul, 1) := dk_104 (dk_at dksX3_key_8 16 rfl rfl)
theorem dX3_key_207 : decode cX3_key 207 = .ok (.iload 9, 2) := dk_21 9 (dk_at dksX3_key_8 17 rfl rfl)
theorem dX3_key_209 : decode cX3_key 209 = .ok (.iadd, 1) := dk_96 (dk_at dksX3_key_8 19 rfl rfl)
theorem dX3_key_210 : decode cX3_key 210 = .ok (.iload 4, 2) := dk_21 4 (dk_at dksX3_key_8 20 rfl rfl)
theorem dX3_key_212 : decode cX3_key 212 = .ok (.iastore, 1) := dk_79 (dk_at dksX3_key_8 22 rfl rfl)
theorem dX3_key_213 : decode cX3_key 213 = .ok (.aload_n 0, 1) := dk_42 (dk_at dksX3_key_8 23 rfl rfl)
theorem dX3_key_214 : decode cX3_key 214 = .ok (.getfield 68, 3) := dk_180 0 68 (dk_at dksX3_key_9 0 rfl rfl)
theorem dX3_key_217 : decode cX3_key 217 = .ok (.bipush 8, 2) := dk_16 8 (dk_at dksX3_key_9 3 rfl rfl)
theorem dX3_key_219 : decode cX3_key 219 = .ok (.iload 7, 2) := dk_21 7 (dk_at dksX3_key_9 5 rfl rfl)
theorem dX3_key_221 : decode cX3_key 221 = .ok (.imul, 1) := dk_104 (dk_at dksX3_key_9 7 rfl rfl)
theorem dX3_key_222 : decode cX3_key 222 = .ok (.iload 9, 2) := dk_21 9 (dk_at dksX3_key_9 8 rfl rfl)
theorem dX3_key_224 : decode cX3_key 224 = .ok (.iadd, 1) := dk_96 (dk_at dksX3_key_9 10 rfl rfl)
theorem dX3_key_225 : decode cX3_key 225 = .ok (.iload 5, 2) := dk_21 5 (dk_at dksX3_key_9 11 rfl rfl)
theorem dX3_key_227 : decode cX3_key 227 = .ok (.iastore, 1) := dk_79 (dk_at dksX3_key_9 13 rfl rfl)
theorem dX3_key_228 : decode cX3_key 228 = .ok (.aload_n 0, 1) := dk_42 (dk_at dksX3_key_9 14 rfl rfl)
theorem dX3_key_229 : decode cX3_key 229 = .ok (.getfield 59, 3) := dk_180 0 59 (dk_at dksX3_key_9 15 rfl rfl)
theorem dX3_key_232 : decode cX3_key 232 = .ok (.iload 7, 2) := dk_21 7 (dk_at dksX3_key_9 18 rfl rfl)
theorem dX3_key_234 : decode cX3_key 234 = .ok (.iaload, 1) := dk_46 (dk_at dksX3_key_9 20 rfl rfl)
theorem dX3_key_235 : decode cX3_key 235 = .ok (.ireturn, 1) := dk_172 (dk_at dksX3_key_9 21 rfl rfl)
abbrev cX3_isValue : ByteArray := prog_20_method_27_code
def yX3_isValue : MethodName := ⟨RX3, "isValue", "(I)Z"⟩
def dkwX3_isValue_0 : List UInt8 := [26, 3, 16, 7, 184, 0, 96, 172]
abbrev dktX3_isValue_0 : List UInt8 := dkwX3_isValue_0 ++ []
theorem dksX3_isValue_0 : cX3_isValue.data.toList.drop 0 = dktX3_isValue_0 := by decide +kernel
theorem dX3_isValue_0 : decode cX3_isValue 0 = .ok (.iload_n 0, 1) := dk_26 (dk_at dksX3_isValue_0 0 rfl rfl)
theorem dX3_isValue_1 : decode cX3_isValue 1 = .ok (.iconst 0, 1) := dk_3 (dk_at dksX3_isValue_0 1 rfl rfl)
theorem dX3_isValue_2 : decode cX3_isValue 2 = .ok (.bipush 7, 2) := dk_16 7 (dk_at dksX3_isValue_0 2 rfl rfl)
theorem dX3_isValue_4 : decode cX3_isValue 4 = .ok (.invokestatic 96, 3) := dk_184 0 96 (dk_at dksX3_isValue_0 4 rfl rfl)
theorem dX3_isValue_7 : decode cX3_isValue 7 = .ok (.ireturn, 1) := dk_172 (dk_at dksX3_isValue_0 7 rfl rfl)
abbrev cX3_hasKey : ByteArray := prog_20_method_29_code
def yX3_hasKey : MethodName := ⟨RX3, "hasKey", "(II)Z"⟩
def dkwX3_hasKey_1 : List UInt8 := [104, 29, 96, 46, 28, 160, 0, 7, 4, 167, 0, 4, 3, 172]
abbrev dktX3_hasKey_1 : List UInt8 := dkwX3_hasKey_1 ++ []
def dkwX3_hasKey_0 : List UInt8 := [42, 27, 28, 182, 0, 140, 62, 29, 42, 180, 0, 59, 27, 46, 162, 0, 22, 42, 180, 0, 62, 16, 8, 27]
abbrev dktX3_hasKey_0 : List UInt8 := dkwX3_hasKey_0 ++ dktX3_hasKey_1
theorem dksX3_hasKey_0 : cX3_hasKey.data.toList.drop 0 = dktX3_hasKey_0 := by decide +kernel
theorem dksX3_hasKey_1 : cX3_hasKey.data.toList.drop 24 = dktX3_hasKey_1 := dk_seg dksX3_hasKey_0 24 rfl rfl
theorem dX3_hasKey_0 : decode cX3_hasKey 0 = .ok (.aload_n 0, 1) := dk_42 (dk_at dksX3_hasKey_0 0 rfl rfl)
theorem dX3_hasKey_1 : decode cX3_hasKey 1 = .ok (.iload_n 1, 1) := dk_27 (dk_at dksX3_hasKey_0 1 rfl rfl)
theorem dX3_hasKey_2 : decode cX3_hasKey 2 = .ok (.iload_n 2, 1) := dk_28 (dk_at dksX3_hasKey_0 2 rfl rfl)
theorem dX3_hasKey_3 : decode cX3_hasKey 3 = .ok (.invokevirtual 140, 3) := dk_182 0 140 (dk_at dksX3_hasKey_0 3 rfl rfl)
theorem dX3_hasKey_6 : decode cX3_hasKey 6 = .ok (.istore_n 3, 1) := dk_62 (dk_at dksX3_hasKey_0 6 rfl rfl)
theorem dX3_hasKey_7 : decode cX3_hasKey 7 = .ok (.iload_n 3, 1) := dk_29 (dk_at dksX3_hasKey_0 7 rfl rfl)
theorem dX3_hasKey_8 : decode cX3_hasKey 8 = .ok (.aload_n 0, 1) := dk_42 (dk_at dksX3_hasKey_0 8 rfl rfl)
theorem dX3_hasKey_9 : decode cX3_hasKey 9 = .ok (.getfield 59, 3) := dk_180 0 59 (dk_at dksX3_hasKey_0 9 rfl rfl)
theorem dX3_hasKey_12 : decode cX3_hasKey 12 = .ok (.iload_n 1, 1) := dk_27 (dk_at dksX3_hasKey_0 12 rfl rfl)
theorem dX3_hasKey_13 : decode cX3_hasKey 13 = .ok (.iaload, 1) := dk_46 (dk_at dksX3_hasKey_0 13 rfl rfl)
theorem dX3_hasKey_14 : decode cX3_hasKey 14 = .ok (.if_icmp .ge 22, 3) := dk_162 0 22 (dk_at dksX3_hasKey_0 14 rfl rfl)
theorem dX3_hasKey_17 : decode cX3_hasKey 17 = .ok (.aload_n 0, 1) := dk_42 (dk_at dksX3_hasKey_0 17 rfl rfl)
theorem dX3_hasKey_18 : decode cX3_hasKey 18 = .ok (.getfield 62, 3) := dk_180 0 62 (dk_at dksX3_hasKey_0 18 rfl rfl)
theorem dX3_hasKey_21 : decode cX3_hasKey 21 = .ok (.bipush 8, 2) := dk_16 8 (dk_at dksX3_hasKey_0 21 rfl rfl)
theorem dX3_hasKey_23 : decode cX3_hasKey 23 = .ok (.iload_n 1, 1) := dk_27 (dk_at dksX3_hasKey_0 23 rfl rfl)
theorem dX3_hasKey_24 : decode cX3_hasKey 24 = .ok (.imul, 1) := dk_104 (dk_at dksX3_hasKey_1 0 rfl rfl)
theorem dX3_hasKey_25 : decode cX3_hasKey 25 = .ok (.iload_n 3, 1) := dk_29 (dk_at dksX3_hasKey_1 1 rfl rfl)
theorem dX3_hasKey_26 : decode cX3_hasKey 26 = .ok (.iadd, 1) := dk_96 (dk_at dksX3_hasKey_1 2 rfl rfl)
theorem dX3_hasKey_27 : decode cX3_hasKey 27 = .ok (.iaload, 1) := dk_46 (dk_at dksX3_hasKey_1 3 rfl rfl)
theorem dX3_hasKey_28 : decode cX3_hasKey 28 = .ok (.iload_n 2, 1) := dk_28 (dk_at dksX3_hasKey_1 4 rfl rfl)
theorem dX3_hasKey_29 : decode cX3_hasKey 29 = .ok (.if_icmp .ne 7, 3) := dk_160 0 7 (dk_at dksX3_hasKey_1 5 rfl rfl)
theorem dX3_hasKey_32 : decode cX3_hasKey 32 = .ok (.iconst 1, 1) := dk_4 (dk_at dksX3_hasKey_1 8 rfl rfl)
theorem dX3_hasKey_33 : decode cX3_hasKey 33 = .ok (.goto 4, 3) := dk_167 0 4 (dk_at dksX3_hasKey_1 9 rfl rfl)
theorem dX3_hasKey_36 : decode cX3_hasKey 36 = .ok (.iconst 0, 1) := dk_3 (dk_at dksX3_hasKey_1 12 rfl rfl)
theorem dX3_hasKey_37 : decode cX3_hasKey 37 = .ok (.ireturn, 1) := dk_172 (dk_at dksX3_hasKey_1 13 rfl rfl)
abbrev cX3_keyPlace : ByteArray := prog_20_method_28_code
def yX3_keyPlace : MethodName := ⟨RX3, "keyPlace", "(II)I"⟩
def dkwX3_keyPlace_1 : List UInt8 := [162, 0, 9, 132, 3, 1, 167, 255, 228, 29, 172]
abbrev dktX3_keyPlace_1 : List UInt8 := dkwX3_keyPlace_1 ++ []
def dkwX3_keyPlace_0 : List UInt8 := [3, 62, 29, 42, 180, 0, 59, 27, 46, 162, 0, 24, 42, 180, 0, 62, 16, 8, 27, 104, 29, 96, 46, 28]
abbrev dktX3_keyPlace_0 : List UInt8 := dkwX3_keyPlace_0 ++ dktX3_keyPlace_1
theorem dksX3_keyPlace_0 : cX3_keyPlace.data.toList.drop 0 = dktX3_keyPlace_0 := by decide +kernel
theorem dksX3_keyPlace_1 : cX3_keyPlace.data.toList.drop 24 = dktX3_keyPlace_1 := dk_seg dksX3_keyPlace_0 24 rfl rfl
theorem dX3_keyPlace_0 : decode cX3_keyPlace 0 = .ok (.iconst 0, 1) := dk_3 (dk_at dksX3_keyPlace_0 0 rfl rfl)
theorem dX3_keyPlace_1 : decode cX3_keyPlace 1 = .ok (.istore_n 3, 1) := dk_62 (dk_at dksX3_keyPlace_0 1 rfl rfl)
theorem dX3_keyPlace_2 : decode cX3_keyPlace 2 = .ok (.iload_n 3, 1) := dk_29 (dk_at dksX3_keyPlace_0 2 rfl rfl)
theorem dX3_keyPlace_3 : decode cX3_keyPlace 3 = .ok (.aload_n 0, 1) := dk_42 (dk_at dksX3_keyPlace_0 3 rfl rfl)
theorem dX3_keyPlace_4 : decode cX3_keyPlace 4 = .ok (.getfield 59, 3) := dk_180 0 59 (dk_at dksX3_keyPlace_0 4 rfl rfl)
theorem dX3_keyPlace_7 : decode cX3_keyPlace 7 = .ok (.iload_n 1, 1) := dk_27 (dk_at dksX3_keyPlace_0 7 rfl rfl)
theorem dX3_keyPlace_8 : decode cX3_keyPlace 8 = .ok (.iaload, 1) := dk_46 (dk_at dksX3_keyPlace_0 8 rfl rfl)
theorem dX3_keyPlace_9 : decode cX3_keyPlace 9 = .ok (.if_icmp .ge 24, 3) := dk_162 0 24 (dk_at dksX3_keyPlace_0 9 rfl rfl)
theorem dX3_keyPlace_12 : decode cX3_keyPlace 12 = .ok (.aload_n 0, 1) := dk_42 (dk_at dksX3_keyPlace_0 12 rfl rfl)
theorem dX3_keyPlace_13 : decode cX3_keyPlace 13 = .ok (.getfield 62, 3) := dk_180 0 62 (dk_at dksX3_keyPlace_0 13 rfl rfl)
theorem dX3_keyPlace_16 : decode cX3_keyPlace 16 = .ok (.bipush 8, 2) := dk_16 8 (dk_at dksX3_keyPlace_0 16 rfl rfl)
theorem dX3_keyPlace_18 : decode cX3_keyPlace 18 = .ok (.iload_n 1, 1) := dk_27 (dk_at dksX3_keyPlace_0 18 rfl rfl)
theorem dX3_keyPlace_19 : decode cX3_keyPlace 19 = .ok (.imul, 1) := dk_104 (dk_at dksX3_keyPlace_0 19 rfl rfl)
theorem dX3_keyPlace_20 : decode cX3_keyPlace 20 = .ok (.iload_n 3, 1) := dk_29 (dk_at dksX3_keyPlace_0 20 rfl rfl)
theorem dX3_keyPlace_21 : decode cX3_keyPlace 21 = .ok (.iadd, 1) := dk_96 (dk_at dksX3_keyPlace_0 21 rfl rfl)
theorem dX3_keyPlace_22 : decode cX3_keyPlace 22 = .ok (.iaload, 1) := dk_46 (dk_at dksX3_keyPlace_0 22 rfl rfl)
theorem dX3_keyPlace_23 : decode cX3_keyPlace 23 = .ok (.iload_n 2, 1) := dk_28 (dk_at dksX3_keyPlace_0 23 rfl rfl)
theorem dX3_keyPlace_24 : decode cX3_keyPlace 24 = .ok (.if_icmp .ge 9, 3) := dk_162 0 9 (dk_at dksX3_keyPlace_1 0 rfl rfl)
theorem dX3_keyPlace_27 : decode cX3_keyPlace 27 = .ok (.iinc 3 1, 3) := dk_132 3 1 (dk_at dksX3_keyPlace_1 3 rfl rfl)
theorem dX3_keyPlace_30 : decode cX3_keyPlace 30 = .ok (.goto (-28), 3) := dk_167 255 228 (dk_at dksX3_keyPlace_1 6 rfl rfl)
theorem dX3_keyPlace_33 : decode cX3_keyPlace 33 = .ok (.iload_n 3, 1) := dk_29 (dk_at dksX3_keyPlace_1 9 rfl rfl)
theorem dX3_keyPlace_34 : decode cX3_keyPlace 34 = .ok (.ireturn, 1) := dk_172 (dk_at dksX3_keyPlace_1 10 rfl rfl)
abbrev cX3_copyKey : ByteArray := prog_20_method_30_code
def yX3_copyKey : MethodName := ⟨RX3, "copyKey", "(III)V"⟩
def dkwX3_copyKey_2 : List UInt8 := [180, 0, 68, 16, 8, 27, 104, 28, 96, 42, 180, 0, 68, 16, 8, 27, 104, 29, 96, 46, 79, 177]
abbrev dktX3_copyKey_2 : List UInt8 := dkwX3_copyKey_2 ++ []
def dkwX3_copyKey_1 : List UInt8 := [180, 0, 65, 16, 8, 27, 104, 28, 96, 42, 180, 0, 65, 16, 8, 27, 104, 29, 96, 46, 79, 42]
abbrev dktX3_copyKey_1 : List UInt8 := dkwX3_copyKey_1 ++ dktX3_copyKey_2
def dkwX3_copyKey_0 : List UInt8 := [42, 180, 0, 62, 16, 8, 27, 104, 28, 96, 42, 180, 0, 62, 16, 8, 27, 104, 29, 96, 46, 79, 42]
abbrev dktX3_copyKey_0 : List UInt8 := dkwX3_copyKey_0 ++ dktX3_copyKey_1
theorem dksX3_copyKey_0 : cX3_copyKey.data.toList.drop 0 = dktX3_copyKey_0 := by decide +kernel
theorem dksX3_copyKey_1 : cX3_copyKey.data.toList.drop 23 = dktX3_copyKey_1 := dk_seg dksX3_copyKey_0 23 rfl rfl
theorem dksX3_copyKey_2 : cX3_copyKey.data.toList.drop 45 = dktX3_copyKey_2 := dk_seg dksX3_copyKey_1 22 rfl rfl
theorem dX3_copyKey_0 : decode cX3_copyKey 0 = .ok (.aload_n 0, 1) := dk_42 (dk_at dksX3_copyKey_0 0 rfl rfl)
theorem dX3_copyKey_1 : decode cX3_copyKey 1 = .ok (.getfield 62, 3) := dk_180 0 62 (dk_at dksX3_copyKey_0 1 rfl rfl)
theorem dX3_copyKey_4 : decode cX3_copyKey 4 = .ok (.bipush 8, 2) := dk_16 8 (dk_at dksX3_copyKey_0 4 rfl rfl)
theorem dX3_copyKey_6 : decode cX3_copyKey 6 = .ok (.iload_n 1, 1) := dk_27 (dk_at dksX3_copyKey_0 6 rfl rfl)
theorem dX3_copyKey_7 : decode cX3_copyKey 7 = .ok (.imul, 1) := dk_104 (dk_at dksX3_copyKey_0 7 rfl rfl)
theorem dX3_copyKey_8 : decode cX3_copyKey 8 = .ok (.iload_n 2, 1) := dk_28 (dk_at dksX3_copyKey_0 8 rfl rfl)
theorem dX3_copyKey_9 : decode cX3_copyKey 9 = .ok (.iadd, 1) := dk_96 (dk_at dksX3_copyKey_0 9 rfl rfl)
theorem dX3_copyKey_10 : decode cX3_copyKey 10 = .ok (.aload_n 0, 1) := dk_42 (dk_at dksX3_copyKey_0 10 rfl rfl)
theorem dX3_copyKey_11 : decode cX3_copyKey 11 = .ok (.getfield 62, 3) := dk_180 0 62 (dk_at dksX3_copyKey_0 11 rfl rfl)
theorem dX3_copyKey_14 : decode cX3_copyKey 14 = .ok (.bipush 8, 2) := dk_16 8 (dk_at dksX3_copyKey_0 14 rfl rfl)
theorem dX3_copyKey_16 : decode cX3_copyKey 16 = .ok (.iload_n 1, 1) := dk_27 (dk_at dksX3_copyKey_0 16 rfl rfl)
theorem dX3_copyKey_17 : decode cX3_copyKey 17 = .ok (.imul, 1) := dk_104 (dk_at dksX3_copyKey_0 17 rfl rfl)
theorem dX3_copyKey_18 : decode cX3_copyKey 18 = .ok (.iload_n 3, 1) := dk_29 (dk_at dksX3_copyKey_0 18 rfl rfl)
theorem dX3_copyKey_19 : decode cX3_copyKey 19 = .ok (.iadd, 1) := dk_96 (dk_at dksX3_copyKey_0 19 rfl rfl)
theorem dX3_copyKey_20 : decode cX3_copyKey 20 = .ok (.iaload, 1) := dk_46 (dk_at dksX3_copyKey_0 20 rfl rfl)
theorem dX3_copyKey_21 : decode cX3_copyKey 21 = .ok (.iastore, 1) := dk_79 (dk_at dksX3_copyKey_0 21 rfl rfl)
theorem dX3_copyKey_22 : decode cX3_copyKey 22 = .ok (.aload_n 0, 1) := dk_42 (dk_at dksX3_copyKey_0 22 rfl rfl)
theorem dX3_copyKey_23 : decode cX3_copyKey 23 = .ok (.getfield 65, 3) := dk_180 0 65 (dk_at dksX3_copyKey_1 0 rfl rfl)
theorem dX3_copyKey_26 : decode cX3_copyKey 26 = .ok (.bipush 8, 2) := dk_16 8 (dk_at dksX3_copyKey_1 3 rfl rfl)
theorem dX3_copyKey_28 : decode cX3_copyKey 28 = .ok (.iload_n 1, 1) := dk_27 (dk_at dksX3_copyKey_1 5 rfl rfl)
theorem dX3_copyKey_29 : decode cX3_copyKey 29 = .ok (.imul, 1) := dk_104 (dk_at dksX3_copyKey_1 6 rfl rfl)
theorem dX3_copyKey_30 : decode cX3_copyKey 30 = .ok (.iload_n 2, 1) := dk_28 (dk_at dksX3_copyKey_1 7 rfl rfl)
theorem dX3_copyKey_31 : decode cX3_copyKey 31 = .ok (.iadd, 1) := dk_96 (dk_at dksX3_copyKey_1 8 rfl rfl)
theorem dX3_copyKey_32 : decode cX3_copyKey 32 = .ok (.aload_n 0, 1) := dk_42 (dk_at dksX3_copyKey_1 9 rfl rfl)
theorem dX3_copyKey_33 : decode cX3_copyKey 33 = .ok (.getfield 65, 3) := dk_180 0 65 (dk_at dksX3_copyKey_1 10 rfl rfl)
theorem dX3_copyKey_36 : decode cX3_copyKey 36 = .ok (.bipush 8, 2) := dk_16 8 (dk_at dksX3_copyKey_1 13 rfl rfl)
theorem dX3_copyKey_38 : decode cX3_copyKey 38 = .ok (.iload_n 1, 1) := dk_27 (dk_at dksX3_copyKey_1 15 rfl rfl)
theorem dX3_copyKey_39 : decode cX3_copyKey 39 = .ok (.imul, 1) := dk_104 (dk_at dksX3_copyKey_1 16 rfl rfl)
theorem dX3_copyKey_40 : decode cX3_copyKey 40 = .ok (.iload_n 3, 1) := dk_29 (dk_at dksX3_copyKey_1 17 rfl rfl)
theorem dX3_copyKey_41 : decode cX3_copyKey 41 = .ok (.iadd, 1) := dk_96 (dk_at dksX3_copyKey_1 18 rfl rfl)
theorem dX3_copyKey_42 : decode cX3_copyKey 42 = .ok (.iaload, 1) := dk_46 (dk_at dksX3_copyKey_1 19 rfl rfl)
theorem dX3_copyKey_43 : decode cX3_copyKey 43 = .ok (.iastore, 1) := dk_79 (dk_at dksX3_copyKey_1 20 rfl rfl)
theorem dX3_copyKey_44 : decode cX3_copyKey 44 = .ok (.aload_n 0, 1) := dk_42 (dk_at dksX3_copyKey_1 21 rfl rfl)
theorem dX3_copyKey_45 : decode cX3_copyKey 45 = .ok (.getfield 68, 3) := dk_180 0 68 (dk_at dksX3_copyKey_2 0 rfl rfl)
theorem dX3_copyKey_48 : decode cX3_copyKey 48 = .ok (.bipush 8, 2) := dk_16 8 (dk_at dksX3_copyKey_2 3 rfl rfl)
theorem dX3_copyKey_50 : decode cX3_copyKey 50 = .ok (.iload_n 1, 1) := dk_27 (dk_at dksX3_copyKey_2 5 rfl rfl)
theorem dX3_copyKey_51 : decode cX3_copyKey 51 = .ok (.imul, 1) := dk_104 (dk_at dksX3_copyKey_2 6 rfl rfl)
theorem dX3_copyKey_52 : decode cX3_copyKey 52 = .ok (.iload_n 2, 1) := dk_28 (dk_at dksX3_copyKey_2 7 rfl rfl)
theorem dX3_copyKey_53 : decode cX3_copyKey 53 = .ok (.iadd, 1) := dk_96 (dk_at dksX3_copyKey_2 8 rfl rfl)
theorem dX3_copyKey_54 : decode cX3_copyKey 54 = .ok (.aload_n 0, 1) := dk_42 (dk_at dksX3_copyKey_2 9 rfl rfl)
theorem dX3_copyKey_55 : decode cX3_copyKey 55 = .ok (.getfield 68, 3) := dk_180 0 68 (dk_at dksX3_copyKey_2 10 rfl rfl)
theorem dX3_copyKey_58 : decode cX3_copyKey 58 = .ok (.bipush 8, 2) := dk_16 8 (dk_at dksX3_copyKey_2 13 rfl rfl)
theorem dX3_copyKey_60 : decode cX3_copyKey 60 = .ok (.iload_n 1, 1) := dk_27 (dk_at dksX3_copyKey_2 15 rfl rfl)
theorem dX3_copyKey_61 : decode cX3_copyKey 61 = .ok (.imul, 1) := dk_104 (dk_at dksX3_copyKey_2 16 rfl rfl)
theorem dX3_copyKey_62 : decode cX3_copyKey 62 = .ok (.iload_n 3, 1) := dk_29 (dk_at dksX3_copyKey_2 17 rfl rfl)
theorem dX3_copyKey_63 : decode cX3_copyKey 63 = .ok (.iadd, 1) := dk_96 (dk_at dksX3_copyKey_2 18 rfl rfl)
theorem dX3_copyKey_64 : decode cX3_copyKey 64 = .ok (.iaload, 1) := dk_46 (dk_at dksX3_copyKey_2 19 rfl rfl)
theorem dX3_copyKey_65 : decode cX3_copyKey 65 = .ok (.iastore, 1) := dk_79 (dk_at dksX3_copyKey_2 20 rfl rfl)
theorem dX3_copyKey_66 : decode cX3_copyKey 66 = .ok (.return_, 1) := dk_177 (dk_at dksX3_copyKey_2 21 rfl rfl)
abbrev cX3_unkey : ByteArray := prog_20_method_32_code
def yX3_unkey : MethodName := ⟨RX3, "unkey", "(III)I"⟩
def dkwX3_unkey_6 : List UInt8 := [21, 7, 172]
abbrev dktX3_unkey_6 : List UInt8 := dkwX3_unkey_6 ++ []
def dkwX3_unkey_5 : List UInt8 := [21, 8, 4, 96, 182, 0, 152, 132, 8, 1, 167, 255, 227, 42, 180, 0, 59, 21, 5, 92, 46, 4, 100, 79]
abbrev dktX3_unkey_5 : List UInt8 := dkwX3_unkey_5 ++ dktX3_unkey_6
def dkwX3_unkey_4 : List UInt8 := [21, 6, 54, 8, 21, 8, 42, 180, 0, 59, 21, 5, 46, 4, 100, 162, 0, 21, 42, 21, 5, 21, 8]
abbrev dktX3_unkey_4 : List UInt8 := dkwX3_unkey_4 ++ dktX3_unkey_5
def dkwX3_unkey_3 : List UInt8 := [21, 5, 29, 182, 0, 140, 54, 6, 42, 180, 0, 65, 16, 8, 21, 5, 104, 21, 6, 96, 46, 54, 7]
abbrev dktX3_unkey_3 : List UInt8 := dkwX3_unkey_3 ++ dktX3_unkey_4
def dkwX3_unkey_2 : List UInt8 := [21, 5, 29, 182, 0, 149, 153, 0, 7, 4, 167, 0, 4, 3, 4, 182, 0, 100, 154, 0, 5, 3, 172, 42]
abbrev dktX3_unkey_2 : List UInt8 := dkwX3_unkey_2 ++ dktX3_unkey_3
def dkwX3_unkey_1 : List UInt8 := [153, 0, 12, 16, 8, 27, 104, 28, 96, 167, 0, 4, 3, 54, 5, 42, 21, 4, 21, 4, 153, 0, 17, 42]
abbrev dktX3_unkey_1 : List UInt8 := dkwX3_unkey_1 ++ dktX3_unkey_2
def dkwX3_unkey_0 : List UInt8 := [42, 27, 182, 0, 116, 153, 0, 14, 28, 184, 0, 144, 153, 0, 7, 4, 167, 0, 4, 3, 54, 4, 21, 4]
abbrev dktX3_unkey_0 : List UInt8 := dkwX3_unkey_0 ++ dktX3_unkey_1
theorem dksX3_unkey_0 : cX3_unkey.data.toList.drop 0 = dktX3_unkey_0 := by decide +kernel
theorem dksX3_unkey_1 : cX3_unkey.data.toList.drop 24 = dktX3_unkey_1 := dk_seg dksX3_unkey_0 24 rfl rfl
theorem dksX3_unkey_2 : cX3_unkey.data.toList.drop 48 = dktX3_unkey_2 := dk_seg dksX3_unkey_1 24 rfl rfl
theorem dksX3_unkey_3 : cX3_unkey.data.toList.drop 72 = dktX3_unkey_3 := dk_seg dksX3_unkey_2 24 rfl rfl
theorem dksX3_unkey_4 : cX3_unkey.data.toList.drop 95 = dktX3_unkey_4 := dk_seg dksX3_unkey_3 23 rfl rfl
theorem dksX3_unkey_5 : cX3_unkey.data.toList.drop 118 = dktX3_unkey_5 := dk_seg dksX3_unkey_4 23 rfl rfl
theorem dksX3_unkey_6 : cX3_unkey.data.toList.drop 142 = dktX3_unkey_6 := dk_seg dksX3_unkey_5 24 rfl rfl
theorem dX3_unkey_0 : decode cX3_unkey 0 = .ok (.aload_n 0, 1) := dk_42 (dk_at dksX3_unkey_0 0 rfl rfl)
theorem dX3_unkey_1 : decode cX3_unkey 1 = .ok (.iload_n 1, 1) := dk_27 (dk_at dksX3_unkey_0 1 rfl rfl)
theorem dX3_unkey_2 : decode cX3_unkey 2 = .ok (.invokevirtual 116, 3) := dk_182 0 116 (dk_at dksX3_unkey_0 2 rfl rfl)
theorem dX3_unkey_5 : decode cX3_unkey 5 = .ok (.ifCond .eq 14, 3) := dk_153 0 14 (dk_at dksX3_unkey_0 5 rfl rfl)
theorem dX3_unkey_8 : decode cX3_unkey 8 = .ok (.iload_n 2, 1) := dk_28 (dk_at dksX3_unkey_0 8 rfl rfl)
theorem dX3_unkey_9 : decode cX3_unkey 9 = .ok (.invokestatic 144, 3) := dk_184 0 144 (dk_at dksX3_unkey_0 9 rfl rfl)
theorem dX3_unkey_12 : decode cX3_unkey 12 = .ok (.ifCond .eq 7, 3) := dk_153 0 7 (dk_at dksX3_unkey_0 12 rfl rfl)
theorem dX3_unkey_15 : decode cX3_unkey 15 = .ok (.iconst 1, 1) := dk_4 (dk_at dksX3_unkey_0 15 rfl rfl)
theorem dX3_unkey_16 : decode cX3_unkey 16 = .ok (.goto 4, 3) := dk_167 0 4 (dk_at dksX3_unkey_0 16 rfl rfl)
theorem dX3_unkey_19 : decode cX3_unkey 19 = .ok (.iconst 0, 1) := dk_3 (dk_at dksX3_unkey_0 19 rfl rfl)
theorem dX3_unkey_20 : decode cX3_unkey 20 = .ok (.istore 4, 2) := dk_54 4 (dk_at dksX3_unkey_0 20 rfl rfl)
theorem dX3_unkey_22 : decode cX3_unkey 22 = .ok (.iload 4, 2) := dk_21 4 (dk_at dksX3_unkey_0 22 rfl rfl)
theorem dX3_unkey_24 : decode cX3_unkey 24 = .ok (.ifCond .eq 12, 3) := dk_153 0 12 (dk_at dksX3_unkey_1 0 rfl rfl)
theorem dX3_unkey_27 : decode cX3_unkey 27 = .ok (.bipush 8, 2) := dk_16 8 (dk_at dksX3_unkey_1 3 rfl rfl)
theorem dX3_unkey_29 : decode cX3_unkey 29 = .ok (.iload_n 1, 1) := dk_27 (dk_at dksX3_unkey_1 5 rfl rfl)
theorem dX3_unkey_30 : decode cX3_unkey 30 = .ok (.imul, 1) := dk_104 (dk_at dksX3_unkey_1 6 rfl rfl)
theorem dX3_unkey_31 : decode cX3_unkey 31 = .ok (.iload_n 2, 1) := dk_28 (dk_at dksX3_unkey_1 7 rfl rfl)
theorem dX3_unkey_32 : decode cX3_unkey 32 = .ok (.iadd, 1) := dk_96 (dk_at dksX3_unkey_1 8 rfl rfl)
theorem dX3_unkey_33 : decode cX3_unkey 33 = .ok (.goto 4, 3) := dk_167 0 4 (dk_at dksX3_unkey_1 9 rfl rfl)
theorem dX3_unkey_36 : decode cX3_unkey 36 = .ok (.iconst 0, 1) := dk_3 (dk_at dksX3_unkey_1 12 rfl rfl)
theorem dX3_unkey_37 : decode cX3_unkey 37 = .ok (.istore 5, 2) := dk_54 5 (dk_at dksX3_unkey_1 13 rfl rfl)
theorem dX3_unkey_39 : decode cX3_unkey 39 = .ok (.aload_n 0, 1) := dk_42 (dk_at dksX3_unkey_1 15 rfl rfl)
theorem dX3_unkey_40 : decode cX3_unkey 40 = .ok (.iload 4, 2) := dk_21 4 (dk_at dksX3_unkey_1 16 rfl rfl)
theorem dX3_unkey_42 : decode cX3_unkey 42 = .ok (.iload 4, 2) := dk_21 4 (dk_at dksX3_unkey_1 18 rfl rfl)
theorem dX3_unkey_44 : decode cX3_unkey 44 = .ok (.ifCond .eq 17, 3) := dk_153 0 17 (dk_at dksX3_unkey_1 20 rfl rfl)
theorem dX3_unkey_47 : decode cX3_unkey 47 = .ok (.aload_n 0, 1) := dk_42 (dk_at dksX3_unkey_1 23 rfl rfl)
theorem dX3_unkey_48 : decode cX3_unkey 48 = .ok (.iload 5, 2) := dk_21 5 (dk_at dksX3_unkey_2 0 rfl rfl)
theorem dX3_unkey_50 : decode cX3_unkey 50 = .ok (.iload_n 3, 1) := dk_29 (dk_at dksX3_unkey_2 2 rfl rfl)
theorem dX3_unkey_51 : decode cX3_unkey 51 = .ok (.invokevirtual 149, 3) := dk_182 0 149 (dk_at dksX3_unkey_2 3 rfl rfl)
theorem dX3_unkey_54 : decode cX3_unkey 54 = .ok (.ifCond .eq 7, 3) := dk_153 0 7 (dk_at dksX3_unkey_2 6 rfl rfl)
theorem dX3_unkey_57 : decode cX3_unkey 57 = .ok (.iconst 1, 1) := dk_4 (dk_at dksX3_unkey_2 9 rfl rfl)
theorem dX3_unkey_58 : decode cX3_unkey 58 = .ok (.goto 4, 3) := dk_167 0 4 (dk_at dksX3_unkey_2 10 rfl rfl)
theorem dX3_unkey_61 : decode cX3_unkey 61 = .ok (.iconst 0, 1) := dk_3 (dk_at dksX3_unkey_2 13 rfl rfl)
theorem dX3_unkey_62 : decode cX3_unkey 62 = .ok (.iconst 1, 1) := dk_4 (dk_at dksX3_unkey_2 14 rfl rfl)
theorem dX3_unkey_63 : decode cX3_unkey 63 = .ok (.invokevirtual 100, 3) := dk_182 0 100 (dk_at dksX3_unkey_2 15 rfl rfl)
theorem dX3_unkey_66 : decode cX3_unkey 66 = .ok (.ifCond .ne 5, 3) := dk_154 0 5 (dk_at dksX3_unkey_2 18 rfl rfl)
theorem dX3_unkey_69 : decode cX3_unkey 69 = .ok (.iconst 0, 1) := dk_3 (dk_at dksX3_unkey_2 21 rfl rfl)
theorem dX3_unkey_70 : decode cX3_unkey 70 = .ok (.ireturn, 1) := dk_172 (dk_at dksX3_unkey_2 22 rfl rfl)
theorem dX3_unkey_71 : decode cX3_unkey 71 = .ok (.aload_n 0, 1) := dk_42 (dk_at dksX3_unkey_2 23 rfl rfl)
theorem dX3_unkey_72 : decode cX3_unkey 72 = .ok (.iload 5, 2) := dk_21 5 (dk_at dksX3_unkey_3 0 rfl rfl)
theorem dX3_unkey_74 : decode cX3_unkey 74 = .ok (.iload_n 3, 1) := dk_29 (dk_at dksX3_unkey_3 2 rfl rfl)
theorem dX3_unkey_75 : decode cX3_unkey 75 = .ok (.invokevirtual 140, 3) := dk_182 0 140 (dk_at dksX3_unkey_3 3 rfl rfl)
theorem dX3_unkey_78 : decode cX3_unkey 78 = .ok (.istore 6, 2) := dk_54 6 (dk_at dksX3_unkey_3 6 rfl rfl)
theorem dX3_unkey_80 : decode cX3_unkey 80 = .ok (.aload_n 0, 1) := dk_42 (dk_at dksX3_unkey_3 8 rfl rfl)
theorem dX3_unkey_81 : decode cX3_unkey 81 = .ok (.getfield 65, 3) := dk_180 0 65 (dk_at dksX3_unkey_3 9 rfl rfl)
theorem dX3_unkey_84 : decode cX3_unkey 84 = .ok (.bipush 8, 2) := dk_16 8 (dk_at dksX3_unkey_3 12 rfl rfl)
theorem dX3_unkey_86 : decode cX3_unkey 86 = .ok (.iload 5, 2) := dk_21 5 (dk_at dksX3_unkey_3 14 rfl rfl)
theorem dX3_unkey_88 : decode cX3_unkey 88 = .ok (.imul, 1) := dk_104 (dk_at dksX3_unkey_3 16 rfl rfl)
theorem dX3_unkey_89 : decode cX3_unkey 89 = .ok (.iload 6, 2) := dk_21 6 (dk_at dksX3_unkey_3 17 rfl rfl)
theorem dX3_unkey_91 : decode cX3_unkey 91 = .ok (.iadd, 1) := dk_96 (dk_at dksX3_unkey_3 19 rfl rfl)
theorem dX3_unkey_92 : decode cX3_unkey 92 = .ok (.iaload, 1) := dk_46 (dk_at dksX3_unkey_3 20 rfl rfl)
theorem dX3_unkey_93 : decode cX3_unkey 93 = .ok (.istore 7, 2) := dk_54 7 (dk_at dksX3_unkey_3 21 rfl rfl)
theorem dX3_unkey_95 : decode cX3_unkey 95 = .ok (.iload 6, 2) := dk_21 6 (dk_at dksX3_unkey_4 0 rfl rfl)
theorem dX3_unkey_97 : decode cX3_unkey 97 = .ok (.istore 8, 2) := dk_54 8 (dk_at dksX3_unkey_4 2 rfl rfl)
theorem dX3_unkey_99 : decode cX3_unkey 99 = .ok (.iload 8, 2) := dk_21 8 (dk_at dksX3_unkey_4 4 rfl rfl)
theorem dX3_unkey_101 : decode cX3_unkey 101 = .ok (.aload_n 0, 1) := dk_42 (dk_at dksX3_unkey_4 6 rfl rfl)
theorem dX3_unkey_102 : decode cX3_unkey 102 = .ok (.getfield 59, 3) := dk_180 0 59 (dk_at dksX3_unkey_4 7 rfl rfl)
theorem dX3_unkey_105 : decode cX3_unkey 105 = .ok (.iload 5, 2) := dk_21 5 (dk_at dksX3_unkey_4 10 rfl rfl)
theorem dX3_unkey_107 : decode cX3_unkey 107 = .ok (.iaload, 1) := dk_46 (dk_at dksX3_unkey_4 12 rfl rfl)
theorem dX3_unkey_108 : decode cX3_unkey 108 = .ok (.iconst 1, 1) := dk_4 (dk_at dksX3_unkey_4 13 rfl rfl)
theorem dX3_unkey_109 : decode cX3_unkey 109 = .ok (.isub, 1) := dk_100 (dk_at dksX3_unkey_4 14 rfl rfl)
theorem dX3_unkey_110 : decode cX3_unkey 110 = .ok (.if_icmp .ge 21, 3) := dk_162 0 21 (dk_at dksX3_unkey_4 15 rfl rfl)
theorem dX3_unkey_113 : decode cX3_unkey 113 = .ok (.aload_n 0, 1) := dk_42 (dk_at dksX3_unkey_4 18 rfl rfl)
theorem dX3_unkey_114 : decode cX3_unkey 114 = .ok (.iload 5, 2) := dk_21 5 (dk_at dksX3_unkey_4 19 rfl rfl)
theorem dX3_unkey_116 : decode cX3_unkey 116 = .ok (.iload 8, 2) := dk_21 8 (dk_at dksX3_unkey_4 21 rfl rfl)
theorem dX3_unkey_118 : decode cX3_unkey 118 = .ok (.iload 8, 2) := dk_21 8 (dk_at dksX3_unkey_5 0 rfl rfl)
theorem dX3_unkey_120 : decode cX3_unkey 120 = .ok (.iconst 1, 1) := dk_4 (dk_at dksX3_unkey_5 2 rfl rfl)
theorem dX3_unkey_121 : decode cX3_unkey 121 = .ok (.iadd, 1) := dk_96 (dk_at dksX3_unkey_5 3 rfl rfl)
theorem dX3_unkey_122 : decode cX3_unkey 122 = .ok (.invokevirtual 152, 3) := dk_182 0 152 (dk_at dksX3_unkey_5 4 rfl rfl)
theorem dX3_unkey_125 : decode cX3_unkey 125 = .ok (.iinc 8 1, 3) := dk_132 8 1 (dk_at dksX3_unkey_5 7 rfl rfl)
theorem dX3_unkey_128 : decode cX3_unkey 128 = .ok (.goto (-29), 3) := dk_167 255 227 (dk_at dksX3_unkey_5 10 rfl rfl)
theorem dX3_unkey_131 : decode cX3_unkey 131 = .ok (.aload_n 0, 1) := dk_42 (dk_at dksX3_unkey_5 13 rfl rfl)
theorem dX3_unkey_132 : decode cX3_unkey 132 = .ok (.getfield 59, 3) := dk_180 0 59 (dk_at dksX3_unkey_5 14 rfl rfl)
theorem dX3_unkey_135 : decode cX3_unkey 135 = .ok (.iload 5, 2) := dk_21 5 (dk_at dksX3_unkey_5 17 rfl rfl)
theorem dX3_unkey_137 : decode cX3_unkey 137 = .ok (.dup2, 1) := dk_92 (dk_at dksX3_unkey_5 19 rfl rfl)
theorem dX3_unkey_138 : decode cX3_unkey 138 = .ok (.iaload, 1) := dk_46 (dk_at dksX3_unkey_5 20 rfl rfl)
theorem dX3_unkey_139 : decode cX3_unkey 139 = .ok (.iconst 1, 1) := dk_4 (dk_at dksX3_unkey_5 21 rfl rfl)
theorem dX3_unkey_140 : decode cX3_unkey 140 = .ok (.isub, 1) := dk_100 (dk_at dksX3_unkey_5 22 rfl rfl)
theorem dX3_unkey_141 : decode cX3_unkey 141 = .ok (.iastore, 1) := dk_79 (dk_at dksX3_unkey_5 23 rfl rfl)
theorem dX3_unkey_142 : decode cX3_unkey 142 = .ok (.iload 7, 2) := dk_21 7 (dk_at dksX3_unkey_6 0 rfl rfl)
theorem dX3_unkey_144 : decode cX3_unkey 144 = .ok (.ireturn, 1) := dk_172 (dk_at dksX3_unkey_6 2 rfl rfl)
abbrev cX3_value : ByteArray := prog_20_method_36_code
def yX3_value : MethodName := ⟨RX3, "value", "(III)I"⟩
def dkwX3_value_1 : List UInt8 := [184, 0, 137, 4, 182, 0, 100, 153, 0, 13, 42, 27, 28, 29, 182, 0, 173, 167, 0, 4, 3, 172]
abbrev dktX3_value_1 : List UInt8 := dkwX3_value_1 ++ []
def dkwX3_value_0 : List UInt8 := [42, 42, 27, 182, 0, 116, 153, 0, 14, 28, 184, 0, 144, 153, 0, 7, 4, 167, 0, 4, 3, 29]
abbrev dktX3_value_0 : List UInt8 := dkwX3_value_0 ++ dktX3_value_1
theorem dksX3_value_0 : cX3_value.data.toList.drop 0 = dktX3_value_0 := by decide +kernel
theorem dksX3_value_1 : cX3_value.data.toList.drop 22 = dktX3_value_1 := dk_seg dksX3_value_0 22 rfl rfl
theorem dX3_value_0 : decode cX3_value 0 = .ok (.aload_n 0, 1) := dk_42 (dk_at dksX3_value_0 0 rfl rfl)
theorem dX3_value_1 : decode cX3_value 1 = .ok (.aload_n 0, 1) := dk_42 (dk_at dksX3_value_0 1 rfl rfl)
theorem dX3_value_2 : decode cX3_value 2 = .ok (.iload_n 1, 1) := dk_27 (dk_at dksX3_value_0 2 rfl rfl)
theorem dX3_value_3 : decode cX3_value 3 = .ok (.invokevirtual 116, 3) := dk_182 0 116 (dk_at dksX3_value_0 3 rfl rfl)
theorem dX3_value_6 : decode cX3_value 6 = .ok (.ifCond .eq 14, 3) := dk_153 0 14 (dk_at dksX3_value_0 6 rfl rfl)
theorem dX3_value_9 : decode cX3_value 9 = .ok (.iload_n 2, 1) := dk_28 (dk_at dksX3_value_0 9 rfl rfl)
theorem dX3_value_10 : decode cX3_value 10 = .ok (.invokestatic 144, 3) := dk_184 0 144 (dk_at dksX3_value_0 10 rfl rfl)
theorem dX3_value_13 : decode cX3_value 13 = .ok (.ifCond .eq 7, 3) := dk_153 0 7 (dk_at dksX3_value_0 13 rfl rfl)
theorem dX3_value_16 : decode cX3_value 16 = .ok (.iconst 1, 1) := dk_4 (dk_at dksX3_value_0 16 rfl rfl)
theorem dX3_value_17 : decode cX3_value 17 = .ok (.goto 4, 3) := dk_167 0 4 (dk_at dksX3_value_0 17 rfl rfl)
theorem dX3_value_20 : decode cX3_value 20 = .ok (.iconst 0, 1) := dk_3 (dk_at dksX3_value_0 20 rfl rfl)
theorem dX3_value_21 : decode cX3_value 21 = .ok (.iload_n 3, 1) := dk_29 (dk_at dksX3_value_0 21 rfl rfl)
theorem dX3_value_22 : decode cX3_value 22 = .ok (.invokestatic 137, 3) := dk_184 0 137 (dk_at dksX3_value_1 0 rfl rfl)
theorem dX3_value_25 : decode cX3_value 25 = .ok (.iconst 1, 1) := dk_4 (dk_at dksX3_value_1 3 rfl rfl)
theorem dX3_value_26 : decode cX3_value 26 = .ok (.invokevirtual 100, 3) := dk_182 0 100 (dk_at dksX3_value_1 4 rfl rfl)
theorem dX3_value_29 : decode cX3_value 29 = .ok (.ifCond .eq 13, 3) := dk_153 0 13 (dk_at dksX3_value_1 7 rfl rfl)
theorem dX3_value_32 : decode cX3_value 32 = .ok (.aload_n 0, 1) := dk_42 (dk_at dksX3_value_1 10 rfl rfl)
theorem dX3_value_33 : decode cX3_value 33 = .ok (.iload_n 1, 1) := dk_27 (dk_at dksX3_value_1 11 rfl rfl)
theorem dX3_value_34 : decode cX3_value 34 = .ok (.iload_n 2, 1) := dk_28 (dk_at dksX3_value_1 12 rfl rfl)
theorem dX3_value_35 : decode cX3_value 35 = .ok (.iload_n 3, 1) := dk_29 (dk_at dksX3_value_1 13 rfl rfl)
theorem dX3_value_36 : decode cX3_value 36 = .ok (.invokevirtual 173, 3) := dk_182 0 173 (dk_at dksX3_value_1 14 rfl rfl)
theorem dX3_value_39 : decode cX3_value 39 = .ok (.goto 4, 3) := dk_167 0 4 (dk_at dksX3_value_1 17 rfl rfl)
theorem dX3_value_42 : decode cX3_value 42 = .ok (.iconst 0, 1) := dk_3 (dk_at dksX3_value_1 20 rfl rfl)
theorem dX3_value_43 : decode cX3_value 43 = .ok (.ireturn, 1) := dk_172 (dk_at dksX3_value_1 21 rfl rfl)
abbrev cX3_valueOf : ByteArray := prog_20_method_35_code
def yX3_valueOf : MethodName := ⟨RX3, "valueOf", "(III)I"⟩
def dkwX3_valueOf_5 : List UInt8 := [104, 21, 5, 96, 4, 100, 29, 182, 0, 170, 172]
abbrev dktX3_valueOf_5 : List UInt8 := dkwX3_valueOf_5 ++ []
def dkwX3_valueOf_4 : List UInt8 := [153, 0, 19, 42, 180, 0, 65, 16, 8, 21, 4, 104, 21, 5, 96, 46, 167, 0, 18, 42, 16, 8, 21, 4]
abbrev dktX3_valueOf_4 : List UInt8 := dkwX3_valueOf_4 ++ dktX3_valueOf_5
def dkwX3_valueOf_3 : List UInt8 := [16, 8, 21, 4, 104, 21, 5, 96, 46, 29, 160, 0, 7, 4, 167, 0, 4, 3, 54, 6, 21, 6]
abbrev dktX3_valueOf_3 : List UInt8 := dkwX3_valueOf_3 ++ dktX3_valueOf_4
def dkwX3_valueOf_2 : List UInt8 := [180, 0, 65, 16, 8, 21, 4, 104, 21, 5, 96, 4, 100, 46, 172, 21, 5, 153, 0, 20, 42, 180, 0, 62]
abbrev dktX3_valueOf_2 : List UInt8 := dkwX3_valueOf_2 ++ dktX3_valueOf_3
def dkwX3_valueOf_1 : List UInt8 := [42, 21, 4, 29, 182, 0, 140, 54, 5, 21, 5, 42, 180, 0, 59, 21, 4, 46, 160, 0, 19, 42]
abbrev dktX3_valueOf_1 : List UInt8 := dkwX3_valueOf_1 ++ dktX3_valueOf_2
def dkwX3_valueOf_0 : List UInt8 := [16, 8, 27, 104, 28, 96, 54, 4, 42, 180, 0, 59, 21, 4, 46, 154, 0, 9, 28, 29, 184, 0, 167, 172]
abbrev dktX3_valueOf_0 : List UInt8 := dkwX3_valueOf_0 ++ dktX3_valueOf_1
theorem dksX3_valueOf_0 : cX3_valueOf.data.toList.drop 0 = dktX3_valueOf_0 := by decide +kernel
theorem dksX3_valueOf_1 : cX3_valueOf.data.toList.drop 24 = dktX3_valueOf_1 := dk_seg dksX3_valueOf_0 24 rfl rfl
theorem dksX3_valueOf_2 : cX3_valueOf.data.toList.drop 46 = dktX3_valueOf_2 := dk_seg dksX3_valueOf_1 22 rfl rfl
theorem dksX3_valueOf_3 : cX3_valueOf.data.toList.drop 70 = dktX3_valueOf_3 := dk_seg dksX3_valueOf_2 24 rfl rfl
theorem dksX3_valueOf_4 : cX3_valueOf.data.toList.drop 92 = dktX3_valueOf_4 := dk_seg dksX3_valueOf_3 22 rfl rfl
theorem dksX3_valueOf_5 : cX3_valueOf.data.toList.drop 116 = dktX3_valueOf_5 := dk_seg dksX3_valueOf_4 24 rfl rfl
theorem dX3_valueOf_0 : decode cX3_valueOf 0 = .ok (.bipush 8, 2) := dk_16 8 (dk_at dksX3_valueOf_0 0 rfl rfl)
theorem dX3_valueOf_2 : decode cX3_valueOf 2 = .ok (.iload_n 1, 1) := dk_27 (dk_at dksX3_valueOf_0 2 rfl rfl)
theorem dX3_valueOf_3 : decode cX3_valueOf 3 = .ok (.imul, 1) := dk_104 (dk_at dksX3_valueOf_0 3 rfl rfl)
theorem dX3_valueOf_4 : decode cX3_valueOf 4 = .ok (.iload_n 2, 1) := dk_28 (dk_at dksX3_valueOf_0 4 rfl rfl)
theorem dX3_valueOf_5 : decode cX3_valueOf 5 = .ok (.iadd, 1) := dk_96 (dk_at dksX3_valueOf_0 5 rfl rfl)
theorem dX3_valueOf_6 : decode cX3_valueOf 6 = .ok (.istore 4, 2) := dk_54 4 (dk_at dksX3_valueOf_0 6 rfl rfl)
theorem dX3_valueOf_8 : decode cX3_valueOf 8 = .ok (.aload_n 0, 1) := dk_42 (dk_at dksX3_valueOf_0 8 rfl rfl)
theorem dX3_valueOf_9 : decode cX3_valueOf 9 = .ok (.getfield 59, 3) := dk_180 0 59 (dk_at dksX3_valueOf_0 9 rfl rfl)
theorem dX3_valueOf_12 : decode cX3_valueOf 12 = .ok (.iload 4, 2) := dk_21 4 (dk_at dksX3_valueOf_0 12 rfl rfl)
theorem dX3_valueOf_14 : decode cX3_valueOf 14 = .ok (.iaload, 1) := dk_46 (dk_at dksX3_valueOf_0 14 rfl rfl)
theorem dX3_valueOf_15 : decode cX3_valueOf 15 = .ok (.ifCond .ne 9, 3) := dk_154 0 9 (dk_at dksX3_valueOf_0 15 rfl rfl)
theorem dX3_valueOf_18 : decode cX3_valueOf 18 = .ok (.iload_n 2, 1) := dk_28 (dk_at dksX3_valueOf_0 18 rfl rfl)
theorem dX3_valueOf_19 : decode cX3_valueOf 19 = .ok (.iload_n 3, 1) := dk_29 (dk_at dksX3_valueOf_0 19 rfl rfl)
theorem dX3_valueOf_20 : decode cX3_valueOf 20 = .ok (.invokestatic 167, 3) := dk_184 0 167 (dk_at dksX3_valueOf_0 20 rfl rfl)
theorem dX3_valueOf_23 : decode cX3_valueOf 23 = .ok (.ireturn, 1) := dk_172 (dk_at dksX3_valueOf_0 23 rfl rfl)
theorem dX3_valueOf_24 : decode cX3_valueOf 24 = .ok (.aload_n 0, 1) := dk_42 (dk_at dksX3_valueOf_1 0 rfl rfl)
theorem dX3_valueOf_25 : decode cX3_valueOf 25 = .ok (.iload 4, 2) := dk_21 4 (dk_at dksX3_valueOf_1 1 rfl rfl)
theorem dX3_valueOf_27 : decode cX3_valueOf 27 = .ok (.iload_n 3, 1) := dk_29 (dk_at dksX3_valueOf_1 3 rfl rfl)
theorem dX3_valueOf_28 : decode cX3_valueOf 28 = .ok (.invokevirtual 140, 3) := dk_182 0 140 (dk_at dksX3_valueOf_1 4 rfl rfl)
theorem dX3_valueOf_31 : decode cX3_valueOf 31 = .ok (.istore 5, 2) := dk_54 5 (dk_at dksX3_valueOf_1 7 rfl rfl)
theorem dX3_valueOf_33 : decode cX3_valueOf 33 = .ok (.iload 5, 2) := dk_21 5 (dk_at dksX3_valueOf_1 9 rfl rfl)
theorem dX3_valueOf_35 : decode cX3_valueOf 35 = .ok (.aload_n 0, 1) := dk_42 (dk_at dksX3_valueOf_1 11 rfl rfl)
theorem dX3_valueOf_36 : decode cX3_valueOf 36 = .ok (.getfield 59, 3) := dk_180 0 59 (dk_at dksX3_valueOf_1 12 rfl rfl)
theorem dX3_valueOf_39 : decode cX3_valueOf 39 = .ok (.iload 4, 2) := dk_21 4 (dk_at dksX3_valueOf_1 15 rfl rfl)
theorem dX3_valueOf_41 : decode cX3_valueOf 41 = .ok (.iaload, 1) := dk_46 (dk_at dksX3_valueOf_1 17 rfl rfl)
theorem dX3_valueOf_42 : decode cX3_valueOf 42 = .ok (.if_icmp .ne 19, 3) := dk_160 0 19 (dk_at dksX3_valueOf_1 18 rfl rfl)
theorem dX3_valueOf_45 : decode cX3_valueOf 45 = .ok (.aload_n 0, 1) := dk_42 (dk_at dksX3_valueOf_1 21 rfl rfl)
theorem dX3_valueOf_46 : decode cX3_valueOf 46 = .ok (.getfield 65, 3) := dk_180 0 65 (dk_at dksX3_valueOf_2 0 rfl rfl)
theorem dX3_valueOf_49 : decode cX3_valueOf 49 = .ok (.bipush 8, 2) := dk_16 8 (dk_at dksX3_valueOf_2 3 rfl rfl)
theorem dX3_valueOf_51 : decode cX3_valueOf 51 = .ok (.iload 4, 2) := dk_21 4 (dk_at dksX3_valueOf_2 5 rfl rfl)
theorem dX3_valueOf_53 : decode cX3_valueOf 53 = .ok (.imul, 1) := dk_104 (dk_at dksX3_valueOf_2 7 rfl rfl)
theorem dX3_valueOf_54 : decode cX3_valueOf 54 = .ok (.iload 5, 2) := dk_21 5 (dk_at dksX3_valueOf_2 8 rfl rfl)
theorem dX3_valueOf_56 : decode cX3_valueOf 56 = .ok (.iadd, 1) := dk_96 (dk_at dksX3_valueOf_2 10 rfl rfl)
theorem dX3_valueOf_57 : decode cX3_valueOf 57 = .ok (.iconst 1, 1) := dk_4 (dk_at dksX3_valueOf_2 11 rfl rfl)
theorem dX3_valueOf_58 : decode cX3_valueOf 58 = .ok (.isub, 1) := dk_100 (dk_at dksX3_valueOf_2 12 rfl rfl)
theorem dX3_valueOf_59 : decode cX3_valueOf 59 = .ok (.iaload, 1) := dk_46 (dk_at dksX3_valueOf_2 13 rfl rfl)
theorem dX3_valueOf_60 : decode cX3_valueOf 60 = .ok (.ireturn, 1) := dk_172 (dk_at dksX3_valueOf_2 14 rfl rfl)
theorem dX3_valueOf_61 : decode cX3_valueOf 61 = .ok (.iload 5, 2) := dk_21 5 (dk_at dksX3_valueOf_2 15 rfl rfl)
theorem dX3_valueOf_63 : decode cX3_valueOf 63 = .ok (.ifCond .eq 20, 3) := dk_153 0 20 (dk_at dksX3_valueOf_2 17 rfl rfl)
theorem dX3_valueOf_66 : decode cX3_valueOf 66 = .ok (.aload_n 0, 1) := dk_42 (dk_at dksX3_valueOf_2 20 rfl rfl)
theorem dX3_valueOf_67 : decode cX3_valueOf 67 = .ok (.getfield 62, 3) := dk_180 0 62 (dk_at dksX3_valueOf_2 21 rfl rfl)
theorem dX3_valueOf_70 : decode cX3_valueOf 70 = .ok (.bipush 8, 2) := dk_16 8 (dk_at dksX3_valueOf_3 0 rfl rfl)
theorem dX3_valueOf_72 : decode cX3_valueOf 72 = .ok (.iload 4, 2) := dk_21 4 (dk_at dksX3_valueOf_3 2 rfl rfl)
theorem dX3_valueOf_74 : decode cX3_valueOf 74 = .ok (.imul, 1) := dk_104 (dk_at dksX3_valueOf_3 4 rfl rfl)
theorem dX3_valueOf_75 : decode cX3_valueOf 75 = .ok (.iload 5, 2) := dk_21 5 (dk_at dksX3_valueOf_3 5 rfl rfl)
theorem dX3_valueOf_77 : decode cX3_valueOf 77 = .ok (.iadd, 1) := dk_96 (dk_at dksX3_valueOf_3 7 rfl rfl)
theorem dX3_valueOf_78 : decode cX3_valueOf 78 = .ok (.iaload, 1) := dk_46 (dk_at dksX3_valueOf_3 8 rfl rfl)
theorem dX3_valueOf_79 : decode cX3_valueOf 79 = .ok (.iload_n 3, 1) := dk_29 (dk_at dksX3_valueOf_3 9 rfl rfl)
theorem dX3_valueOf_80 : decode cX3_valueOf 80 = .ok (.if_icmp .ne 7, 3) := dk_160 0 7 (dk_at dksX3_valueOf_3 10 rfl rfl)
theorem dX3_valueOf_83 : decode cX3_valueOf 83 = .ok (.iconst 1, 1) := dk_4 (dk_at dksX3_valueOf_3 13 rfl rfl)
theorem dX3_valueOf_84 : decode cX3_valueOf 84 = .ok (.goto 4, 3) := dk_167 0 4 (dk_at dksX3_valueOf_3 14 rfl rfl)
theorem dX3_valueOf_87 : decode cX3_valueOf 87 = .ok (.iconst 0, 1) := dk_3 (dk_at dksX3_valueOf_3 17 rfl rfl)
theorem dX3_valueOf_88 : decode cX3_valueOf 88 = .ok (.istore 6, 2) := dk_54 6 (dk_at dksX3_valueOf_3 18 rfl rfl)
theorem dX3_valueOf_90 : decode cX3_valueOf 90 = .ok (.iload 6, 2) := dk_21 6 (dk_at dksX3_valueOf_3 20 rfl rfl)
theorem dX3_valueOf_92 : decode cX3_valueOf 92 = .ok (.ifCond .eq 19, 3) := dk_153 0 19 (dk_at dksX3_valueOf_4 0 rfl rfl)
theorem dX3_valueOf_95 : decode cX3_valueOf 95 = .ok (.aload_n 0, 1) := dk_42 (dk_at dksX3_valueOf_4 3 rfl rfl)
theorem dX3_valueOf_96 : decode cX3_valueOf 96 = .ok (.getfield 65, 3) := dk_180 0 65 (dk_at dksX3_valueOf_4 4 rfl rfl)
theorem dX3_valueOf_99 : decode cX3_valueOf 99 = .ok (.bipush 8, 2) := dk_16 8 (dk_at dksX3_valueOf_4 7 rfl rfl)
theorem dX3_valueOf_101 : decode cX3_valueOf 101 = .ok (.iload 4, 2) := dk_21 4 (dk_at dksX3_valueOf_4 9 rfl rfl)
theorem dX3_valueOf_103 : decode cX3_valueOf 103 = .ok (.imul, 1) := dk_104 (dk_at dksX3_valueOf_4 11 rfl rfl)
theorem dX3_valueOf_104 : decode cX3_valueOf 104 = .ok (.iload 5, 2) := dk_21 5 (dk_at dksX3_valueOf_4 12 rfl rfl)
theorem dX3_valueOf_106 : decode cX3_valueOf 106 = .ok (.iadd, 1) := dk_96 (dk_at dksX3_valueOf_4 14 rfl rfl)
theorem dX3_valueOf_107 : decode cX3_valueOf 107 = .ok (.iaload, 1) := dk_46 (dk_at dksX3_valueOf_4 15 rfl rfl)
theorem dX3_valueOf_108 : decode cX3_valueOf 108 = .ok (.goto 18, 3) := dk_167 0 18 (dk_at dksX3_valueOf_4 16 rfl rfl)
theorem dX3_valueOf_111 : decode cX3_valueOf 111 = .ok (.aload_n 0, 1) := dk_42 (dk_at dksX3_valueOf_4 19 rfl rfl)
theorem dX3_valueOf_112 : decode cX3_valueOf 112 = .ok (.bipush 8, 2) := dk_16 8 (dk_at dksX3_valueOf_4 20 rfl rfl)
theorem dX3_valueOf_114 : decode cX3_valueOf 114 = .ok (.iload 4, 2) := dk_21 4 (dk_at dksX3_valueOf_4 22 rfl rfl)
theorem dX3_valueOf_116 : decode cX3_valueOf 116 = .ok (.imul, 1) := dk_104 (dk_at dksX3_valueOf_5 0 rfl rfl)
theorem dX3_valueOf_117 : decode cX3_valueOf 117 = .ok (.iload 5, 2) := dk_21 5 (dk_at dksX3_valueOf_5 1 rfl rfl)
theorem dX3_valueOf_119 : decode cX3_valueOf 119 = .ok (.iadd, 1) := dk_96 (dk_at dksX3_valueOf_5 3 rfl rfl)
theorem dX3_valueOf_120 : decode cX3_valueOf 120 = .ok (.iconst 1, 1) := dk_4 (dk_at dksX3_valueOf_5 4 rfl rfl)
theorem dX3_valueOf_121 : decode cX3_valueOf 121 = .ok (.isub, 1) := dk_100 (dk_at dksX3_valueOf_5 5 rfl rfl)
theorem dX3_valueOf_122 : decode cX3_valueOf 122 = .ok (.iload_n 3, 1) := dk_29 (dk_at dksX3_valueOf_5 6 rfl rfl)
theorem dX3_valueOf_123 : decode cX3_valueOf 123 = .ok (.invokevirtual 170, 3) := dk_182 0 170 (dk_at dksX3_valueOf_5 7 rfl rfl)
theorem dX3_valueOf_126 : decode cX3_valueOf 126 = .ok (.ireturn, 1) := dk_172 (dk_at dksX3_valueOf_5 10 rfl rfl)
abbrev cX3_withoutKeys : ByteArray := prog_20_method_33_code
def yX3_withoutKeys : MethodName := ⟨RX3, "withoutKeys", "(II)I"⟩
def dkwX3_withoutKeys_2 : List UInt8 := [17, 3, 232, 172, 27, 172, 4, 172, 3, 172]
abbrev dktX3_withoutKeys_2 : List UInt8 := dkwX3_withoutKeys_2 ++ []
def dkwX3_withoutKeys_1 : List UInt8 := [170, 0, 0, 0, 0, 0, 47, 0, 0, 0, 2, 0, 0, 0, 7, 0, 0, 0, 39, 0, 0, 0, 47, 0, 0, 0, 47, 0, 0, 0, 39, 0, 0, 0, 43, 0, 0, 0, 45]
abbrev dktX3_withoutKeys_1 : List UInt8 := dkwX3_withoutKeys_1 ++ dktX3_withoutKeys_2
def dkwX3_withoutKeys_0 : List UInt8 := [26]
abbrev dktX3_withoutKeys_0 : List UInt8 := dkwX3_withoutKeys_0 ++ dktX3_withoutKeys_1
theorem dksX3_withoutKeys_0 : cX3_withoutKeys.data.toList.drop 0 = dktX3_withoutKeys_0 := by decide +kernel
theorem dksX3_withoutKeys_1 : cX3_withoutKeys.data.toList.drop 1 = dktX3_withoutKeys_1 := dk_seg dksX3_withoutKeys_0 1 rfl rfl
theorem dksX3_withoutKeys_2 : cX3_withoutKeys.data.toList.drop 40 = dktX3_withoutKeys_2 := dk_seg dksX3_withoutKeys_1 39 rfl rfl
theorem dX3_withoutKeys_0 : decode cX3_withoutKeys 0 = .ok (.iload_n 0, 1) := dk_26 (dk_at dksX3_withoutKeys_0 0 rfl rfl)
theorem dX3_withoutKeys_1 : decode cX3_withoutKeys 1 = .ok (.tableswitch 47 2 7 #[39, 47, 47, 39, 43, 45], 39) := by decide +kernel
theorem dX3_withoutKeys_40 : decode cX3_withoutKeys 40 = .ok (.sipush 1000, 3) := dk_17 3 232 (dk_at dksX3_withoutKeys_2 0 rfl rfl)
theorem dX3_withoutKeys_43 : decode cX3_withoutKeys 43 = .ok (.ireturn, 1) := dk_172 (dk_at dksX3_withoutKeys_2 3 rfl rfl)
theorem dX3_withoutKeys_44 : decode cX3_withoutKeys 44 = .ok (.iload_n 1, 1) := dk_27 (dk_at dksX3_withoutKeys_2 4 rfl rfl)
theorem dX3_withoutKeys_45 : decode cX3_withoutKeys 45 = .ok (.ireturn, 1) := dk_172 (dk_at dksX3_withoutKeys_2 5 rfl rfl)
theorem dX3_withoutKeys_46 : decode cX3_withoutKeys 46 = .ok (.iconst 1, 1) := dk_4 (dk_at dksX3_withoutKeys_2 6 rfl rfl)
theorem dX3_withoutKeys_47 : decode cX3_withoutKeys 47 = .ok (.ireturn, 1) := dk_172 (dk_at dksX3_withoutKeys_2 7 rfl rfl)
theorem dX3_withoutKeys_48 : decode cX3_withoutKeys 48 = .ok (.iconst 0, 1) := dk_3 (dk_at dksX3_withoutKeys_2 8 rfl rfl)
theorem dX3_withoutKeys_49 : decode cX3_withoutKeys 49 = .ok (.ireturn, 1) := dk_172 (dk_at dksX3_withoutKeys_2 9 rfl rfl)
abbrev cX3_between : ByteArray := prog_20_method_34_code
def yX3_between : MethodName := ⟨RX3, "between", "(II)I"⟩
def dkwX3_between_6 : List UInt8 := [109, 136, 54, 8, 29, 21, 4, 21, 8, 104, 17, 3, 232, 184, 0, 156, 96, 172]
abbrev dktX3_between_6 : List UInt8 := dkwX3_between_6 ++ []
def dkwX3_between_5 : List UInt8 := [54, 7, 21, 7, 133, 21, 7, 133, 105, 20, 0, 161, 20, 0, 163, 21, 7, 133, 105, 101, 105, 20, 0, 165]
abbrev dktX3_between_5 : List UInt8 := dkwX3_between_5 ++ dktX3_between_6
def dkwX3_between_4 : List UInt8 := [29, 172, 29, 21, 4, 21, 5, 104, 21, 6, 184, 0, 156, 96, 172, 17, 3, 232, 21, 5, 104, 21, 6, 108]
abbrev dktX3_between_4 : List UInt8 := dkwX3_between_4 ++ dktX3_between_5
def dkwX3_between_3 : List UInt8 := [171, 0, 0, 0, 0, 0, 0, 43, 0, 0, 0, 2, 0, 0, 0, 0, 0, 0, 0, 28, 0, 0, 0, 1, 0, 0, 0, 30]
abbrev dktX3_between_3 : List UInt8 := dkwX3_between_3 ++ dktX3_between_4
def dkwX3_between_2 : List UInt8 := [180, 0, 68, 27, 46]
abbrev dktX3_between_2 : List UInt8 := dkwX3_between_2 ++ dktX3_between_3
def dkwX3_between_1 : List UInt8 := [27, 46, 100, 54, 5, 42, 180, 0, 62, 27, 4, 96, 46, 42, 180, 0, 62, 27, 46, 100, 54, 6, 42]
abbrev dktX3_between_1 : List UInt8 := dkwX3_between_1 ++ dktX3_between_2
def dkwX3_between_0 : List UInt8 := [42, 180, 0, 65, 27, 46, 62, 42, 180, 0, 65, 27, 4, 96, 46, 29, 100, 54, 4, 28, 42, 180, 0, 62]
abbrev dktX3_between_0 : List UInt8 := dkwX3_between_0 ++ dktX3_between_1
theorem dksX3_between_0 : cX3_between.data.toList.drop 0 = dktX3_between_0 := by decide +kernel
theorem dksX3_between_1 : cX3_between.data.toList.drop 24 = dktX3_between_1 := dk_seg dksX3_between_0 24 rfl rfl
theorem dksX3_between_2 : cX3_between.data.toList.drop 47 = dktX3_between_2 := dk_seg dksX3_between_1 23 rfl rfl
theorem dksX3_between_3 : cX3_between.data.toList.drop 52 = dktX3_between_3 := dk_seg dksX3_between_2 5 rfl rfl
theorem dksX3_between_4 : cX3_between.data.toList.drop 80 = dktX3_between_4 := dk_seg dksX3_between_3 28 rfl rfl
theorem dksX3_between_5 : cX3_between.data.toList.drop 104 = dktX3_between_5 := dk_seg dksX3_between_4 24 rfl rfl
theorem dksX3_between_6 : cX3_between.data.toList.drop 128 = dktX3_between_6 := dk_seg dksX3_between_5 24 rfl rfl
theorem dX3_between_0 : decode cX3_between 0 = .ok (.aload_n 0, 1) := dk_42 (dk_at dksX3_between_0 0 rfl rfl)
theorem dX3_between_1 : decode cX3_between 1 = .ok (.getfield 65, 3) := dk_180 0 65 (dk_at dksX3_between_0 1 rfl rfl)
theorem dX3_between_4 : decode cX3_between 4 = .ok (.iload_n 1, 1) := dk_27 (dk_at dksX3_between_0 4 rfl rfl)
theorem dX3_between_5 : decode cX3_between 5 = .ok (.iaload, 1) := dk_46 (dk_at dksX3_between_0 5 rfl rfl)
theorem dX3_between_6 : decode cX3_between 6 = .ok (.istore_n 3, 1) := dk_62 (dk_at dksX3_between_0 6 rfl rfl)
theorem dX3_between_7 : decode cX3_between 7 = .ok (.aload_n 0, 1) := dk_42 (dk_at dksX3_between_0 7 rfl rfl)
theorem dX3_between_8 : decode cX3_between 8 = .ok (.getfield 65, 3) := dk_180 0 65 (dk_at dksX3_between_0 8 rfl rfl)
theorem dX3_between_11 : decode cX3_between 11 = .ok (.iload_n 1, 1) := dk_27 (dk_at dksX3_between_0 11 rfl rfl)
theorem dX3_between_12 : decode cX3_between 12 = .ok (.iconst 1, 1) := dk_4 (dk_at dksX3_between_0 12 rfl rfl)
theorem dX3_between_13 : decode cX3_between 13 = .ok (.iadd, 1) := dk_96 (dk_at dksX3_between_0 13 rfl rfl)
theorem dX3_between_14 : decode cX3_between 14 = .ok (.iaload, 1) := dk_46 (dk_at dksX3_between_0 14 rfl rfl)
theorem dX3_between_15 : decode cX3_between 15 = .ok (.iload_n 3, 1) := dk_29 (dk_at dksX3_between_0 15 rfl rfl)
theorem dX3_between_16 : decode cX3_between 16 = .ok (.isub, 1) := dk_100 (dk_at dksX3_between_0 16 rfl rfl)
theorem dX3_between_17 : decode cX3_between 17 = .ok (.istore 4, 2) := dk_54 4 (dk_at dksX3_between_0 17 rfl rfl)
theorem dX3_between_19 : decode cX3_between 19 = .ok (.iload_n 2, 1) := dk_28 (dk_at dksX3_between_0 19 rfl rfl)
theorem dX3_between_20 : decode cX3_between 20 = .ok (.aload_n 0, 1) := dk_42 (dk_at dksX3_between_0 20 rfl rfl)
theorem dX3_between_21 : decode cX3_between 21 = .ok (.getfield 62, 3) := dk_180 0 62 (dk_at dksX3_between_0 21 rfl rfl)
theorem dX3_between_24 : decode cX3_between 24 = .ok (.iload_n 1, 1) := dk_27 (dk_at dksX3_between_1 0 rfl rfl)
theorem dX3_between_25 : decode cX3_between 25 = .ok (.iaload, 1) := dk_46 (dk_at dksX3_between_1 1 rfl rfl)
theorem dX3_between_26 : decode cX3_between 26 = .ok (.isub, 1) := dk_100 (dk_at dksX3_between_1 2 rfl rfl)
theorem dX3_between_27 : decode cX3_between 27 = .ok (.istore 5, 2) := dk_54 5 (dk_at dksX3_between_1 3 rfl rfl)
theorem dX3_between_29 : decode cX3_between 29 = .ok (.aload_n 0, 1) := dk_42 (dk_at dksX3_between_1 5 rfl rfl)
theorem dX3_between_30 : decode cX3_between 30 = .ok (.getfield 62, 3) := dk_180 0 62 (dk_at dksX3_between_1 6 rfl rfl)
theorem dX3_between_33 : decode cX3_between 33 = .ok (.iload_n 1, 1) := dk_27 (dk_at dksX3_between_1 9 rfl rfl)
theorem dX3_between_34 : decode cX3_between 34 = .ok (.iconst 1, 1) := dk_4 (dk_at dksX3_between_1 10 rfl rfl)
theorem dX3_between_35 : decode cX3_between 35 = .ok (.iadd, 1) := dk_96 (dk_at dksX3_between_1 11 rfl rfl)
theorem dX3_between_36 : decode cX3_between 36 = .ok (.iaload, 1) := dk_46 (dk_at dksX3_between_1 12 rfl rfl)
theorem dX3_between_37 : decode cX3_between 37 = .ok (.aload_n 0, 1) := dk_42 (dk_at dksX3_between_1 13 rfl rfl)
theorem dX3_between_38 : decode cX3_between 38 = .ok (.getfield 62, 3) := dk_180 0 62 (dk_at dksX3_between_1 14 rfl rfl)
theorem dX3_between_41 : decode cX3_between 41 = .ok (.iload_n 1, 1) := dk_27 (dk_at dksX3_between_1 17 rfl rfl)
theorem dX3_between_42 : decode cX3_between 42 = .ok (.iaload, 1) := dk_46 (dk_at dksX3_between_1 18 rfl rfl)
theorem dX3_between_43 : decode cX3_between 43 = .ok (.isub, 1) := dk_100 (dk_at dksX3_between_1 19 rfl rfl)
theorem dX3_between_44 : decode cX3_between 44 = .ok (.istore 6, 2) := dk_54 6 (dk_at dksX3_between_1 20 rfl rfl)
theorem dX3_between_46 : decode cX3_between 46 = .ok (.aload_n 0, 1) := dk_42 (dk_at dksX3_between_1 22 rfl rfl)
theorem dX3_between_47 : decode cX3_between 47 = .ok (.getfield 68, 3) := dk_180 0 68 (dk_at dksX3_between_2 0 rfl rfl)
theorem dX3_between_50 : decode cX3_between 50 = .ok (.iload_n 1, 1) := dk_27 (dk_at dksX3_between_2 3 rfl rfl)
theorem dX3_between_51 : decode cX3_between 51 = .ok (.iaload, 1) := dk_46 (dk_at dksX3_between_2 4 rfl rfl)
theorem dX3_between_52 : decode cX3_between 52 = .ok (.lookupswitch 43 #[(0, 28), (1, 30)], 28) := by decide +kernel
theorem dX3_between_80 : decode cX3_between 80 = .ok (.iload_n 3, 1) := dk_29 (dk_at dksX3_between_4 0 rfl rfl)
theorem dX3_between_81 : decode cX3_between 81 = .ok (.ireturn, 1) := dk_172 (dk_at dksX3_between_4 1 rfl rfl)
theorem dX3_between_82 : decode cX3_between 82 = .ok (.iload_n 3, 1) := dk_29 (dk_at dksX3_between_4 2 rfl rfl)
theorem dX3_between_83 : decode cX3_between 83 = .ok (.iload 4, 2) := dk_21 4 (dk_at dksX3_between_4 3 rfl rfl)
theorem dX3_between_85 : decode cX3_between 85 = .ok (.iload 5, 2) := dk_21 5 (dk_at dksX3_between_4 5 rfl rfl)
theorem dX3_between_87 : decode cX3_between 87 = .ok (.imul, 1) := dk_104 (dk_at dksX3_between_4 7 rfl rfl)
theorem dX3_between_88 : decode cX3_between 88 = .ok (.iload 6, 2) := dk_21 6 (dk_at dksX3_between_4 8 rfl rfl)
theorem dX3_between_90 : decode cX3_between 90 = .ok (.invokestatic 156, 3) := dk_184 0 156 (dk_at dksX3_between_4 10 rfl rfl)
theorem dX3_between_93 : decode cX3_between 93 = .ok (.iadd, 1) := dk_96 (dk_at dksX3_between_4 13 rfl rfl)
theorem dX3_between_94 : decode cX3_between 94 = .ok (.ireturn, 1) := dk_172 (dk_at dksX3_between_4 14 rfl rfl)
theorem dX3_between_95 : decode cX3_between 95 = .ok (.sipush 1000, 3) := dk_17 3 232 (dk_at dksX3_between_4 15 rfl rfl)
theorem dX3_between_98 : decode cX3_between 98 = .ok (.iload 5, 2) := dk_21 5 (dk_at dksX3_between_4 18 rfl rfl)
theorem dX3_between_100 : decode cX3_between 100 = .ok (.imul, 1) := dk_104 (dk_at dksX3_between_4 20 rfl rfl)
theorem dX3_between_101 : decode cX3_between 101 = .ok (.iload 6, 2) := dk_21 6 (dk_at dksX3_between_4 21 rfl rfl)
theorem dX3_between_103 : decode cX3_between 103 = .ok (.idiv, 1) := dk_108 (dk_at dksX3_between_4 23 rfl rfl)
theorem dX3_between_104 : decode cX3_between 104 = .ok (.istore 7, 2) := dk_54 7 (dk_at dksX3_between_5 0 rfl rfl)
theorem dX3_between_106 : decode cX3_between 106 = .ok (.iload 7, 2) := dk_21 7 (dk_at dksX3_between_5 2 rfl rfl)
theorem dX3_between_108 : decode cX3_between 108 = .ok (.i2l, 1) := dk_133 (dk_at dksX3_between_5 4 rfl rfl)
theorem dX3_between_109 : decode cX3_between 109 = .ok (.iload 7, 2) := dk_21 7 (dk_at dksX3_between_5 5 rfl rfl)
theorem dX3_between_111 : decode cX3_between 111 = .ok (.i2l, 1) := dk_133 (dk_at dksX3_between_5 7 rfl rfl)
theorem dX3_between_112 : decode cX3_between 112 = .ok (.lmul, 1) := dk_105 (dk_at dksX3_between_5 8 rfl rfl)
theorem dX3_between_113 : decode cX3_between 113 = .ok (.ldc2_w 161, 3) := dk_20 0 161 (dk_at dksX3_between_5 9 rfl rfl)
theorem dX3_between_116 : decode cX3_between 116 = .ok (.ldc2_w 163, 3) := dk_20 0 163 (dk_at dksX3_between_5 12 rfl rfl)
theorem dX3_between_119 : decode cX3_between 119 = .ok (.iload 7, 2) := dk_21 7 (dk_at dksX3_between_5 15 rfl rfl)
theorem dX3_between_121 : decode cX3_between 121 = .ok (.i2l, 1) := dk_133 (dk_at dksX3_between_5 17 rfl rfl)
theorem dX3_between_122 : decode cX3_between 122 = .ok (.lmul, 1) := dk_105 (dk_at dksX3_between_5 18 rfl rfl)
theorem dX3_between_123 : decode cX3_between 123 = .ok (.lsub, 1) := dk_101 (dk_at dksX3_between_5 19 rfl rfl)
theorem dX3_between_124 : decode cX3_between 124 = .ok (.lmul, 1) := dk_105 (dk_at dksX3_between_5 20 rfl rfl)
theorem dX3_between_125 : decode cX3_between 125 = .ok (.ldc2_w 165, 3) := dk_20 0 165 (dk_at dksX3_between_5 21 rfl rfl)
theorem dX3_between_128 : decode cX3_between 128 = .ok (.ldiv, 1) := dk_109 (dk_at dksX3_between_6 0 rfl rfl)
theorem dX3_between_129 : decode cX3_between 129 = .ok (.l2i, 1) := dk_136 (dk_at dksX3_between_6 1 rfl rfl)
theorem dX3_between_130 : decode cX3_between 130 = .ok (.istore 8, 2) := dk_54 8 (dk_at dksX3_between_6 2 rfl rfl)
theorem dX3_between_132 : decode cX3_between 132 = .ok (.iload_n 3, 1) := dk_29 (dk_at dksX3_between_6 4 rfl rfl)
theorem dX3_between_133 : decode cX3_between 133 = .ok (.iload 4, 2) := dk_21 4 (dk_at dksX3_between_6 5 rfl rfl)
theorem dX3_between_135 : decode cX3_between 135 = .ok (.iload 8, 2) := dk_21 8 (dk_at dksX3_between_6 7 rfl rfl)
theorem dX3_between_137 : decode cX3_between 137 = .ok (.imul, 1) := dk_104 (dk_at dksX3_between_6 9 rfl rfl)
theorem dX3_between_138 : decode cX3_between 138 = .ok (.sipush 1000, 3) := dk_17 3 232 (dk_at dksX3_between_6 10 rfl rfl)
theorem dX3_between_141 : decode cX3_between 141 = .ok (.invokestatic 156, 3) := dk_184 0 156 (dk_at dksX3_between_6 13 rfl rfl)
theorem dX3_between_144 : decode cX3_between 144 = .ok (.iadd, 1) := dk_96 (dk_at dksX3_between_6 16 rfl rfl)
theorem dX3_between_145 : decode cX3_between 145 = .ok (.ireturn, 1) := dk_172 (dk_at dksX3_between_6 17 rfl rfl)
abbrev cX3_map : ByteArray := prog_20_method_40_code
def yX3_map : MethodName := ⟨RX3, "map", "(IIIIZ)J"⟩
def dkwX3_map_3 : List UInt8 := [21, 5, 153, 0, 10, 42, 180, 0, 184, 167, 0, 7, 42, 180, 0, 180, 173]
abbrev dktX3_map_3 : List UInt8 := dkwX3_map_3 ++ []
def dkwX3_map_2 : List UInt8 := [182, 0, 100, 154, 0, 5, 9, 173, 42, 29, 133, 21, 4, 133, 182, 0, 196, 42, 27, 28, 182, 0, 200]
abbrev dktX3_map_2 : List UInt8 := dkwX3_map_2 ++ dktX3_map_3
def dkwX3_map_1 : List UInt8 := [184, 0, 96, 153, 0, 7, 4, 167, 0, 4, 3, 54, 6, 42, 42, 27, 182, 0, 116, 21, 6, 4]
abbrev dktX3_map_1 : List UInt8 := dkwX3_map_1 ++ dktX3_map_2
def dkwX3_map_0 : List UInt8 := [28, 184, 0, 137, 153, 0, 30, 29, 18, 147, 18, 148, 184, 0, 96, 153, 0, 19, 21, 4, 18, 147, 18, 148]
abbrev dktX3_map_0 : List UInt8 := dkwX3_map_0 ++ dktX3_map_1
theorem dksX3_map_0 : cX3_map.data.toList.drop 0 = dktX3_map_0 := by decide +kernel
theorem dksX3_map_1 : cX3_map.data.toList.drop 24 = dktX3_map_1 := dk_seg dksX3_map_0 24 rfl rfl
theorem dksX3_map_2 : cX3_map.data.toList.drop 46 = dktX3_map_2 := dk_seg dksX3_map_1 22 rfl rfl
theorem dksX3_map_3 : cX3_map.data.toList.drop 69 = dktX3_map_3 := dk_seg dksX3_map_2 23 rfl rfl
theorem dX3_map_0 : decode cX3_map 0 = .ok (.iload_n 2, 1) := dk_28 (dk_at dksX3_map_0 0 rfl rfl)
theorem dX3_map_1 : decode cX3_map 1 = .ok (.invokestatic 137, 3) := dk_184 0 137 (dk_at dksX3_map_0 1 rfl rfl)
theorem dX3_map_4 : decode cX3_map 4 = .ok (.ifCond .eq 30, 3) := dk_153 0 30 (dk_at dksX3_map_0 4 rfl rfl)
theorem dX3_map_7 : decode cX3_map 7 = .ok (.iload_n 3, 1) := dk_29 (dk_at dksX3_map_0 7 rfl rfl)
theorem dX3_map_8 : decode cX3_map 8 = .ok (.ldc 147, 2) := dk_18 147 (dk_at dksX3_map_0 8 rfl rfl)
theorem dX3_map_10 : decode cX3_map 10 = .ok (.ldc 148, 2) := dk_18 148 (dk_at dksX3_map_0 10 rfl rfl)
theorem dX3_map_12 : decode cX3_map 12 = .ok (.invokestatic 96, 3) := dk_184 0 96 (dk_at dksX3_map_0 12 rfl rfl)
theorem dX3_map_15 : decode cX3_map 15 = .ok (.ifCond .eq 19, 3) := dk_153 0 19 (dk_at dksX3_map_0 15 rfl rfl)
theorem dX3_map_18 : decode cX3_map 18 = .ok (.iload 4, 2) := dk_21 4 (dk_at dksX3_map_0 18 rfl rfl)
theorem dX3_map_20 : decode cX3_map 20 = .ok (.ldc 147, 2) := dk_18 147 (dk_at dksX3_map_0 20 rfl rfl)
theorem dX3_map_22 : decode cX3_map 22 = .ok (.ldc 148, 2) := dk_18 148 (dk_at dksX3_map_0 22 rfl rfl)
theorem dX3_map_24 : decode cX3_map 24 = .ok (.invokestatic 96, 3) := dk_184 0 96 (dk_at dksX3_map_1 0 rfl rfl)
theorem dX3_map_27 : decode cX3_map 27 = .ok (.ifCond .eq 7, 3) := dk_153 0 7 (dk_at dksX3_map_1 3 rfl rfl)
theorem dX3_map_30 : decode cX3_map 30 = .ok (.iconst 1, 1) := dk_4 (dk_at dksX3_map_1 6 rfl rfl)
theorem dX3_map_31 : decode cX3_map 31 = .ok (.goto 4, 3) := dk_167 0 4 (dk_at dksX3_map_1 7 rfl rfl)
theorem dX3_map_34 : decode cX3_map 34 = .ok (.iconst 0, 1) := dk_3 (dk_at dksX3_map_1 10 rfl rfl)
theorem dX3_map_35 : decode cX3_map 35 = .ok (.istore 6, 2) := dk_54 6 (dk_at dksX3_map_1 11 rfl rfl)
theorem dX3_map_37 : decode cX3_map 37 = .ok (.aload_n 0, 1) := dk_42 (dk_at dksX3_map_1 13 rfl rfl)
theorem dX3_map_38 : decode cX3_map 38 = .ok (.aload_n 0, 1) := dk_42 (dk_at dksX3_map_1 14 rfl rfl)
theorem dX3_map_39 : decode cX3_map 39 = .ok (.iload_n 1, 1) := dk_27 (dk_at dksX3_map_1 15 rfl rfl)
theorem dX3_map_40 : decode cX3_map 40 = .ok (.invokevirtual 116, 3) := dk_182 0 116 (dk_at dksX3_map_1 16 rfl rfl)
theorem dX3_map_43 : decode cX3_map 43 = .ok (.iload 6, 2) := dk_21 6 (dk_at dksX3_map_1 19 rfl rfl)
theorem dX3_map_45 : decode cX3_map 45 = .ok (.iconst 1, 1) := dk_4 (dk_at dksX3_map_1 21 rfl rfl)
theorem dX3_map_46 : decode cX3_map 46 = .ok (.invokevirtual 100, 3) := dk_182 0 100 (dk_at dksX3_map_2 0 rfl rfl)
theorem dX3_map_49 : decode cX3_map 49 = .ok (.ifCond .ne 5, 3) := dk_154 0 5 (dk_at dksX3_map_2 3 rfl rfl)
theorem dX3_map_52 : decode cX3_map 52 = .ok (.lconst 0, 1) := dk_9 (dk_at dksX3_map_2 6 rfl rfl)
theorem dX3_map_53 : decode cX3_map 53 = .ok (.lreturn, 1) := dk_173 (dk_at dksX3_map_2 7 rfl rfl)
theorem dX3_map_54 : decode cX3_map 54 = .ok (.aload_n 0, 1) := dk_42 (dk_at dksX3_map_2 8 rfl rfl)
theorem dX3_map_55 : decode cX3_map 55 = .ok (.iload_n 3, 1) := dk_29 (dk_at dksX3_map_2 9 rfl rfl)
theorem dX3_map_56 : decode cX3_map 56 = .ok (.i2l, 1) := dk_133 (dk_at dksX3_map_2 10 rfl rfl)
theorem dX3_map_57 : decode cX3_map 57 = .ok (.iload 4, 2) := dk_21 4 (dk_at dksX3_map_2 11 rfl rfl)
theorem dX3_map_59 : decode cX3_map 59 = .ok (.i2l, 1) := dk_133 (dk_at dksX3_map_2 13 rfl rfl)
theorem dX3_map_60 : decode cX3_map 60 = .ok (.invokevirtual 196, 3) := dk_182 0 196 (dk_at dksX3_map_2 14 rfl rfl)
theorem dX3_map_63 : decode cX3_map 63 = .ok (.aload_n 0, 1) := dk_42 (dk_at dksX3_map_2 17 rfl rfl)
theorem dX3_map_64 : decode cX3_map 64 = .ok (.iload_n 1, 1) := dk_27 (dk_at dksX3_map_2 18 rfl rfl)
theorem dX3_map_65 : decode cX3_map 65 = .ok (.iload_n 2, 1) := dk_28 (dk_at dksX3_map_2 19 rfl rfl)
theorem dX3_map_66 : decode cX3_map 66 = .ok (.invokevirtual 200, 3) := dk_182 0 200 (dk_at dksX3_map_2 20 rfl rfl)
theorem dX3_map_69 : decode cX3_map 69 = .ok (.iload 5, 2) := dk_21 5 (dk_at dksX3_map_3 0 rfl rfl)
theorem dX3_map_71 : decode cX3_map 71 = .ok (.ifCond .eq 10, 3) := dk_153 0 10 (dk_at dksX3_map_3 2 rfl rfl)
theorem dX3_map_74 : decode cX3_map 74 = .ok (.aload_n 0, 1) := dk_42 (dk_at dksX3_map_3 5 rfl rfl)
theorem dX3_map_75 : decode cX3_map 75 = .ok (.getfield 184, 3) := dk_180 0 184 (dk_at dksX3_map_3 6 rfl rfl)
theorem dX3_map_78 : decode cX3_map 78 = .ok (.goto 7, 3) := dk_167 0 7 (dk_at dksX3_map_3 9 rfl rfl)
theorem dX3_map_81 : decode cX3_map 81 = .ok (.aload_n 0, 1) := dk_42 (dk_at dksX3_map_3 12 rfl rfl)
theorem dX3_map_82 : decode cX3_map 82 = .ok (.getfield 180, 3) := dk_180 0 180 (dk_at dksX3_map_3 13 rfl rfl)
theorem dX3_map_85 : decode cX3_map 85 = .ok (.lreturn, 1) := dk_173 (dk_at dksX3_map_3 16 rfl rfl)
abbrev cX3_begin : ByteArray := prog_20_method_39_code
def yX3_begin : MethodName := ⟨RX3, "begin", "(JJ)V"⟩
def dkwX3_begin_0 : List UInt8 := [42, 31, 181, 0, 180, 42, 33, 181, 0, 184, 177]
abbrev dktX3_begin_0 : List UInt8 := dkwX3_begin_0 ++ []
theorem dksX3_begin_0 : cX3_begin.data.toList.drop 0 = dktX3_begin_0 := by decide +kernel
theorem dX3_begin_0 : decode cX3_begin 0 = .ok (.aload_n 0, 1) := dk_42 (dk_at dksX3_begin_0 0 rfl rfl)
theorem dX3_begin_1 : decode cX3_begin 1 = .ok (.lload_n 1, 1) := dk_31 (dk_at dksX3_begin_0 1 rfl rfl)
theorem dX3_begin_2 : decode cX3_begin 2 = .ok (.putfield 180, 3) := dk_181 0 180 (dk_at dksX3_begin_0 2 rfl rfl)
theorem dX3_begin_5 : decode cX3_begin 5 = .ok (.aload_n 0, 1) := dk_42 (dk_at dksX3_begin_0 5 rfl rfl)
theorem dX3_begin_6 : decode cX3_begin 6 = .ok (.lload_n 3, 1) := dk_33 (dk_at dksX3_begin_0 6 rfl rfl)
theorem dX3_begin_7 : decode cX3_begin 7 = .ok (.putfield 184, 3) := dk_181 0 184 (dk_at dksX3_begin_0 7 rfl rfl)
theorem dX3_begin_10 : decode cX3_begin 10 = .ok (.return_, 1) := dk_177 (dk_at dksX3_begin_0 10 rfl rfl)
abbrev cX3_mapUp : ByteArray := prog_20_method_38_code
def yX3_mapUp : MethodName := ⟨RX3, "mapUp", "(II)V"⟩
def dkwX3_mapUp_0 : List UInt8 := [27, 62, 29, 2, 159, 0, 19, 42, 29, 28, 182, 0, 192, 42, 180, 0, 31, 29, 46, 62, 167, 255, 238, 177]
abbrev dktX3_mapUp_0 : List UInt8 := dkwX3_mapUp_0 ++ []
theorem dksX3_mapUp_0 : cX3_mapUp.data.toList.drop 0 = dktX3_mapUp_0 := by decide +kernel
theorem dX3_mapUp_0 : decode cX3_mapUp 0 = .ok (.iload_n 1, 1) := dk_27 (dk_at dksX3_mapUp_0 0 rfl rfl)
theorem dX3_mapUp_1 : decode cX3_mapUp 1 = .ok (.istore_n 3, 1) := dk_62 (dk_at dksX3_mapUp_0 1 rfl rfl)
theorem dX3_mapUp_2 : decode cX3_mapUp 2 = .ok (.iload_n 3, 1) := dk_29 (dk_at dksX3_mapUp_0 2 rfl rfl)
theorem dX3_mapUp_3 : decode cX3_mapUp 3 = .ok (.iconst (-1), 1) := dk_2 (dk_at dksX3_mapUp_0 3 rfl rfl)
theorem dX3_mapUp_4 : decode cX3_mapUp 4 = .ok (.if_icmp .eq 19, 3) := dk_159 0 19 (dk_at dksX3_mapUp_0 4 rfl rfl)
theorem dX3_mapUp_7 : decode cX3_mapUp 7 = .ok (.aload_n 0, 1) := dk_42 (dk_at dksX3_mapUp_0 7 rfl rfl)
theorem dX3_mapUp_8 : decode cX3_mapUp 8 = .ok (.iload_n 3, 1) := dk_29 (dk_at dksX3_mapUp_0 8 rfl rfl)
theorem dX3_mapUp_9 : decode cX3_mapUp 9 = .ok (.iload_n 2, 1) := dk_28 (dk_at dksX3_mapUp_0 9 rfl rfl)
theorem dX3_mapUp_10 : decode cX3_mapUp 10 = .ok (.invokevirtual 192, 3) := dk_182 0 192 (dk_at dksX3_mapUp_0 10 rfl rfl)
theorem dX3_mapUp_13 : decode cX3_mapUp 13 = .ok (.aload_n 0, 1) := dk_42 (dk_at dksX3_mapUp_0 13 rfl rfl)
theorem dX3_mapUp_14 : decode cX3_mapUp 14 = .ok (.getfield 31, 3) := dk_180 0 31 (dk_at dksX3_mapUp_0 14 rfl rfl)
theorem dX3_mapUp_17 : decode cX3_mapUp 17 = .ok (.iload_n 3, 1) := dk_29 (dk_at dksX3_mapUp_0 17 rfl rfl)
theorem dX3_mapUp_18 : decode cX3_mapUp 18 = .ok (.iaload, 1) := dk_46 (dk_at dksX3_mapUp_0 18 rfl rfl)
theorem dX3_mapUp_19 : decode cX3_mapUp 19 = .ok (.istore_n 3, 1) := dk_62 (dk_at dksX3_mapUp_0 19 rfl rfl)
theorem dX3_mapUp_20 : decode cX3_mapUp 20 = .ok (.goto (-18), 3) := dk_167 255 238 (dk_at dksX3_mapUp_0 20 rfl rfl)
theorem dX3_mapUp_23 : decode cX3_mapUp 23 = .ok (.return_, 1) := dk_177 (dk_at dksX3_mapUp_0 23 rfl rfl)
abbrev cX3_mapBy : ByteArray := prog_20_method_37_code
def yX3_mapBy : MethodName := ⟨RX3, "mapBy", "(II)V"⟩
def dkwX3_mapBy_4 : List UInt8 := [20, 0, 187, 184, 0, 189, 42, 27, 4, 28, 182, 0, 173, 133, 97, 181, 0, 184, 177]
abbrev dktX3_mapBy_4 : List UInt8 := dkwX3_mapBy_4 ++ []
def dkwX3_mapBy_3 : List UInt8 := [184, 0, 189, 42, 27, 3, 28, 182, 0, 173, 133, 97, 181, 0, 180, 42, 42, 180, 0, 184, 22, 4, 105]
abbrev dktX3_mapBy_3 : List UInt8 := dkwX3_mapBy_3 ++ dktX3_mapBy_4
def dkwX3_mapBy_2 : List UInt8 := [167, 255, 226, 42, 27, 5, 28, 182, 0, 173, 133, 55, 4, 42, 42, 180, 0, 180, 22, 4, 105, 20, 0, 187]
abbrev dktX3_mapBy_2 : List UInt8 := dkwX3_mapBy_2 ++ dktX3_mapBy_3
def dkwX3_mapBy_1 : List UInt8 := [180, 0, 180, 55, 5, 42, 42, 180, 0, 184, 117, 181, 0, 180, 42, 22, 5, 181, 0, 184, 132, 4, 1]
abbrev dktX3_mapBy_1 : List UInt8 := dkwX3_mapBy_1 ++ dktX3_mapBy_2
def dkwX3_mapBy_0 : List UInt8 := [42, 27, 6, 28, 182, 0, 173, 7, 184, 0, 177, 62, 3, 54, 4, 21, 4, 29, 162, 0, 30, 42]
abbrev dktX3_mapBy_0 : List UInt8 := dkwX3_mapBy_0 ++ dktX3_mapBy_1
theorem dksX3_mapBy_0 : cX3_mapBy.data.toList.drop 0 = dktX3_mapBy_0 := by decide +kernel
theorem dksX3_mapBy_1 : cX3_mapBy.data.toList.drop 22 = dktX3_mapBy_1 := dk_seg dksX3_mapBy_0 22 rfl rfl
theorem dksX3_mapBy_2 : cX3_mapBy.data.toList.drop 45 = dktX3_mapBy_2 := dk_seg dksX3_mapBy_1 23 rfl rfl
theorem dksX3_mapBy_3 : cX3_mapBy.data.toList.drop 69 = dktX3_mapBy_3 := dk_seg dksX3_mapBy_2 24 rfl rfl
theorem dksX3_mapBy_4 : cX3_mapBy.data.toList.drop 92 = dktX3_mapBy_4 := dk_seg dksX3_mapBy_3 23 rfl rfl
theorem dX3_mapBy_0 : decode cX3_mapBy 0 = .ok (.aload_n 0, 1) := dk_42 (dk_at dksX3_mapBy_0 0 rfl rfl)
theorem dX3_mapBy_1 : decode cX3_mapBy 1 = .ok (.iload_n 1, 1) := dk_27 (dk_at dksX3_mapBy_0 1 rfl rfl)
theorem dX3_mapBy_2 : decode cX3_mapBy 2 = .ok (.iconst 3, 1) := dk_6 (dk_at dksX3_mapBy_0 2 rfl rfl)
theorem dX3_mapBy_3 : decode cX3_mapBy 3 = .ok (.iload_n 2, 1) := dk_28 (dk_at dksX3_mapBy_0 3 rfl rfl)
theorem dX3_mapBy_4 : decode cX3_mapBy 4 = .ok (.invokevirtual 173, 3) := dk_182 0 173 (dk_at dksX3_mapBy_0 4 rfl rfl)
theorem dX3_mapBy_7 : decode cX3_mapBy 7 = .ok (.iconst 4, 1) := dk_7 (dk_at dksX3_mapBy_0 7 rfl rfl)
theorem dX3_mapBy_8 : decode cX3_mapBy 8 = .ok (.invokestatic 177, 3) := dk_184 0 177 (dk_at dksX3_mapBy_0 8 rfl rfl)
theorem dX3_mapBy_11 : decode cX3_mapBy 11 = .ok (.istore_n 3, 1) := dk_62 (dk_at dksX3_mapBy_0 11 rfl rfl)
theorem dX3_mapBy_12 : decode cX3_mapBy 12 = .ok (.iconst 0, 1) := dk_3 (dk_at dksX3_mapBy_0 12 rfl rfl)
theorem dX3_mapBy_13 : decode cX3_mapBy 13 = .ok (.istore 4, 2) := dk_54 4 (dk_at dksX3_mapBy_0 13 rfl rfl)
theorem dX3_mapBy_15 : decode cX3_mapBy 15 = .ok (.iload 4, 2) := dk_21 4 (dk_at dksX3_mapBy_0 15 rfl rfl)
theorem dX3_mapBy_17 : decode cX3_mapBy 17 = .ok (.iload_n 3, 1) := dk_29 (dk_at dksX3_mapBy_0 17 rfl rfl)
theorem dX3_mapBy_18 : decode cX3_mapBy 18 = .ok (.if_icmp .ge 30, 3) := dk_162 0 30 (dk_at dksX3_mapBy_0 18 rfl rfl)
theorem dX3_mapBy_21 : decode cX3_mapBy 21 = .ok (.aload_n 0, 1) := dk_42 (dk_at dksX3_mapBy_0 21 rfl rfl)
theorem dX3_mapBy_22 : decode cX3_mapBy 22 = .ok (.getfield 180, 3) := dk_180 0 180 (dk_at dksX3_mapBy_1 0 rfl rfl)
theorem dX3_mapBy_25 : decode cX3_mapBy 25 = .ok (.lstore 5, 2) := dk_55 5 (dk_at dksX3_mapBy_1 3 rfl rfl)
theorem dX3_mapBy_27 : decode cX3_mapBy 27 = .ok (.aload_n 0, 1) := dk_42 (dk_at dksX3_mapBy_1 5 rfl rfl)
theorem dX3_mapBy_28 : decode cX3_mapBy 28 = .ok (.aload_n 0, 1) := dk_42 (dk_at dksX3_mapBy_1 6 rfl rfl)
theorem dX3_mapBy_29 : decode cX3_mapBy 29 = .ok (.getfield 184, 3) := dk_180 0 184 (dk_at dksX3_mapBy_1 7 rfl rfl)
theorem dX3_mapBy_32 : decode cX3_mapBy 32 = .ok (.lneg, 1) := dk_117 (dk_at dksX3_mapBy_1 10 rfl rfl)
theorem dX3_mapBy_33 : decode cX3_mapBy 33 = .ok (.putfield 180, 3) := dk_181 0 180 (dk_at dksX3_mapBy_1 11 rfl rfl)
theorem dX3_mapBy_36 : decode cX3_mapBy 36 = .ok (.aload_n 0, 1) := dk_42 (dk_at dksX3_mapBy_1 14 rfl rfl)
theorem dX3_mapBy_37 : decode cX3_mapBy 37 = .ok (.lload 5, 2) := dk_22 5 (dk_at dksX3_mapBy_1 15 rfl rfl)
theorem dX3_mapBy_39 : decode cX3_mapBy 39 = .ok (.putfield 184, 3) := dk_181 0 184 (dk_at dksX3_mapBy_1 17 rfl rfl)
theorem dX3_mapBy_42 : decode cX3_mapBy 42 = .ok (.iinc 4 1, 3) := dk_132 4 1 (dk_at dksX3_mapBy_1 20 rfl rfl)
theorem dX3_mapBy_45 : decode cX3_mapBy 45 = .ok (.goto (-30), 3) := dk_167 255 226 (dk_at dksX3_mapBy_2 0 rfl rfl)
theorem dX3_mapBy_48 : decode cX3_mapBy 48 = .ok (.aload_n 0, 1) := dk_42 (dk_at dksX3_mapBy_2 3 rfl rfl)
theorem dX3_mapBy_49 : decode cX3_mapBy 49 = .ok (.iload_n 1, 1) := dk_27 (dk_at dksX3_mapBy_2 4 rfl rfl)
theorem dX3_mapBy_50 : decode cX3_mapBy 50 = .ok (.iconst 2, 1) := dk_5 (dk_at dksX3_mapBy_2 5 rfl rfl)
theorem dX3_mapBy_51 : decode cX3_mapBy 51 = .ok (.iload_n 2, 1) := dk_28 (dk_at dksX3_mapBy_2 6 rfl rfl)
theorem dX3_mapBy_52 : decode cX3_mapBy 52 = .ok (.invokevirtual 173, 3) := dk_182 0 173 (dk_at dksX3_mapBy_2 7 rfl rfl)
theorem dX3_mapBy_55 : decode cX3_mapBy 55 = .ok (.i2l, 1) := dk_133 (dk_at dksX3_mapBy_2 10 rfl rfl)
theorem dX3_mapBy_56 : decode cX3_mapBy 56 = .ok (.lstore 4, 2) := dk_55 4 (dk_at dksX3_mapBy_2 11 rfl rfl)
theorem dX3_mapBy_58 : decode cX3_mapBy 58 = .ok (.aload_n 0, 1) := dk_42 (dk_at dksX3_mapBy_2 13 rfl rfl)
theorem dX3_mapBy_59 : decode cX3_mapBy 59 = .ok (.aload_n 0, 1) := dk_42 (dk_at dksX3_mapBy_2 14 rfl rfl)
theorem dX3_mapBy_60 : decode cX3_mapBy 60 = .ok (.getfield 180, 3) := dk_180 0 180 (dk_at dksX3_mapBy_2 15 rfl rfl)
theorem dX3_mapBy_63 : decode cX3_mapBy 63 = .ok (.lload 4, 2) := dk_22 4 (dk_at dksX3_mapBy_2 18 rfl rfl)
theorem dX3_mapBy_65 : decode cX3_mapBy 65 = .ok (.lmul, 1) := dk_105 (dk_at dksX3_mapBy_2 20 rfl rfl)
theorem dX3_mapBy_66 : decode cX3_mapBy 66 = .ok (.ldc2_w 187, 3) := dk_20 0 187 (dk_at dksX3_mapBy_2 21 rfl rfl)
theorem dX3_mapBy_69 : decode cX3_mapBy 69 = .ok (.invokestatic 189, 3) := dk_184 0 189 (dk_at dksX3_mapBy_3 0 rfl rfl)
theorem dX3_mapBy_72 : decode cX3_mapBy 72 = .ok (.aload_n 0, 1) := dk_42 (dk_at dksX3_mapBy_3 3 rfl rfl)
theorem dX3_mapBy_73 : decode cX3_mapBy 73 = .ok (.iload_n 1, 1) := dk_27 (dk_at dksX3_mapBy_3 4 rfl rfl)
theorem dX3_mapBy_74 : decode cX3_mapBy 74 = .ok (.iconst 0, 1) := dk_3 (dk_at dksX3_mapBy_3 5 rfl rfl)
theorem dX3_mapBy_75 : decode cX3_mapBy 75 = .ok (.iload_n 2, 1) := dk_28 (dk_at dksX3_mapBy_3 6 rfl rfl)
theorem dX3_mapBy_76 : decode cX3_mapBy 76 = .ok (.invokevirtual 173, 3) := dk_182 0 173 (dk_at dksX3_mapBy_3 7 rfl rfl)
theorem dX3_mapBy_79 : decode cX3_mapBy 79 = .ok (.i2l, 1) := dk_133 (dk_at dksX3_mapBy_3 10 rfl rfl)
theorem dX3_mapBy_80 : decode cX3_mapBy 80 = .ok (.ladd, 1) := dk_97 (dk_at dksX3_mapBy_3 11 rfl rfl)
theorem dX3_mapBy_81 : decode cX3_mapBy 81 = .ok (.putfield 180, 3) := dk_181 0 180 (dk_at dksX3_mapBy_3 12 rfl rfl)
theorem dX3_mapBy_84 : decode cX3_mapBy 84 = .ok (.aload_n 0, 1) := dk_42 (dk_at dksX3_mapBy_3 15 rfl rfl)
theorem dX3_mapBy_85 : decode cX3_mapBy 85 = .ok (.aload_n 0, 1) := dk_42 (dk_at dksX3_mapBy_3 16 rfl rfl)
theorem dX3_mapBy_86 : decode cX3_mapBy 86 = .ok (.getfield 184, 3) := dk_180 0 184 (dk_at dksX3_mapBy_3 17 rfl rfl)
theorem dX3_mapBy_89 : decode cX3_mapBy 89 = .ok (.lload 4, 2) := dk_22 4 (dk_at dksX3_mapBy_3 20 rfl rfl)
theorem dX3_mapBy_91 : decode cX3_mapBy 91 = .ok (.lmul, 1) := dk_105 (dk_at dksX3_mapBy_3 22 rfl rfl)
theorem dX3_mapBy_92 : decode cX3_mapBy 92 = .ok (.ldc2_w 187, 3) := dk_20 0 187 (dk_at dksX3_mapBy_4 0 rfl rfl)
theorem dX3_mapBy_95 : decode cX3_mapBy 95 = .ok (.invokestatic 189, 3) := dk_184 0 189 (dk_at dksX3_mapBy_4 3 rfl rfl)
theorem dX3_mapBy_98 : decode cX3_mapBy 98 = .ok (.aload_n 0, 1) := dk_42 (dk_at dksX3_mapBy_4 6 rfl rfl)
theorem dX3_mapBy_99 : decode cX3_mapBy 99 = .ok (.iload_n 1, 1) := dk_27 (dk_at dksX3_mapBy_4 7 rfl rfl)
theorem dX3_mapBy_100 : decode cX3_mapBy 100 = .ok (.iconst 1, 1) := dk_4 (dk_at dksX3_mapBy_4 8 rfl rfl)
theorem dX3_mapBy_101 : decode cX3_mapBy 101 = .ok (.iload_n 2, 1) := dk_28 (dk_at dksX3_mapBy_4 9 rfl rfl)
theorem dX3_mapBy_102 : decode cX3_mapBy 102 = .ok (.invokevirtual 173, 3) := dk_182 0 173 (dk_at dksX3_mapBy_4 10 rfl rfl)
theorem dX3_mapBy_105 : decode cX3_mapBy 105 = .ok (.i2l, 1) := dk_133 (dk_at dksX3_mapBy_4 13 rfl rfl)
theorem dX3_mapBy_106 : decode cX3_mapBy 106 = .ok (.ladd, 1) := dk_97 (dk_at dksX3_mapBy_4 14 rfl rfl)
theorem dX3_mapBy_107 : decode cX3_mapBy 107 = .ok (.putfield 184, 3) := dk_181 0 184 (dk_at dksX3_mapBy_4 15 rfl rfl)
theorem dX3_mapBy_110 : decode cX3_mapBy 110 = .ok (.return_, 1) := dk_177 (dk_at dksX3_mapBy_4 18 rfl rfl)
abbrev cX3_left : ByteArray := prog_20_method_45_code
def yX3_left : MethodName := ⟨RX3, "left", "(II)I"⟩
def dkwX3_left_2 : List UInt8 := [167, 0, 4, 3, 172]
abbrev dktX3_left_2 : List UInt8 := dkwX3_left_2 ++ []
def dkwX3_left_1 : List UInt8 := [46, 4, 160, 0, 25, 3, 42, 27, 8, 28, 182, 0, 218, 42, 27, 7, 28, 182, 0, 218, 100, 184, 0, 221]
abbrev dktX3_left_1 : List UInt8 := dkwX3_left_1 ++ dktX3_left_2
def dkwX3_left_0 : List UInt8 := [42, 42, 27, 182, 0, 116, 28, 184, 0, 137, 4, 182, 0, 100, 154, 0, 5, 3, 172, 42, 180, 0, 16, 27]
abbrev dktX3_left_0 : List UInt8 := dkwX3_left_0 ++ dktX3_left_1
theorem dksX3_left_0 : cX3_left.data.toList.drop 0 = dktX3_left_0 := by decide +kernel
theorem dksX3_left_1 : cX3_left.data.toList.drop 24 = dktX3_left_1 := dk_seg dksX3_left_0 24 rfl rfl
theorem dksX3_left_2 : cX3_left.data.toList.drop 48 = dktX3_left_2 := dk_seg dksX3_left_1 24 rfl rfl
theorem dX3_left_0 : decode cX3_left 0 = .ok (.aload_n 0, 1) := dk_42 (dk_at dksX3_left_0 0 rfl rfl)
theorem dX3_left_1 : decode cX3_left 1 = .ok (.aload_n 0, 1) := dk_42 (dk_at dksX3_left_0 1 rfl rfl)
theorem dX3_left_2 : decode cX3_left 2 = .ok (.iload_n 1, 1) := dk_27 (dk_at dksX3_left_0 2 rfl rfl)
theorem dX3_left_3 : decode cX3_left 3 = .ok (.invokevirtual 116, 3) := dk_182 0 116 (dk_at dksX3_left_0 3 rfl rfl)
theorem dX3_left_6 : decode cX3_left 6 = .ok (.iload_n 2, 1) := dk_28 (dk_at dksX3_left_0 6 rfl rfl)
theorem dX3_left_7 : decode cX3_left 7 = .ok (.invokestatic 137, 3) := dk_184 0 137 (dk_at dksX3_left_0 7 rfl rfl)
theorem dX3_left_10 : decode cX3_left 10 = .ok (.iconst 1, 1) := dk_4 (dk_at dksX3_left_0 10 rfl rfl)
theorem dX3_left_11 : decode cX3_left 11 = .ok (.invokevirtual 100, 3) := dk_182 0 100 (dk_at dksX3_left_0 11 rfl rfl)
theorem dX3_left_14 : decode cX3_left 14 = .ok (.ifCond .ne 5, 3) := dk_154 0 5 (dk_at dksX3_left_0 14 rfl rfl)
theorem dX3_left_17 : decode cX3_left 17 = .ok (.iconst 0, 1) := dk_3 (dk_at dksX3_left_0 17 rfl rfl)
theorem dX3_left_18 : decode cX3_left 18 = .ok (.ireturn, 1) := dk_172 (dk_at dksX3_left_0 18 rfl rfl)
theorem dX3_left_19 : decode cX3_left 19 = .ok (.aload_n 0, 1) := dk_42 (dk_at dksX3_left_0 19 rfl rfl)
theorem dX3_left_20 : decode cX3_left 20 = .ok (.getfield 16, 3) := dk_180 0 16 (dk_at dksX3_left_0 20 rfl rfl)
theorem dX3_left_23 : decode cX3_left 23 = .ok (.iload_n 1, 1) := dk_27 (dk_at dksX3_left_0 23 rfl rfl)
theorem dX3_left_24 : decode cX3_left 24 = .ok (.iaload, 1) := dk_46 (dk_at dksX3_left_1 0 rfl rfl)
theorem dX3_left_25 : decode cX3_left 25 = .ok (.iconst 1, 1) := dk_4 (dk_at dksX3_left_1 1 rfl rfl)
theorem dX3_left_26 : decode cX3_left 26 = .ok (.if_icmp .ne 25, 3) := dk_160 0 25 (dk_at dksX3_left_1 2 rfl rfl)
theorem dX3_left_29 : decode cX3_left 29 = .ok (.iconst 0, 1) := dk_3 (dk_at dksX3_left_1 5 rfl rfl)
theorem dX3_left_30 : decode cX3_left 30 = .ok (.aload_n 0, 1) := dk_42 (dk_at dksX3_left_1 6 rfl rfl)
theorem dX3_left_31 : decode cX3_left 31 = .ok (.iload_n 1, 1) := dk_27 (dk_at dksX3_left_1 7 rfl rfl)
theorem dX3_left_32 : decode cX3_left 32 = .ok (.iconst 5, 1) := dk_8 (dk_at dksX3_left_1 8 rfl rfl)
theorem dX3_left_33 : decode cX3_left 33 = .ok (.iload_n 2, 1) := dk_28 (dk_at dksX3_left_1 9 rfl rfl)
theorem dX3_left_34 : decode cX3_left 34 = .ok (.invokevirtual 218, 3) := dk_182 0 218 (dk_at dksX3_left_1 10 rfl rfl)
theorem dX3_left_37 : decode cX3_left 37 = .ok (.aload_n 0, 1) := dk_42 (dk_at dksX3_left_1 13 rfl rfl)
theorem dX3_left_38 : decode cX3_left 38 = .ok (.iload_n 1, 1) := dk_27 (dk_at dksX3_left_1 14 rfl rfl)
theorem dX3_left_39 : decode cX3_left 39 = .ok (.iconst 4, 1) := dk_7 (dk_at dksX3_left_1 15 rfl rfl)
theorem dX3_left_40 : decode cX3_left 40 = .ok (.iload_n 2, 1) := dk_28 (dk_at dksX3_left_1 16 rfl rfl)
theorem dX3_left_41 : decode cX3_left 41 = .ok (.invokevirtual 218, 3) := dk_182 0 218 (dk_at dksX3_left_1 17 rfl rfl)
theorem dX3_left_44 : decode cX3_left 44 = .ok (.isub, 1) := dk_100 (dk_at dksX3_left_1 20 rfl rfl)
theorem dX3_left_45 : decode cX3_left 45 = .ok (.invokestatic 221, 3) := dk_184 0 221 (dk_at dksX3_left_1 21 rfl rfl)
theorem dX3_left_48 : decode cX3_left 48 = .ok (.goto 4, 3) := dk_167 0 4 (dk_at dksX3_left_2 0 rfl rfl)
theorem dX3_left_51 : decode cX3_left 51 = .ok (.iconst 0, 1) := dk_3 (dk_at dksX3_left_2 3 rfl rfl)
theorem dX3_left_52 : decode cX3_left 52 = .ok (.ireturn, 1) := dk_172 (dk_at dksX3_left_2 4 rfl rfl)
abbrev cX3_trimmed : ByteArray := prog_20_method_44_code
def yX3_trimmed : MethodName := ⟨RX3, "trimmed", "(III)I"⟩
def dkwX3_trimmed_1 : List UInt8 := [184, 0, 189, 55, 5, 9, 21, 4, 133, 22, 5, 184, 0, 212, 184, 0, 215, 136, 172]
abbrev dktX3_trimmed_1 : List UInt8 := dkwX3_trimmed_1 ++ []
def dkwX3_trimmed_0 : List UInt8 := [42, 27, 182, 0, 209, 54, 4, 21, 4, 133, 42, 27, 28, 29, 182, 0, 173, 133, 105, 20, 0, 187]
abbrev dktX3_trimmed_0 : List UInt8 := dkwX3_trimmed_0 ++ dktX3_trimmed_1
theorem dksX3_trimmed_0 : cX3_trimmed.data.toList.drop 0 = dktX3_trimmed_0 := by decide +kernel
theorem dksX3_trimmed_1 : cX3_trimmed.data.toList.drop 22 = dktX3_trimmed_1 := dk_seg dksX3_trimmed_0 22 rfl rfl
theorem dX3_trimmed_0 : decode cX3_trimmed 0 = .ok (.aload_n 0, 1) := dk_42 (dk_at dksX3_trimmed_0 0 rfl rfl)
theorem dX3_trimmed_1 : decode cX3_trimmed 1 = .ok (.iload_n 1, 1) := dk_27 (dk_at dksX3_trimmed_0 1 rfl rfl)
theorem dX3_trimmed_2 : decode cX3_trimmed 2 = .ok (.invokevirtual 209, 3) := dk_182 0 209 (dk_at dksX3_trimmed_0 2 rfl rfl)
theorem dX3_trimmed_5 : decode cX3_trimmed 5 = .ok (.istore 4, 2) := dk_54 4 (dk_at dksX3_trimmed_0 5 rfl rfl)
theorem dX3_trimmed_7 : decode cX3_trimmed 7 = .ok (.iload 4, 2) := dk_21 4 (dk_at dksX3_trimmed_0 7 rfl rfl)
theorem dX3_trimmed_9 : decode cX3_trimmed 9 = .ok (.i2l, 1) := dk_133 (dk_at dksX3_trimmed_0 9 rfl rfl)
theorem dX3_trimmed_10 : decode cX3_trimmed 10 = .ok (.aload_n 0, 1) := dk_42 (dk_at dksX3_trimmed_0 10 rfl rfl)
theorem dX3_trimmed_11 : decode cX3_trimmed 11 = .ok (.iload_n 1, 1) := dk_27 (dk_at dksX3_trimmed_0 11 rfl rfl)
theorem dX3_trimmed_12 : decode cX3_trimmed 12 = .ok (.iload_n 2, 1) := dk_28 (dk_at dksX3_trimmed_0 12 rfl rfl)
theorem dX3_trimmed_13 : decode cX3_trimmed 13 = .ok (.iload_n 3, 1) := dk_29 (dk_at dksX3_trimmed_0 13 rfl rfl)
theorem dX3_trimmed_14 : decode cX3_trimmed 14 = .ok (.invokevirtual 173, 3) := dk_182 0 173 (dk_at dksX3_trimmed_0 14 rfl rfl)
theorem dX3_trimmed_17 : decode cX3_trimmed 17 = .ok (.i2l, 1) := dk_133 (dk_at dksX3_trimmed_0 17 rfl rfl)
theorem dX3_trimmed_18 : decode cX3_trimmed 18 = .ok (.lmul, 1) := dk_105 (dk_at dksX3_trimmed_0 18 rfl rfl)
theorem dX3_trimmed_19 : decode cX3_trimmed 19 = .ok (.ldc2_w 187, 3) := dk_20 0 187 (dk_at dksX3_trimmed_0 19 rfl rfl)
theorem dX3_trimmed_22 : decode cX3_trimmed 22 = .ok (.invokestatic 189, 3) := dk_184 0 189 (dk_at dksX3_trimmed_1 0 rfl rfl)
theorem dX3_trimmed_25 : decode cX3_trimmed 25 = .ok (.lstore 5, 2) := dk_55 5 (dk_at dksX3_trimmed_1 3 rfl rfl)
theorem dX3_trimmed_27 : decode cX3_trimmed 27 = .ok (.lconst 0, 1) := dk_9 (dk_at dksX3_trimmed_1 5 rfl rfl)
theorem dX3_trimmed_28 : decode cX3_trimmed 28 = .ok (.iload 4, 2) := dk_21 4 (dk_at dksX3_trimmed_1 6 rfl rfl)
theorem dX3_trimmed_30 : decode cX3_trimmed 30 = .ok (.i2l, 1) := dk_133 (dk_at dksX3_trimmed_1 8 rfl rfl)
theorem dX3_trimmed_31 : decode cX3_trimmed 31 = .ok (.lload 5, 2) := dk_22 5 (dk_at dksX3_trimmed_1 9 rfl rfl)
theorem dX3_trimmed_33 : decode cX3_trimmed 33 = .ok (.invokestatic 212, 3) := dk_184 0 212 (dk_at dksX3_trimmed_1 11 rfl rfl)
theorem dX3_trimmed_36 : decode cX3_trimmed 36 = .ok (.invokestatic 215, 3) := dk_184 0 215 (dk_at dksX3_trimmed_1 14 rfl rfl)
theorem dX3_trimmed_39 : decode cX3_trimmed 39 = .ok (.l2i, 1) := dk_136 (dk_at dksX3_trimmed_1 17 rfl rfl)
theorem dX3_trimmed_40 : decode cX3_trimmed 40 = .ok (.ireturn, 1) := dk_172 (dk_at dksX3_trimmed_1 18 rfl rfl)
abbrev cX3_lengthOf : ByteArray := prog_20_method_43_code
def yX3_lengthOf : MethodName := ⟨RX3, "lengthOf", "(I)I"⟩
def dkwX3_lengthOf_1 : List UInt8 := [61, 132, 3, 1, 167, 255, 232, 28, 172]
abbrev dktX3_lengthOf_1 : List UInt8 := dkwX3_lengthOf_1 ++ []
def dkwX3_lengthOf_0 : List UInt8 := [3, 61, 3, 62, 29, 42, 180, 0, 56, 27, 46, 4, 100, 162, 0, 18, 28, 42, 27, 29, 182, 0, 206, 96]
abbrev dktX3_lengthOf_0 : List UInt8 := dkwX3_lengthOf_0 ++ dktX3_lengthOf_1
theorem dksX3_lengthOf_0 : cX3_lengthOf.data.toList.drop 0 = dktX3_lengthOf_0 := by decide +kernel
theorem dksX3_lengthOf_1 : cX3_lengthOf.data.toList.drop 24 = dktX3_lengthOf_1 := dk_seg dksX3_lengthOf_0 24 rfl rfl
theorem dX3_lengthOf_0 : decode cX3_lengthOf 0 = .ok (.iconst 0, 1) := dk_3 (dk_at dksX3_lengthOf_0 0 rfl rfl)
theorem dX3_lengthOf_1 : decode cX3_lengthOf 1 = .ok (.istore_n 2, 1) := dk_61 (dk_at dksX3_lengthOf_0 1 rfl rfl)
theorem dX3_lengthOf_2 : decode cX3_lengthOf 2 = .ok (.iconst 0, 1) := dk_3 (dk_at dksX3_lengthOf_0 2 rfl rfl)
theorem dX3_lengthOf_3 : decode cX3_lengthOf 3 = .ok (.istore_n 3, 1) := dk_62 (dk_at dksX3_lengthOf_0 3 rfl rfl)
theorem dX3_lengthOf_4 : decode cX3_lengthOf 4 = .ok (.iload_n 3, 1) := dk_29 (dk_at dksX3_lengthOf_0 4 rfl rfl)
theorem dX3_lengthOf_5 : decode cX3_lengthOf 5 = .ok (.aload_n 0, 1) := dk_42 (dk_at dksX3_lengthOf_0 5 rfl rfl)
theorem dX3_lengthOf_6 : decode cX3_lengthOf 6 = .ok (.getfield 56, 3) := dk_180 0 56 (dk_at dksX3_lengthOf_0 6 rfl rfl)
theorem dX3_lengthOf_9 : decode cX3_lengthOf 9 = .ok (.iload_n 1, 1) := dk_27 (dk_at dksX3_lengthOf_0 9 rfl rfl)
theorem dX3_lengthOf_10 : decode cX3_lengthOf 10 = .ok (.iaload, 1) := dk_46 (dk_at dksX3_lengthOf_0 10 rfl rfl)
theorem dX3_lengthOf_11 : decode cX3_lengthOf 11 = .ok (.iconst 1, 1) := dk_4 (dk_at dksX3_lengthOf_0 11 rfl rfl)
theorem dX3_lengthOf_12 : decode cX3_lengthOf 12 = .ok (.isub, 1) := dk_100 (dk_at dksX3_lengthOf_0 12 rfl rfl)
theorem dX3_lengthOf_13 : decode cX3_lengthOf 13 = .ok (.if_icmp .ge 18, 3) := dk_162 0 18 (dk_at dksX3_lengthOf_0 13 rfl rfl)
theorem dX3_lengthOf_16 : decode cX3_lengthOf 16 = .ok (.iload_n 2, 1) := dk_28 (dk_at dksX3_lengthOf_0 16 rfl rfl)
theorem dX3_lengthOf_17 : decode cX3_lengthOf 17 = .ok (.aload_n 0, 1) := dk_42 (dk_at dksX3_lengthOf_0 17 rfl rfl)
theorem dX3_lengthOf_18 : decode cX3_lengthOf 18 = .ok (.iload_n 1, 1) := dk_27 (dk_at dksX3_lengthOf_0 18 rfl rfl)
theorem dX3_lengthOf_19 : decode cX3_lengthOf 19 = .ok (.iload_n 3, 1) := dk_29 (dk_at dksX3_lengthOf_0 19 rfl rfl)
theorem dX3_lengthOf_20 : decode cX3_lengthOf 20 = .ok (.invokevirtual 206, 3) := dk_182 0 206 (dk_at dksX3_lengthOf_0 20 rfl rfl)
theorem dX3_lengthOf_23 : decode cX3_lengthOf 23 = .ok (.iadd, 1) := dk_96 (dk_at dksX3_lengthOf_0 23 rfl rfl)
theorem dX3_lengthOf_24 : decode cX3_lengthOf 24 = .ok (.istore_n 2, 1) := dk_61 (dk_at dksX3_lengthOf_1 0 rfl rfl)
theorem dX3_lengthOf_25 : decode cX3_lengthOf 25 = .ok (.iinc 3 1, 3) := dk_132 3 1 (dk_at dksX3_lengthOf_1 1 rfl rfl)
theorem dX3_lengthOf_28 : decode cX3_lengthOf 28 = .ok (.goto (-24), 3) := dk_167 255 232 (dk_at dksX3_lengthOf_1 4 rfl rfl)
theorem dX3_lengthOf_31 : decode cX3_lengthOf 31 = .ok (.iload_n 2, 1) := dk_28 (dk_at dksX3_lengthOf_1 7 rfl rfl)
theorem dX3_lengthOf_32 : decode cX3_lengthOf 32 = .ok (.ireturn, 1) := dk_172 (dk_at dksX3_lengthOf_1 8 rfl rfl)
abbrev cX3_partLength : ByteArray := prog_20_method_42_code
def yX3_partLength : MethodName := ⟨RX3, "partLength", "(II)I"⟩
def dkwX3_partLength_2 : List UInt8 := [172]
abbrev dktX3_partLength_2 : List UInt8 := dkwX3_partLength_2 ++ []
def dkwX3_partLength_1 : List UInt8 := [100, 184, 0, 203, 42, 180, 0, 53, 29, 4, 96, 46, 42, 180, 0, 53, 29, 46, 100, 184, 0, 203, 96, 104]
abbrev dktX3_partLength_1 : List UInt8 := dkwX3_partLength_1 ++ dktX3_partLength_2
def dkwX3_partLength_0 : List UInt8 := [16, 6, 27, 104, 28, 96, 62, 17, 3, 232, 42, 180, 0, 50, 29, 4, 96, 46, 42, 180, 0, 50, 29, 46]
abbrev dktX3_partLength_0 : List UInt8 := dkwX3_partLength_0 ++ dktX3_partLength_1
theorem dksX3_partLength_0 : cX3_partLength.data.toList.drop 0 = dktX3_partLength_0 := by decide +kernel
theorem dksX3_partLength_1 : cX3_partLength.data.toList.drop 24 = dktX3_partLength_1 := dk_seg dksX3_partLength_0 24 rfl rfl
theorem dksX3_partLength_2 : cX3_partLength.data.toList.drop 48 = dktX3_partLength_2 := dk_seg dksX3_partLength_1 24 rfl rfl
theorem dX3_partLength_0 : decode cX3_partLength 0 = .ok (.bipush 6, 2) := dk_16 6 (dk_at dksX3_partLength_0 0 rfl rfl)
theorem dX3_partLength_2 : decode cX3_partLength 2 = .ok (.iload_n 1, 1) := dk_27 (dk_at dksX3_partLength_0 2 rfl rfl)
theorem dX3_partLength_3 : decode cX3_partLength 3 = .ok (.imul, 1) := dk_104 (dk_at dksX3_partLength_0 3 rfl rfl)
theorem dX3_partLength_4 : decode cX3_partLength 4 = .ok (.iload_n 2, 1) := dk_28 (dk_at dksX3_partLength_0 4 rfl rfl)
theorem dX3_partLength_5 : decode cX3_partLength 5 = .ok (.iadd, 1) := dk_96 (dk_at dksX3_partLength_0 5 rfl rfl)
theorem dX3_partLength_6 : decode cX3_partLength 6 = .ok (.istore_n 3, 1) := dk_62 (dk_at dksX3_partLength_0 6 rfl rfl)
theorem dX3_partLength_7 : decode cX3_partLength 7 = .ok (.sipush 1000, 3) := dk_17 3 232 (dk_at dksX3_partLength_0 7 rfl rfl)
theorem dX3_partLength_10 : decode cX3_partLength 10 = .ok (.aload_n 0, 1) := dk_42 (dk_at dksX3_partLength_0 10 rfl rfl)
theorem dX3_partLength_11 : decode cX3_partLength 11 = .ok (.getfield 50, 3) := dk_180 0 50 (dk_at dksX3_partLength_0 11 rfl rfl)
theorem dX3_partLength_14 : decode cX3_partLength 14 = .ok (.iload_n 3, 1) := dk_29 (dk_at dksX3_partLength_0 14 rfl rfl)
theorem dX3_partLength_15 : decode cX3_partLength 15 = .ok (.iconst 1, 1) := dk_4 (dk_at dksX3_partLength_0 15 rfl rfl)
theorem dX3_partLength_16 : decode cX3_partLength 16 = .ok (.iadd, 1) := dk_96 (dk_at dksX3_partLength_0 16 rfl rfl)
theorem dX3_partLength_17 : decode cX3_partLength 17 = .ok (.iaload, 1) := dk_46 (dk_at dksX3_partLength_0 17 rfl rfl)
theorem dX3_partLength_18 : decode cX3_partLength 18 = .ok (.aload_n 0, 1) := dk_42 (dk_at dksX3_partLength_0 18 rfl rfl)
theorem dX3_partLength_19 : decode cX3_partLength 19 = .ok (.getfield 50, 3) := dk_180 0 50 (dk_at dksX3_partLength_0 19 rfl rfl)
theorem dX3_partLength_22 : decode cX3_partLength 22 = .ok (.iload_n 3, 1) := dk_29 (dk_at dksX3_partLength_0 22 rfl rfl)
theorem dX3_partLength_23 : decode cX3_partLength 23 = .ok (.iaload, 1) := dk_46 (dk_at dksX3_partLength_0 23 rfl rfl)
theorem dX3_partLength_24 : decode cX3_partLength 24 = .ok (.isub, 1) := dk_100 (dk_at dksX3_partLength_1 0 rfl rfl)
theorem dX3_partLength_25 : decode cX3_partLength 25 = .ok (.invokestatic 203, 3) := dk_184 0 203 (dk_at dksX3_partLength_1 1 rfl rfl)
theorem dX3_partLength_28 : decode cX3_partLength 28 = .ok (.aload_n 0, 1) := dk_42 (dk_at dksX3_partLength_1 4 rfl rfl)
theorem dX3_partLength_29 : decode cX3_partLength 29 = .ok (.getfield 53, 3) := dk_180 0 53 (dk_at dksX3_partLength_1 5 rfl rfl)
theorem dX3_partLength_32 : decode cX3_partLength 32 = .ok (.iload_n 3, 1) := dk_29 (dk_at dksX3_partLength_1 8 rfl rfl)
theorem dX3_partLength_33 : decode cX3_partLength 33 = .ok (.iconst 1, 1) := dk_4 (dk_at dksX3_partLength_1 9 rfl rfl)
theorem dX3_partLength_34 : decode cX3_partLength 34 = .ok (.iadd, 1) := dk_96 (dk_at dksX3_partLength_1 10 rfl rfl)
theorem dX3_partLength_35 : decode cX3_partLength 35 = .ok (.iaload, 1) := dk_46 (dk_at dksX3_partLength_1 11 rfl rfl)
theorem dX3_partLength_36 : decode cX3_partLength 36 = .ok (.aload_n 0, 1) := dk_42 (dk_at dksX3_partLength_1 12 rfl rfl)
theorem dX3_partLength_37 : decode cX3_partLength 37 = .ok (.getfield 53, 3) := dk_180 0 53 (dk_at dksX3_partLength_1 13 rfl rfl)
theorem dX3_partLength_40 : decode cX3_partLength 40 = .ok (.iload_n 3, 1) := dk_29 (dk_at dksX3_partLength_1 16 rfl rfl)
theorem dX3_partLength_41 : decode cX3_partLength 41 = .ok (.iaload, 1) := dk_46 (dk_at dksX3_partLength_1 17 rfl rfl)
theorem dX3_partLength_42 : decode cX3_partLength 42 = .ok (.isub, 1) := dk_100 (dk_at dksX3_partLength_1 18 rfl rfl)
theorem dX3_partLength_43 : decode cX3_partLength 43 = .ok (.invokestatic 203, 3) := dk_184 0 203 (dk_at dksX3_partLength_1 19 rfl rfl)
theorem dX3_partLength_46 : decode cX3_partLength 46 = .ok (.iadd, 1) := dk_96 (dk_at dksX3_partLength_1 22 rfl rfl)
theorem dX3_partLength_47 : decode cX3_partLength 47 = .ok (.imul, 1) := dk_104 (dk_at dksX3_partLength_1 23 rfl rfl)
theorem dX3_partLength_48 : decode cX3_partLength 48 = .ok (.ireturn, 1) := dk_172 (dk_at dksX3_partLength_2 0 rfl rfl)
abbrev cX3_cell : ByteArray := prog_20_method_59_code
def yX3_cell : MethodName := ⟨RX3, "cell", "(IIII)I"⟩
def dkwX3_cell_3 : List UInt8 := [104, 29, 96, 46, 172]
abbrev dktX3_cell_3 : List UInt8 := dkwX3_cell_3 ++ []
def dkwX3_cell_2 : List UInt8 := [182, 0, 100, 154, 0, 5, 3, 172, 42, 27, 28, 3, 3, 182, 0, 253, 42, 180, 0, 77, 16, 16, 21, 4]
abbrev dktX3_cell_2 : List UInt8 := dkwX3_cell_2 ++ dktX3_cell_3
def dkwX3_cell_1 : List UInt8 := [184, 0, 96, 153, 0, 7, 4, 167, 0, 4, 3, 54, 5, 42, 42, 27, 182, 0, 104, 21, 5, 4]
abbrev dktX3_cell_1 : List UInt8 := dkwX3_cell_1 ++ dktX3_cell_2
def dkwX3_cell_0 : List UInt8 := [28, 184, 0, 137, 153, 0, 28, 29, 3, 16, 15, 184, 0, 96, 153, 0, 18, 21, 4, 3, 16, 11]
abbrev dktX3_cell_0 : List UInt8 := dkwX3_cell_0 ++ dktX3_cell_1
theorem dksX3_cell_0 : cX3_cell.data.toList.drop 0 = dktX3_cell_0 := by decide +kernel
theorem dksX3_cell_1 : cX3_cell.data.toList.drop 22 = dktX3_cell_1 := dk_seg dksX3_cell_0 22 rfl rfl
theorem dksX3_cell_2 : cX3_cell.data.toList.drop 44 = dktX3_cell_2 := dk_seg dksX3_cell_1 22 rfl rfl
theorem dksX3_cell_3 : cX3_cell.data.toList.drop 68 = dktX3_cell_3 := dk_seg dksX3_cell_2 24 rfl rfl
theorem dX3_cell_0 : decode cX3_cell 0 = .ok (.iload_n 2, 1) := dk_28 (dk_at dksX3_cell_0 0 rfl rfl)
theorem dX3_cell_1 : decode cX3_cell 1 = .ok (.invokestatic 137, 3) := dk_184 0 137 (dk_at dksX3_cell_0 1 rfl rfl)
theorem dX3_cell_4 : decode cX3_cell 4 = .ok (.ifCond .eq 28, 3) := dk_153 0 28 (dk_at dksX3_cell_0 4 rfl rfl)
theorem dX3_cell_7 : decode cX3_cell 7 = .ok (.iload_n 3, 1) := dk_29 (dk_at dksX3_cell_0 7 rfl rfl)
theorem dX3_cell_8 : decode cX3_cell 8 = .ok (.iconst 0, 1) := dk_3 (dk_at dksX3_cell_0 8 rfl rfl)
theorem dX3_cell_9 : decode cX3_cell 9 = .ok (.bipush 15, 2) := dk_16 15 (dk_at dksX3_cell_0 9 rfl rfl)
theorem dX3_cell_11 : decode cX3_cell 11 = .ok (.invokestatic 96, 3) := dk_184 0 96 (dk_at dksX3_cell_0 11 rfl rfl)
theorem dX3_cell_14 : decode cX3_cell 14 = .ok (.ifCond .eq 18, 3) := dk_153 0 18 (dk_at dksX3_cell_0 14 rfl rfl)
theorem dX3_cell_17 : decode cX3_cell 17 = .ok (.iload 4, 2) := dk_21 4 (dk_at dksX3_cell_0 17 rfl rfl)
theorem dX3_cell_19 : decode cX3_cell 19 = .ok (.iconst 0, 1) := dk_3 (dk_at dksX3_cell_0 19 rfl rfl)
theorem dX3_cell_20 : decode cX3_cell 20 = .ok (.bipush 11, 2) := dk_16 11 (dk_at dksX3_cell_0 20 rfl rfl)
theorem dX3_cell_22 : decode cX3_cell 22 = .ok (.invokestatic 96, 3) := dk_184 0 96 (dk_at dksX3_cell_1 0 rfl rfl)
theorem dX3_cell_25 : decode cX3_cell 25 = .ok (.ifCond .eq 7, 3) := dk_153 0 7 (dk_at dksX3_cell_1 3 rfl rfl)
theorem dX3_cell_28 : decode cX3_cell 28 = .ok (.iconst 1, 1) := dk_4 (dk_at dksX3_cell_1 6 rfl rfl)
theorem dX3_cell_29 : decode cX3_cell 29 = .ok (.goto 4, 3) := dk_167 0 4 (dk_at dksX3_cell_1 7 rfl rfl)
theorem dX3_cell_32 : decode cX3_cell 32 = .ok (.iconst 0, 1) := dk_3 (dk_at dksX3_cell_1 10 rfl rfl)
theorem dX3_cell_33 : decode cX3_cell 33 = .ok (.istore 5, 2) := dk_54 5 (dk_at dksX3_cell_1 11 rfl rfl)
theorem dX3_cell_35 : decode cX3_cell 35 = .ok (.aload_n 0, 1) := dk_42 (dk_at dksX3_cell_1 13 rfl rfl)
theorem dX3_cell_36 : decode cX3_cell 36 = .ok (.aload_n 0, 1) := dk_42 (dk_at dksX3_cell_1 14 rfl rfl)
theorem dX3_cell_37 : decode cX3_cell 37 = .ok (.iload_n 1, 1) := dk_27 (dk_at dksX3_cell_1 15 rfl rfl)
theorem dX3_cell_38 : decode cX3_cell 38 = .ok (.invokevirtual 104, 3) := dk_182 0 104 (dk_at dksX3_cell_1 16 rfl rfl)
theorem dX3_cell_41 : decode cX3_cell 41 = .ok (.iload 5, 2) := dk_21 5 (dk_at dksX3_cell_1 19 rfl rfl)
theorem dX3_cell_43 : decode cX3_cell 43 = .ok (.iconst 1, 1) := dk_4 (dk_at dksX3_cell_1 21 rfl rfl)
theorem dX3_cell_44 : decode cX3_cell 44 = .ok (.invokevirtual 100, 3) := dk_182 0 100 (dk_at dksX3_cell_2 0 rfl rfl)
theorem dX3_cell_47 : decode cX3_cell 47 = .ok (.ifCond .ne 5, 3) := dk_154 0 5 (dk_at dksX3_cell_2 3 rfl rfl)
theorem dX3_cell_50 : decode cX3_cell 50 = .ok (.iconst 0, 1) := dk_3 (dk_at dksX3_cell_2 6 rfl rfl)
theorem dX3_cell_51 : decode cX3_cell 51 = .ok (.ireturn, 1) := dk_172 (dk_at dksX3_cell_2 7 rfl rfl)
theorem dX3_cell_52 : decode cX3_cell 52 = .ok (.aload_n 0, 1) := dk_42 (dk_at dksX3_cell_2 8 rfl rfl)
theorem dX3_cell_53 : decode cX3_cell 53 = .ok (.iload_n 1, 1) := dk_27 (dk_at dksX3_cell_2 9 rfl rfl)
theorem dX3_cell_54 : decode cX3_cell 54 = .ok (.iload_n 2, 1) := dk_28 (dk_at dksX3_cell_2 10 rfl rfl)
theorem dX3_cell_55 : decode cX3_cell 55 = .ok (.iconst 0, 1) := dk_3 (dk_at dksX3_cell_2 11 rfl rfl)
theorem dX3_cell_56 : decode cX3_cell 56 = .ok (.iconst 0, 1) := dk_3 (dk_at dksX3_cell_2 12 rfl rfl)
theorem dX3_cell_57 : decode cX3_cell 57 = .ok (.invokevirtual 253, 3) := dk_182 0 253 (dk_at dksX3_cell_2 13 rfl rfl)
theorem dX3_cell_60 : decode cX3_cell 60 = .ok (.aload_n 0, 1) := dk_42 (dk_at dksX3_cell_2 16 rfl rfl)
theorem dX3_cell_61 : decode cX3_cell 61 = .ok (.getfield 77, 3) := dk_180 0 77 (dk_at dksX3_cell_2 17 rfl rfl)
theorem dX3_cell_64 : decode cX3_cell 64 = .ok (.bipush 16, 2) := dk_16 16 (dk_at dksX3_cell_2 20 rfl rfl)
theorem dX3_cell_66 : decode cX3_cell 66 = .ok (.iload 4, 2) := dk_21 4 (dk_at dksX3_cell_2 22 rfl rfl)
theorem dX3_cell_68 : decode cX3_cell 68 = .ok (.imul, 1) := dk_104 (dk_at dksX3_cell_3 0 rfl rfl)
theorem dX3_cell_69 : decode cX3_cell 69 = .ok (.iload_n 3, 1) := dk_29 (dk_at dksX3_cell_3 1 rfl rfl)
theorem dX3_cell_70 : decode cX3_cell 70 = .ok (.iadd, 1) := dk_96 (dk_at dksX3_cell_3 2 rfl rfl)
theorem dX3_cell_71 : decode cX3_cell 71 = .ok (.iaload, 1) := dk_46 (dk_at dksX3_cell_3 3 rfl rfl)
theorem dX3_cell_72 : decode cX3_cell 72 = .ok (.ireturn, 1) := dk_172 (dk_at dksX3_cell_3 4 rfl rfl)
abbrev cX3_draw : ByteArray := prog_20_method_57_code
def yX3_draw : MethodName := ⟨RX3, "draw", "(IIII)V"⟩
def dkwX3_draw_2 : List UInt8 := [182, 1, 3, 153, 0, 13, 42, 21, 6, 28, 29, 21, 4, 182, 1, 18, 132, 5, 1, 167, 255, 199, 177]
abbrev dktX3_draw_2 : List UInt8 := dkwX3_draw_2 ++ []
def dkwX3_draw_1 : List UInt8 := [16, 12, 27, 104, 21, 5, 96, 46, 54, 6, 42, 21, 6, 182, 1, 15, 154, 0, 23, 42, 21, 6, 28]
abbrev dktX3_draw_1 : List UInt8 := dkwX3_draw_1 ++ dktX3_draw_2
def dkwX3_draw_0 : List UInt8 := [42, 21, 4, 182, 1, 0, 3, 54, 5, 21, 5, 42, 180, 0, 13, 27, 46, 162, 0, 52, 42, 180, 0, 9]
abbrev dktX3_draw_0 : List UInt8 := dkwX3_draw_0 ++ dktX3_draw_1
theorem dksX3_draw_0 : cX3_draw.data.toList.drop 0 = dktX3_draw_0 := by decide +kernel
theorem dksX3_draw_1 : cX3_draw.data.toList.drop 24 = dktX3_draw_1 := dk_seg dksX3_draw_0 24 rfl rfl
theorem dksX3_draw_2 : cX3_draw.data.toList.drop 47 = dktX3_draw_2 := dk_seg dksX3_draw_1 23 rfl rfl
theorem dX3_draw_0 : decode cX3_draw 0 = .ok (.aload_n 0, 1) := dk_42 (dk_at dksX3_draw_0 0 rfl rfl)
theorem dX3_draw_1 : decode cX3_draw 1 = .ok (.iload 4, 2) := dk_21 4 (dk_at dksX3_draw_0 1 rfl rfl)
theorem dX3_draw_3 : decode cX3_draw 3 = .ok (.invokevirtual 256, 3) := dk_182 1 0 (dk_at dksX3_draw_0 3 rfl rfl)
theorem dX3_draw_6 : decode cX3_draw 6 = .ok (.iconst 0, 1) := dk_3 (dk_at dksX3_draw_0 6 rfl rfl)
theorem dX3_draw_7 : decode cX3_draw 7 = .ok (.istore 5, 2) := dk_54 5 (dk_at dksX3_draw_0 7 rfl rfl)
theorem dX3_draw_9 : decode cX3_draw 9 = .ok (.iload 5, 2) := dk_21 5 (dk_at dksX3_draw_0 9 rfl rfl)
theorem dX3_draw_11 : decode cX3_draw 11 = .ok (.aload_n 0, 1) := dk_42 (dk_at dksX3_draw_0 11 rfl rfl)
theorem dX3_draw_12 : decode cX3_draw 12 = .ok (.getfield 13, 3) := dk_180 0 13 (dk_at dksX3_draw_0 12 rfl rfl)
theorem dX3_draw_15 : decode cX3_draw 15 = .ok (.iload_n 1, 1) := dk_27 (dk_at dksX3_draw_0 15 rfl rfl)
theorem dX3_draw_16 : decode cX3_draw 16 = .ok (.iaload, 1) := dk_46 (dk_at dksX3_draw_0 16 rfl rfl)
theorem dX3_draw_17 : decode cX3_draw 17 = .ok (.if_icmp .ge 52, 3) := dk_162 0 52 (dk_at dksX3_draw_0 17 rfl rfl)
theorem dX3_draw_20 : decode cX3_draw 20 = .ok (.aload_n 0, 1) := dk_42 (dk_at dksX3_draw_0 20 rfl rfl)
theorem dX3_draw_21 : decode cX3_draw 21 = .ok (.getfield 9, 3) := dk_180 0 9 (dk_at dksX3_draw_0 21 rfl rfl)
theorem dX3_draw_24 : decode cX3_draw 24 = .ok (.bipush 12, 2) := dk_16 12 (dk_at dksX3_draw_1 0 rfl rfl)
theorem dX3_draw_26 : decode cX3_draw 26 = .ok (.iload_n 1, 1) := dk_27 (dk_at dksX3_draw_1 2 rfl rfl)
theorem dX3_draw_27 : decode cX3_draw 27 = .ok (.imul, 1) := dk_104 (dk_at dksX3_draw_1 3 rfl rfl)
theorem dX3_draw_28 : decode cX3_draw 28 = .ok (.iload 5, 2) := dk_21 5 (dk_at dksX3_draw_1 4 rfl rfl)
theorem dX3_draw_30 : decode cX3_draw 30 = .ok (.iadd, 1) := dk_96 (dk_at dksX3_draw_1 6 rfl rfl)
theorem dX3_draw_31 : decode cX3_draw 31 = .ok (.iaload, 1) := dk_46 (dk_at dksX3_draw_1 7 rfl rfl)
theorem dX3_draw_32 : decode cX3_draw 32 = .ok (.istore 6, 2) := dk_54 6 (dk_at dksX3_draw_1 8 rfl rfl)
theorem dX3_draw_34 : decode cX3_draw 34 = .ok (.aload_n 0, 1) := dk_42 (dk_at dksX3_draw_1 10 rfl rfl)
theorem dX3_draw_35 : decode cX3_draw 35 = .ok (.iload 6, 2) := dk_21 6 (dk_at dksX3_draw_1 11 rfl rfl)
theorem dX3_draw_37 : decode cX3_draw 37 = .ok (.invokevirtual 271, 3) := dk_182 1 15 (dk_at dksX3_draw_1 13 rfl rfl)
theorem dX3_draw_40 : decode cX3_draw 40 = .ok (.ifCond .ne 23, 3) := dk_154 0 23 (dk_at dksX3_draw_1 16 rfl rfl)
theorem dX3_draw_43 : decode cX3_draw 43 = .ok (.aload_n 0, 1) := dk_42 (dk_at dksX3_draw_1 19 rfl rfl)
theorem dX3_draw_44 : decode cX3_draw 44 = .ok (.iload 6, 2) := dk_21 6 (dk_at dksX3_draw_1 20 rfl rfl)
theorem dX3_draw_46 : decode cX3_draw 46 = .ok (.iload_n 2, 1) := dk_28 (dk_at dksX3_draw_1 22 rfl rfl)
theorem dX3_draw_47 : decode cX3_draw 47 = .ok (.invokevirtual 259, 3) := dk_182 1 3 (dk_at dksX3_draw_2 0 rfl rfl)
theorem dX3_draw_50 : decode cX3_draw 50 = .ok (.ifCond .eq 13, 3) := dk_153 0 13 (dk_at dksX3_draw_2 3 rfl rfl)
theorem dX3_draw_53 : decode cX3_draw 53 = .ok (.aload_n 0, 1) := dk_42 (dk_at dksX3_draw_2 6 rfl rfl)
theorem dX3_draw_54 : decode cX3_draw 54 = .ok (.iload 6, 2) := dk_21 6 (dk_at dksX3_draw_2 7 rfl rfl)
theorem dX3_draw_56 : decode cX3_draw 56 = .ok (.iload_n 2, 1) := dk_28 (dk_at dksX3_draw_2 9 rfl rfl)
theorem dX3_draw_57 : decode cX3_draw 57 = .ok (.iload_n 3, 1) := dk_29 (dk_at dksX3_draw_2 10 rfl rfl)
theorem dX3_draw_58 : decode cX3_draw 58 = .ok (.iload 4, 2) := dk_21 4 (dk_at dksX3_draw_2 11 rfl rfl)
theorem dX3_draw_60 : decode cX3_draw 60 = .ok (.invokevirtual 274, 3) := dk_182 1 18 (dk_at dksX3_draw_2 13 rfl rfl)
theorem dX3_draw_63 : decode cX3_draw 63 = .ok (.iinc 5 1, 3) := dk_132 5 1 (dk_at dksX3_draw_2 16 rfl rfl)
theorem dX3_draw_66 : decode cX3_draw 66 = .ok (.goto (-57), 3) := dk_167 255 199 (dk_at dksX3_draw_2 19 rfl rfl)
theorem dX3_draw_69 : decode cX3_draw 69 = .ok (.return_, 1) := dk_177 (dk_at dksX3_draw_2 22 rfl rfl)
abbrev cX3_wipe : ByteArray := prog_20_method_46_code
def yX3_wipe : MethodName := ⟨RX3, "wipe", "(I)V"⟩
def dkwX3_wipe_1 : List UInt8 := [132, 2, 1, 167, 255, 233, 177]
abbrev dktX3_wipe_1 : List UInt8 := dkwX3_wipe_1 ++ []
def dkwX3_wipe_0 : List UInt8 := [3, 61, 28, 17, 0, 192, 162, 0, 22, 42, 180, 0, 77, 17, 0, 192, 27, 104, 28, 96, 3, 79]
abbrev dktX3_wipe_0 : List UInt8 := dkwX3_wipe_0 ++ dktX3_wipe_1
theorem dksX3_wipe_0 : cX3_wipe.data.toList.drop 0 = dktX3_wipe_0 := by decide +kernel
theorem dksX3_wipe_1 : cX3_wipe.data.toList.drop 22 = dktX3_wipe_1 := dk_seg dksX3_wipe_0 22 rfl rfl
theorem dX3_wipe_0 : decode cX3_wipe 0 = .ok (.iconst 0, 1) := dk_3 (dk_at dksX3_wipe_0 0 rfl rfl)
theorem dX3_wipe_1 : decode cX3_wipe 1 = .ok (.istore_n 2, 1) := dk_61 (dk_at dksX3_wipe_0 1 rfl rfl)
theorem dX3_wipe_2 : decode cX3_wipe 2 = .ok (.iload_n 2, 1) := dk_28 (dk_at dksX3_wipe_0 2 rfl rfl)
theorem dX3_wipe_3 : decode cX3_wipe 3 = .ok (.sipush 192, 3) := dk_17 0 192 (dk_at dksX3_wipe_0 3 rfl rfl)
theorem dX3_wipe_6 : decode cX3_wipe 6 = .ok (.if_icmp .ge 22, 3) := dk_162 0 22 (dk_at dksX3_wipe_0 6 rfl rfl)
theorem dX3_wipe_9 : decode cX3_wipe 9 = .ok (.aload_n 0, 1) := dk_42 (dk_at dksX3_wipe_0 9 rfl rfl)
theorem dX3_wipe_10 : decode cX3_wipe 10 = .ok (.getfield 77, 3) := dk_180 0 77 (dk_at dksX3_wipe_0 10 rfl rfl)
theorem dX3_wipe_13 : decode cX3_wipe 13 = .ok (.sipush 192, 3) := dk_17 0 192 (dk_at dksX3_wipe_0 13 rfl rfl)
theorem dX3_wipe_16 : decode cX3_wipe 16 = .ok (.iload_n 1, 1) := dk_27 (dk_at dksX3_wipe_0 16 rfl rfl)
theorem dX3_wipe_17 : decode cX3_wipe 17 = .ok (.imul, 1) := dk_104 (dk_at dksX3_wipe_0 17 rfl rfl)
theorem dX3_wipe_18 : decode cX3_wipe 18 = .ok (.iload_n 2, 1) := dk_28 (dk_at dksX3_wipe_0 18 rfl rfl)
theorem dX3_wipe_19 : decode cX3_wipe 19 = .ok (.iadd, 1) := dk_96 (dk_at dksX3_wipe_0 19 rfl rfl)
theorem dX3_wipe_20 : decode cX3_wipe 20 = .ok (.iconst 0, 1) := dk_3 (dk_at dksX3_wipe_0 20 rfl rfl)
theorem dX3_wipe_21 : decode cX3_wipe 21 = .ok (.iastore, 1) := dk_79 (dk_at dksX3_wipe_0 21 rfl rfl)
theorem dX3_wipe_22 : decode cX3_wipe 22 = .ok (.iinc 2 1, 3) := dk_132 2 1 (dk_at dksX3_wipe_1 0 rfl rfl)
theorem dX3_wipe_25 : decode cX3_wipe 25 = .ok (.goto (-23), 3) := dk_167 255 233 (dk_at dksX3_wipe_1 3 rfl rfl)
theorem dX3_wipe_28 : decode cX3_wipe 28 = .ok (.return_, 1) := dk_177 (dk_at dksX3_wipe_1 6 rfl rfl)
abbrev cX3_isMatte : ByteArray := prog_20_method_56_code
def yX3_isMatte : MethodName := ⟨RX3, "isMatte", "(I)Z"⟩
def dkwX3_isMatte_1 : List UInt8 := [46, 27, 160, 0, 5, 4, 172, 132, 2, 1, 167, 255, 224, 3, 172]
abbrev dktX3_isMatte_1 : List UInt8 := dkwX3_isMatte_1 ++ []
def dkwX3_isMatte_0 : List UInt8 := [3, 61, 28, 42, 180, 0, 90, 162, 0, 30, 42, 180, 0, 47, 28, 51, 153, 0, 15, 42, 180, 0, 34, 28]
abbrev dktX3_isMatte_0 : List UInt8 := dkwX3_isMatte_0 ++ dktX3_isMatte_1
theorem dksX3_isMatte_0 : cX3_isMatte.data.toList.drop 0 = dktX3_isMatte_0 := by decide +kernel
theorem dksX3_isMatte_1 : cX3_isMatte.data.toList.drop 24 = dktX3_isMatte_1 := dk_seg dksX3_isMatte_0 24 rfl rfl
theorem dX3_isMatte_0 : decode cX3_isMatte 0 = .ok (.iconst 0, 1) := dk_3 (dk_at dksX3_isMatte_0 0 rfl rfl)
theorem dX3_isMatte_1 : decode cX3_isMatte 1 = .ok (.istore_n 2, 1) := dk_61 (dk_at dksX3_isMatte_0 1 rfl rfl)
theorem dX3_isMatte_2 : decode cX3_isMatte 2 = .ok (.iload_n 2, 1) := dk_28 (dk_at dksX3_isMatte_0 2 rfl rfl)
theorem dX3_isMatte_3 : decode cX3_isMatte 3 = .ok (.aload_n 0, 1) := dk_42 (dk_at dksX3_isMatte_0 3 rfl rfl)
theorem dX3_isMatte_4 : decode cX3_isMatte 4 = .ok (.getfield 90, 3) := dk_180 0 90 (dk_at dksX3_isMatte_0 4 rfl rfl)
theorem dX3_isMatte_7 : decode cX3_isMatte 7 = .ok (.if_icmp .ge 30, 3) := dk_162 0 30 (dk_at dksX3_isMatte_0 7 rfl rfl)
theorem dX3_isMatte_10 : decode cX3_isMatte 10 = .ok (.aload_n 0, 1) := dk_42 (dk_at dksX3_isMatte_0 10 rfl rfl)
theorem dX3_isMatte_11 : decode cX3_isMatte 11 = .ok (.getfield 47, 3) := dk_180 0 47 (dk_at dksX3_isMatte_0 11 rfl rfl)
theorem dX3_isMatte_14 : decode cX3_isMatte 14 = .ok (.iload_n 2, 1) := dk_28 (dk_at dksX3_isMatte_0 14 rfl rfl)
theorem dX3_isMatte_15 : decode cX3_isMatte 15 = .ok (.baload, 1) := dk_51 (dk_at dksX3_isMatte_0 15 rfl rfl)
theorem dX3_isMatte_16 : decode cX3_isMatte 16 = .ok (.ifCond .eq 15, 3) := dk_153 0 15 (dk_at dksX3_isMatte_0 16 rfl rfl)
theorem dX3_isMatte_19 : decode cX3_isMatte 19 = .ok (.aload_n 0, 1) := dk_42 (dk_at dksX3_isMatte_0 19 rfl rfl)
theorem dX3_isMatte_20 : decode cX3_isMatte 20 = .ok (.getfield 34, 3) := dk_180 0 34 (dk_at dksX3_isMatte_0 20 rfl rfl)
theorem dX3_isMatte_23 : decode cX3_isMatte 23 = .ok (.iload_n 2, 1) := dk_28 (dk_at dksX3_isMatte_0 23 rfl rfl)
theorem dX3_isMatte_24 : decode cX3_isMatte 24 = .ok (.iaload, 1) := dk_46 (dk_at dksX3_isMatte_1 0 rfl rfl)
theorem dX3_isMatte_25 : decode cX3_isMatte 25 = .ok (.iload_n 1, 1) := dk_27 (dk_at dksX3_isMatte_1 1 rfl rfl)
theorem dX3_isMatte_26 : decode cX3_isMatte 26 = .ok (.if_icmp .ne 5, 3) := dk_160 0 5 (dk_at dksX3_isMatte_1 2 rfl rfl)
theorem dX3_isMatte_29 : decode cX3_isMatte 29 = .ok (.iconst 1, 1) := dk_4 (dk_at dksX3_isMatte_1 5 rfl rfl)
theorem dX3_isMatte_30 : decode cX3_isMatte 30 = .ok (.ireturn, 1) := dk_172 (dk_at dksX3_isMatte_1 6 rfl rfl)
theorem dX3_isMatte_31 : decode cX3_isMatte 31 = .ok (.iinc 2 1, 3) := dk_132 2 1 (dk_at dksX3_isMatte_1 7 rfl rfl)
theorem dX3_isMatte_34 : decode cX3_isMatte 34 = .ok (.goto (-32), 3) := dk_167 255 224 (dk_at dksX3_isMatte_1 10 rfl rfl)
theorem dX3_isMatte_37 : decode cX3_isMatte 37 = .ok (.iconst 0, 1) := dk_3 (dk_at dksX3_isMatte_1 13 rfl rfl)
theorem dX3_isMatte_38 : decode cX3_isMatte 38 = .ok (.ireturn, 1) := dk_172 (dk_at dksX3_isMatte_1 14 rfl rfl)
abbrev cX3_isShowing : ByteArray := prog_20_method_54_code
def yX3_isShowing : MethodName := ⟨RX3, "isShowing", "(II)Z"⟩
def dkwX3_isShowing_1 : List UInt8 := [16, 7, 28, 182, 0, 173, 4, 161, 0, 7, 4, 167, 0, 4, 3, 172]
abbrev dktX3_isShowing_1 : List UInt8 := dkwX3_isShowing_1 ++ []
def dkwX3_isShowing_0 : List UInt8 := [28, 42, 180, 0, 41, 27, 46, 42, 180, 0, 44, 27, 46, 4, 100, 184, 0, 96, 153, 0, 19, 42, 27]
abbrev dktX3_isShowing_0 : List UInt8 := dkwX3_isShowing_0 ++ dktX3_isShowing_1
theorem dksX3_isShowing_0 : cX3_isShowing.data.toList.drop 0 = dktX3_isShowing_0 := by decide +kernel
theorem dksX3_isShowing_1 : cX3_isShowing.data.toList.drop 23 = dktX3_isShowing_1 := dk_seg dksX3_isShowing_0 23 rfl rfl
theorem dX3_isShowing_0 : decode cX3_isShowing 0 = .ok (.iload_n 2, 1) := dk_28 (dk_at dksX3_isShowing_0 0 rfl rfl)
theorem dX3_isShowing_1 : decode cX3_isShowing 1 = .ok (.aload_n 0, 1) := dk_42 (dk_at dksX3_isShowing_0 1 rfl rfl)
theorem dX3_isShowing_2 : decode cX3_isShowing 2 = .ok (.getfield 41, 3) := dk_180 0 41 (dk_at dksX3_isShowing_0 2 rfl rfl)
theorem dX3_isShowing_5 : decode cX3_isShowing 5 = .ok (.iload_n 1, 1) := dk_27 (dk_at dksX3_isShowing_0 5 rfl rfl)
theorem dX3_isShowing_6 : decode cX3_isShowing 6 = .ok (.iaload, 1) := dk_46 (dk_at dksX3_isShowing_0 6 rfl rfl)
theorem dX3_isShowing_7 : decode cX3_isShowing 7 = .ok (.aload_n 0, 1) := dk_42 (dk_at dksX3_isShowing_0 7 rfl rfl)
theorem dX3_isShowing_8 : decode cX3_isShowing 8 = .ok (.getfield 44, 3) := dk_180 0 44 (dk_at dksX3_isShowing_0 8 rfl rfl)
theorem dX3_isShowing_11 : decode cX3_isShowing 11 = .ok (.iload_n 1, 1) := dk_27 (dk_at dksX3_isShowing_0 11 rfl rfl)
theorem dX3_isShowing_12 : decode cX3_isShowing 12 = .ok (.iaload, 1) := dk_46 (dk_at dksX3_isShowing_0 12 rfl rfl)
theorem dX3_isShowing_13 : decode cX3_isShowing 13 = .ok (.iconst 1, 1) := dk_4 (dk_at dksX3_isShowing_0 13 rfl rfl)
theorem dX3_isShowing_14 : decode cX3_isShowing 14 = .ok (.isub, 1) := dk_100 (dk_at dksX3_isShowing_0 14 rfl rfl)
theorem dX3_isShowing_15 : decode cX3_isShowing 15 = .ok (.invokestatic 96, 3) := dk_184 0 96 (dk_at dksX3_isShowing_0 15 rfl rfl)
theorem dX3_isShowing_18 : decode cX3_isShowing 18 = .ok (.ifCond .eq 19, 3) := dk_153 0 19 (dk_at dksX3_isShowing_0 18 rfl rfl)
theorem dX3_isShowing_21 : decode cX3_isShowing 21 = .ok (.aload_n 0, 1) := dk_42 (dk_at dksX3_isShowing_0 21 rfl rfl)
theorem dX3_isShowing_22 : decode cX3_isShowing 22 = .ok (.iload_n 1, 1) := dk_27 (dk_at dksX3_isShowing_0 22 rfl rfl)
theorem dX3_isShowing_23 : decode cX3_isShowing 23 = .ok (.bipush 7, 2) := dk_16 7 (dk_at dksX3_isShowing_1 0 rfl rfl)
theorem dX3_isShowing_25 : decode cX3_isShowing 25 = .ok (.iload_n 2, 1) := dk_28 (dk_at dksX3_isShowing_1 2 rfl rfl)
theorem dX3_isShowing_26 : decode cX3_isShowing 26 = .ok (.invokevirtual 173, 3) := dk_182 0 173 (dk_at dksX3_isShowing_1 3 rfl rfl)
theorem dX3_isShowing_29 : decode cX3_isShowing 29 = .ok (.iconst 1, 1) := dk_4 (dk_at dksX3_isShowing_1 6 rfl rfl)
theorem dX3_isShowing_30 : decode cX3_isShowing 30 = .ok (.if_icmp .lt 7, 3) := dk_161 0 7 (dk_at dksX3_isShowing_1 7 rfl rfl)
theorem dX3_isShowing_33 : decode cX3_isShowing 33 = .ok (.iconst 1, 1) := dk_4 (dk_at dksX3_isShowing_1 10 rfl rfl)
theorem dX3_isShowing_34 : decode cX3_isShowing 34 = .ok (.goto 4, 3) := dk_167 0 4 (dk_at dksX3_isShowing_1 11 rfl rfl)
theorem dX3_isShowing_37 : decode cX3_isShowing 37 = .ok (.iconst 0, 1) := dk_3 (dk_at dksX3_isShowing_1 14 rfl rfl)
theorem dX3_isShowing_38 : decode cX3_isShowing 38 = .ok (.ireturn, 1) := dk_172 (dk_at dksX3_isShowing_1 15 rfl rfl)
abbrev cX3_drawLayer : ByteArray := prog_20_method_58_code
def yX3_drawLayer : MethodName := ⟨RX3, "drawLayer", "(IIII)V"⟩
def dkwX3_drawLayer_6 : List UInt8 := [132, 7, 1, 167, 255, 157, 177]
abbrev dktX3_drawLayer_6 : List UInt8 := dkwX3_drawLayer_6 ++ []
def dkwX3_drawLayer_5 : List UInt8 := [158, 0, 24, 21, 9, 153, 0, 19, 42, 180, 0, 77, 17, 0, 192, 21, 4, 104, 21, 7, 96, 21, 8, 79]
abbrev dktX3_drawLayer_5 : List UInt8 := dkwX3_drawLayer_5 ++ dktX3_drawLayer_6
def dkwX3_drawLayer_4 : List UInt8 := [167, 0, 4, 3, 42, 180, 0, 37, 27, 51, 159, 0, 7, 4, 167, 0, 4, 3, 54, 9, 21, 8]
abbrev dktX3_drawLayer_4 : List UInt8 := dkwX3_drawLayer_4 ++ dktX3_drawLayer_5
def dkwX3_drawLayer_3 : List UInt8 := [2, 159, 0, 36, 42, 180, 0, 77, 17, 0, 192, 21, 5, 4, 96, 104, 21, 7, 96, 46, 158, 0, 7, 4]
abbrev dktX3_drawLayer_3 : List UInt8 := dkwX3_drawLayer_3 ++ dktX3_drawLayer_4
def dkwX3_drawLayer_2 : List UInt8 := [17, 0, 192, 162, 0, 97, 42, 180, 0, 77, 17, 0, 192, 21, 5, 104, 21, 7, 96, 46, 54, 8, 21, 6]
abbrev dktX3_drawLayer_2 : List UInt8 := dkwX3_drawLayer_2 ++ dktX3_drawLayer_3
def dkwX3_drawLayer_1 : List UInt8 := [21, 6, 2, 159, 0, 15, 42, 21, 6, 28, 29, 21, 5, 4, 96, 182, 1, 21, 3, 54, 7, 21, 7]
abbrev dktX3_drawLayer_1 : List UInt8 := dkwX3_drawLayer_1 ++ dktX3_drawLayer_2
def dkwX3_drawLayer_0 : List UInt8 := [4, 5, 29, 104, 96, 54, 5, 42, 27, 28, 29, 21, 5, 182, 1, 21, 42, 180, 0, 34, 27, 46, 54, 6]
abbrev dktX3_drawLayer_0 : List UInt8 := dkwX3_drawLayer_0 ++ dktX3_drawLayer_1
theorem dksX3_drawLayer_0 : cX3_drawLayer.data.toList.drop 0 = dktX3_drawLayer_0 := by decide +kernel
theorem dksX3_drawLayer_1 : cX3_drawLayer.data.toList.drop 24 = dktX3_drawLayer_1 := dk_seg dksX3_drawLayer_0 24 rfl rfl
theorem dksX3_drawLayer_2 : cX3_drawLayer.data.toList.drop 47 = dktX3_drawLayer_2 := dk_seg dksX3_drawLayer_1 23 rfl rfl
theorem dksX3_drawLayer_3 : cX3_drawLayer.data.toList.drop 71 = dktX3_drawLayer_3 := dk_seg dksX3_drawLayer_2 24 rfl rfl
theorem dksX3_drawLayer_4 : cX3_drawLayer.data.toList.drop 95 = dktX3_drawLayer_4 := dk_seg dksX3_drawLayer_3 24 rfl rfl
theorem dksX3_drawLayer_5 : cX3_drawLayer.data.toList.drop 117 = dktX3_drawLayer_5 := dk_seg dksX3_drawLayer_4 22 rfl rfl
theorem dksX3_drawLayer_6 : cX3_drawLayer.data.toList.drop 141 = dktX3_drawLayer_6 := dk_seg dksX3_drawLayer_5 24 rfl rfl
theorem dX3_drawLayer_0 : decode cX3_drawLayer 0 = .ok (.iconst 1, 1) := dk_4 (dk_at dksX3_drawLayer_0 0 rfl rfl)
theorem dX3_drawLayer_1 : decode cX3_drawLayer 1 = .ok (.iconst 2, 1) := dk_5 (dk_at dksX3_drawLayer_0 1 rfl rfl)
theorem dX3_drawLayer_2 : decode cX3_drawLayer 2 = .ok (.iload_n 3, 1) := dk_29 (dk_at dksX3_drawLayer_0 2 rfl rfl)
theorem dX3_drawLayer_3 : decode cX3_drawLayer 3 = .ok (.imul, 1) := dk_104 (dk_at dksX3_drawLayer_0 3 rfl rfl)
theorem dX3_drawLayer_4 : decode cX3_drawLayer 4 = .ok (.iadd, 1) := dk_96 (dk_at dksX3_drawLayer_0 4 rfl rfl)
theorem dX3_drawLayer_5 : decode cX3_drawLayer 5 = .ok (.istore 5, 2) := dk_54 5 (dk_at dksX3_drawLayer_0 5 rfl rfl)
theorem dX3_drawLayer_7 : decode cX3_drawLayer 7 = .ok (.aload_n 0, 1) := dk_42 (dk_at dksX3_drawLayer_0 7 rfl rfl)
theorem dX3_drawLayer_8 : decode cX3_drawLayer 8 = .ok (.iload_n 1, 1) := dk_27 (dk_at dksX3_drawLayer_0 8 rfl rfl)
theorem dX3_drawLayer_9 : decode cX3_drawLayer 9 = .ok (.iload_n 2, 1) := dk_28 (dk_at dksX3_drawLayer_0 9 rfl rfl)
theorem dX3_drawLayer_10 : decode cX3_drawLayer 10 = .ok (.iload_n 3, 1) := dk_29 (dk_at dksX3_drawLayer_0 10 rfl rfl)
theorem dX3_drawLayer_11 : decode cX3_drawLayer 11 = .ok (.iload 5, 2) := dk_21 5 (dk_at dksX3_drawLayer_0 11 rfl rfl)
theorem dX3_drawLayer_13 : decode cX3_drawLayer 13 = .ok (.invokevirtual 277, 3) := dk_182 1 21 (dk_at dksX3_drawLayer_0 13 rfl rfl)
theorem dX3_drawLayer_16 : decode cX3_drawLayer 16 = .ok (.aload_n 0, 1) := dk_42 (dk_at dksX3_drawLayer_0 16 rfl rfl)
theorem dX3_drawLayer_17 : decode cX3_drawLayer 17 = .ok (.getfield 34, 3) := dk_180 0 34 (dk_at dksX3_drawLayer_0 17 rfl rfl)
theorem dX3_drawLayer_20 : decode cX3_drawLayer 20 = .ok (.iload_n 1, 1) := dk_27 (dk_at dksX3_drawLayer_0 20 rfl rfl)
theorem dX3_drawLayer_21 : decode cX3_drawLayer 21 = .ok (.iaload, 1) := dk_46 (dk_at dksX3_drawLayer_0 21 rfl rfl)
theorem dX3_drawLayer_22 : decode cX3_drawLayer 22 = .ok (.istore 6, 2) := dk_54 6 (dk_at dksX3_drawLayer_0 22 rfl rfl)
theorem dX3_drawLayer_24 : decode cX3_drawLayer 24 = .ok (.iload 6, 2) := dk_21 6 (dk_at dksX3_drawLayer_1 0 rfl rfl)
theorem dX3_drawLayer_26 : decode cX3_drawLayer 26 = .ok (.iconst (-1), 1) := dk_2 (dk_at dksX3_drawLayer_1 2 rfl rfl)
theorem dX3_drawLayer_27 : decode cX3_drawLayer 27 = .ok (.if_icmp .eq 15, 3) := dk_159 0 15 (dk_at dksX3_drawLayer_1 3 rfl rfl)
theorem dX3_drawLayer_30 : decode cX3_drawLayer 30 = .ok (.aload_n 0, 1) := dk_42 (dk_at dksX3_drawLayer_1 6 rfl rfl)
theorem dX3_drawLayer_31 : decode cX3_drawLayer 31 = .ok (.iload 6, 2) := dk_21 6 (dk_at dksX3_drawLayer_1 7 rfl rfl)
theorem dX3_drawLayer_33 : decode cX3_drawLayer 33 = .ok (.iload_n 2, 1) := dk_28 (dk_at dksX3_drawLayer_1 9 rfl rfl)
theorem dX3_drawLayer_34 : decode cX3_drawLayer 34 = .ok (.iload_n 3, 1) := dk_29 (dk_at dksX3_drawLayer_1 10 rfl rfl)
theorem dX3_drawLayer_35 : decode cX3_drawLayer 35 = .ok (.iload 5, 2) := dk_21 5 (dk_at dksX3_drawLayer_1 11 rfl rfl)
theorem dX3_drawLayer_37 : decode cX3_drawLayer 37 = .ok (.iconst 1, 1) := dk_4 (dk_at dksX3_drawLayer_1 13 rfl rfl)
theorem dX3_drawLayer_38 : decode cX3_drawLayer 38 = .ok (.iadd, 1) := dk_96 (dk_at dksX3_drawLayer_1 14 rfl rfl)
theorem dX3_drawLayer_39 : decode cX3_drawLayer 39 = .ok (.invokevirtual 277, 3) := dk_182 1 21 (dk_at dksX3_drawLayer_1 15 rfl rfl)
theorem dX3_drawLayer_42 : decode cX3_drawLayer 42 = .ok (.iconst 0, 1) := dk_3 (dk_at dksX3_drawLayer_1 18 rfl rfl)
theorem dX3_drawLayer_43 : decode cX3_drawLayer 43 = .ok (.istore 7, 2) := dk_54 7 (dk_at dksX3_drawLayer_1 19 rfl rfl)
theorem dX3_drawLayer_45 : decode cX3_drawLayer 45 = .ok (.iload 7, 2) := dk_21 7 (dk_at dksX3_drawLayer_1 21 rfl rfl)
theorem dX3_drawLayer_47 : decode cX3_drawLayer 47 = .ok (.sipush 192, 3) := dk_17 0 192 (dk_at dksX3_drawLayer_2 0 rfl rfl)
theorem dX3_drawLayer_50 : decode cX3_drawLayer 50 = .ok (.if_icmp .ge 97, 3) := dk_162 0 97 (dk_at dksX3_drawLayer_2 3 rfl rfl)
theorem dX3_drawLayer_53 : decode cX3_drawLayer 53 = .ok (.aload_n 0, 1) := dk_42 (dk_at dksX3_drawLayer_2 6 rfl rfl)
theorem dX3_drawLayer_54 : decode cX3_drawLayer 54 = .ok (.getfield 77, 3) := dk_180 0 77 (dk_at dksX3_drawLayer_2 7 rfl rfl)
theorem dX3_drawLayer_57 : decode cX3_drawLayer 57 = .ok (.sipush 192, 3) := dk_17 0 192 (dk_at dksX3_drawLayer_2 10 rfl rfl)
theorem dX3_drawLayer_60 : decode cX3_drawLayer 60 = .ok (.iload 5, 2) := dk_21 5 (dk_at dksX3_drawLayer_2 13 rfl rfl)
theorem dX3_drawLayer_62 : decode cX3_drawLayer 62 = .ok (.imul, 1) := dk_104 (dk_at dksX3_drawLayer_2 15 rfl rfl)
theorem dX3_drawLayer_63 : decode cX3_drawLayer 63 = .ok (.iload 7, 2) := dk_21 7 (dk_at dksX3_drawLayer_2 16 rfl rfl)
theorem dX3_drawLayer_65 : decode cX3_drawLayer 65 = .ok (.iadd, 1) := dk_96 (dk_at dksX3_drawLayer_2 18 rfl rfl)
theorem dX3_drawLayer_66 : decode cX3_drawLayer 66 = .ok (.iaload, 1) := dk_46 (dk_at dksX3_drawLayer_2 19 rfl rfl)
theorem dX3_drawLayer_67 : decode cX3_drawLayer 67 = .ok (.istore 8, 2) := dk_54 8 (dk_at dksX3_drawLayer_2 20 rfl rfl)
theorem dX3_drawLayer_69 : decode cX3_drawLayer 69 = .ok (.iload 6, 2) := dk_21 6 (dk_at dksX3_drawLayer_2 22 rfl rfl)
theorem dX3_drawLayer_71 : decode cX3_drawLayer 71 = .ok (.iconst (-1), 1) := dk_2 (dk_at dksX3_drawLayer_3 0 rfl rfl)
theorem dX3_drawLayer_72 : decode cX3_drawLayer 72 = .ok (.if_icmp .eq 36, 3) := dk_159 0 36 (dk_at dksX3_drawLayer_3 1 rfl rfl)
theorem dX3_drawLayer_75 : decode cX3_drawLayer 75 = .ok (.aload_n 0, 1) := dk_42 (dk_at dksX3_drawLayer_3 4 rfl rfl)
theorem dX3_drawLayer_76 : decode cX3_drawLayer 76 = .ok (.getfield 77, 3) := dk_180 0 77 (dk_at dksX3_drawLayer_3 5 rfl rfl)
theorem dX3_drawLayer_79 : decode cX3_drawLayer 79 = .ok (.sipush 192, 3) := dk_17 0 192 (dk_at dksX3_drawLayer_3 8 rfl rfl)
theorem dX3_drawLayer_82 : decode cX3_drawLayer 82 = .ok (.iload 5, 2) := dk_21 5 (dk_at dksX3_drawLayer_3 11 rfl rfl)
theorem dX3_drawLayer_84 : decode cX3_drawLayer 84 = .ok (.iconst 1, 1) := dk_4 (dk_at dksX3_drawLayer_3 13 rfl rfl)
theorem dX3_drawLayer_85 : decode cX3_drawLayer 85 = .ok (.iadd, 1) := dk_96 (dk_at dksX3_drawLayer_3 14 rfl rfl)
theorem dX3_drawLayer_86 : decode cX3_drawLayer 86 = .ok (.imul, 1) := dk_104 (dk_at dksX3_drawLayer_3 15 rfl rfl)
theorem dX3_drawLayer_87 : decode cX3_drawLayer 87 = .ok (.iload 7, 2) := dk_21 7 (dk_at dksX3_drawLayer_3 16 rfl rfl)
theorem dX3_drawLayer_89 : decode cX3_drawLayer 89 = .ok (.iadd, 1) := dk_96 (dk_at dksX3_drawLayer_3 18 rfl rfl)
theorem dX3_drawLayer_90 : decode cX3_drawLayer 90 = .ok (.iaload, 1) := dk_46 (dk_at dksX3_drawLayer_3 19 rfl rfl)
theorem dX3_drawLayer_91 : decode cX3_drawLayer 91 = .ok (.ifCond .le 7, 3) := dk_158 0 7 (dk_at dksX3_drawLayer_3 20 rfl rfl)
theorem dX3_drawLayer_94 : decode cX3_drawLayer 94 = .ok (.iconst 1, 1) := dk_4 (dk_at dksX3_drawLayer_3 23 rfl rfl)
theorem dX3_drawLayer_95 : decode cX3_drawLayer 95 = .ok (.goto 4, 3) := dk_167 0 4 (dk_at dksX3_drawLayer_4 0 rfl rfl)
theorem dX3_drawLayer_98 : decode cX3_drawLayer 98 = .ok (.iconst 0, 1) := dk_3 (dk_at dksX3_drawLayer_4 3 rfl rfl)
theorem dX3_drawLayer_99 : decode cX3_drawLayer 99 = .ok (.aload_n 0, 1) := dk_42 (dk_at dksX3_drawLayer_4 4 rfl rfl)
theorem dX3_drawLayer_100 : decode cX3_drawLayer 100 = .ok (.getfield 37, 3) := dk_180 0 37 (dk_at dksX3_drawLayer_4 5 rfl rfl)
theorem dX3_drawLayer_103 : decode cX3_drawLayer 103 = .ok (.iload_n 1, 1) := dk_27 (dk_at dksX3_drawLayer_4 8 rfl rfl)
theorem dX3_drawLayer_104 : decode cX3_drawLayer 104 = .ok (.baload, 1) := dk_51 (dk_at dksX3_drawLayer_4 9 rfl rfl)
theorem dX3_drawLayer_105 : decode cX3_drawLayer 105 = .ok (.if_icmp .eq 7, 3) := dk_159 0 7 (dk_at dksX3_drawLayer_4 10 rfl rfl)
theorem dX3_drawLayer_108 : decode cX3_drawLayer 108 = .ok (.iconst 1, 1) := dk_4 (dk_at dksX3_drawLayer_4 13 rfl rfl)
theorem dX3_drawLayer_109 : decode cX3_drawLayer 109 = .ok (.goto 4, 3) := dk_167 0 4 (dk_at dksX3_drawLayer_4 14 rfl rfl)
theorem dX3_drawLayer_112 : decode cX3_drawLayer 112 = .ok (.iconst 0, 1) := dk_3 (dk_at dksX3_drawLayer_4 17 rfl rfl)
theorem dX3_drawLayer_113 : decode cX3_drawLayer 113 = .ok (.istore 9, 2) := dk_54 9 (dk_at dksX3_drawLayer_4 18 rfl rfl)
theorem dX3_drawLayer_115 : decode cX3_drawLayer 115 = .ok (.iload 8, 2) := dk_21 8 (dk_at dksX3_drawLayer_4 20 rfl rfl)
theorem dX3_drawLayer_117 : decode cX3_drawLayer 117 = .ok (.ifCond .le 24, 3) := dk_158 0 24 (dk_at dksX3_drawLayer_5 0 rfl rfl)
theorem dX3_drawLayer_120 : decode cX3_drawLayer 120 = .ok (.iload 9, 2) := dk_21 9 (dk_at dksX3_drawLayer_5 3 rfl rfl)
theorem dX3_drawLayer_122 : decode cX3_drawLayer 122 = .ok (.ifCond .eq 19, 3) := dk_153 0 19 (dk_at dksX3_drawLayer_5 5 rfl rfl)
theorem dX3_drawLayer_125 : decode cX3_drawLayer 125 = .ok (.aload_n 0, 1) := dk_42 (dk_at dksX3_drawLayer_5 8 rfl rfl)
theorem dX3_drawLayer_126 : decode cX3_drawLayer 126 = .ok (.getfield 77, 3) := dk_180 0 77 (dk_at dksX3_drawLayer_5 9 rfl rfl)
theorem dX3_drawLayer_129 : decode cX3_drawLayer 129 = .ok (.sipush 192, 3) := dk_17 0 192 (dk_at dksX3_drawLayer_5 12 rfl rfl)
theorem dX3_drawLayer_132 : decode cX3_drawLayer 132 = .ok (.iload 4, 2) := dk_21 4 (dk_at dksX3_drawLayer_5 15 rfl rfl)
theorem dX3_drawLayer_134 : decode cX3_drawLayer 134 = .ok (.imul, 1) := dk_104 (dk_at dksX3_drawLayer_5 17 rfl rfl)
theorem dX3_drawLayer_135 : decode cX3_drawLayer 135 = .ok (.iload 7, 2) := dk_21 7 (dk_at dksX3_drawLayer_5 18 rfl rfl)
theorem dX3_drawLayer_137 : decode cX3_drawLayer 137 = .ok (.iadd, 1) := dk_96 (dk_at dksX3_drawLayer_5 20 rfl rfl)
theorem dX3_drawLayer_138 : decode cX3_drawLayer 138 = .ok (.iload 8, 2) := dk_21 8 (dk_at dksX3_drawLayer_5 21 rfl rfl)
theorem dX3_drawLayer_140 : decode cX3_drawLayer 140 = .ok (.iastore, 1) := dk_79 (dk_at dksX3_drawLayer_5 23 rfl rfl)
theorem dX3_drawLayer_141 : decode cX3_drawLayer 141 = .ok (.iinc 7 1, 3) := dk_132 7 1 (dk_at dksX3_drawLayer_6 0 rfl rfl)
theorem dX3_drawLayer_144 : decode cX3_drawLayer 144 = .ok (.goto (-99), 3) := dk_167 255 157 (dk_at dksX3_drawLayer_6 3 rfl rfl)
theorem dX3_drawLayer_147 : decode cX3_drawLayer 147 = .ok (.return_, 1) := dk_177 (dk_at dksX3_drawLayer_6 6 rfl rfl)
abbrev cX3_paintLayer : ByteArray := prog_20_method_55_code
def yX3_paintLayer : MethodName := ⟨RX3, "paintLayer", "(IIII)V"⟩
def dkwX3_paintLayer_3 : List UInt8 := [42, 27, 28, 29, 21, 4, 182, 1, 12, 167, 0, 3, 177]
abbrev dktX3_paintLayer_3 : List UInt8 := dkwX3_paintLayer_3 ++ []
def dkwX3_paintLayer_2 : List UInt8 := [42, 27, 28, 29, 21, 4, 182, 1, 6, 167, 0, 27, 42, 27, 28, 29, 21, 4, 182, 1, 9, 167, 0, 15]
abbrev dktX3_paintLayer_2 : List UInt8 := dkwX3_paintLayer_2 ++ dktX3_paintLayer_3
def dkwX3_paintLayer_1 : List UInt8 := [170, 0, 0, 0, 0, 62, 0, 0, 0, 0, 0, 0, 0, 2, 0, 0, 0, 26, 0, 0, 0, 38, 0, 0, 0, 50]
abbrev dktX3_paintLayer_1 : List UInt8 := dkwX3_paintLayer_1 ++ dktX3_paintLayer_2
def dkwX3_paintLayer_0 : List UInt8 := [42, 21, 4, 182, 1, 0, 42, 27, 28, 182, 1, 3, 154, 0, 4, 177, 42, 180, 0, 16, 27, 46]
abbrev dktX3_paintLayer_0 : List UInt8 := dkwX3_paintLayer_0 ++ dktX3_paintLayer_1
theorem dksX3_paintLayer_0 : cX3_paintLayer.data.toList.drop 0 = dktX3_paintLayer_0 := by decide +kernel
theorem dksX3_paintLayer_1 : cX3_paintLayer.data.toList.drop 22 = dktX3_paintLayer_1 := dk_seg dksX3_paintLayer_0 22 rfl rfl
theorem dksX3_paintLayer_2 : cX3_paintLayer.data.toList.drop 48 = dktX3_paintLayer_2 := dk_seg dksX3_paintLayer_1 26 rfl rfl
theorem dksX3_paintLayer_3 : cX3_paintLayer.data.toList.drop 72 = dktX3_paintLayer_3 := dk_seg dksX3_paintLayer_2 24 rfl rfl
theorem dX3_paintLayer_0 : decode cX3_paintLayer 0 = .ok (.aload_n 0, 1) := dk_42 (dk_at dksX3_paintLayer_0 0 rfl rfl)
theorem dX3_paintLayer_1 : decode cX3_paintLayer 1 = .ok (.iload 4, 2) := dk_21 4 (dk_at dksX3_paintLayer_0 1 rfl rfl)
theorem dX3_paintLayer_3 : decode cX3_paintLayer 3 = .ok (.invokevirtual 256, 3) := dk_182 1 0 (dk_at dksX3_paintLayer_0 3 rfl rfl)
theorem dX3_paintLayer_6 : decode cX3_paintLayer 6 = .ok (.aload_n 0, 1) := dk_42 (dk_at dksX3_paintLayer_0 6 rfl rfl)
theorem dX3_paintLayer_7 : decode cX3_paintLayer 7 = .ok (.iload_n 1, 1) := dk_27 (dk_at dksX3_paintLayer_0 7 rfl rfl)
theorem dX3_paintLayer_8 : decode cX3_paintLayer 8 = .ok (.iload_n 2, 1) := dk_28 (dk_at dksX3_paintLayer_0 8 rfl rfl)
theorem dX3_paintLayer_9 : decode cX3_paintLayer 9 = .ok (.invokevirtual 259, 3) := dk_182 1 3 (dk_at dksX3_paintLayer_0 9 rfl rfl)
theorem dX3_paintLayer_12 : decode cX3_paintLayer 12 = .ok (.ifCond .ne 4, 3) := dk_154 0 4 (dk_at dksX3_paintLayer_0 12 rfl rfl)
theorem dX3_paintLayer_15 : decode cX3_paintLayer 15 = .ok (.return_, 1) := dk_177 (dk_at dksX3_paintLayer_0 15 rfl rfl)
theorem dX3_paintLayer_16 : decode cX3_paintLayer 16 = .ok (.aload_n 0, 1) := dk_42 (dk_at dksX3_paintLayer_0 16 rfl rfl)
theorem dX3_paintLayer_17 : decode cX3_paintLayer 17 = .ok (.getfield 16, 3) := dk_180 0 16 (dk_at dksX3_paintLayer_0 17 rfl rfl)
theorem dX3_paintLayer_20 : decode cX3_paintLayer 20 = .ok (.iload_n 1, 1) := dk_27 (dk_at dksX3_paintLayer_0 20 rfl rfl)
theorem dX3_paintLayer_21 : decode cX3_paintLayer 21 = .ok (.iaload, 1) := dk_46 (dk_at dksX3_paintLayer_0 21 rfl rfl)
theorem dX3_paintLayer_22 : decode cX3_paintLayer 22 = .ok (.tableswitch 62 0 2 #[26, 38, 50], 26) := by decide +kernel
theorem dX3_paintLayer_48 : decode cX3_paintLayer 48 = .ok (.aload_n 0, 1) := dk_42 (dk_at dksX3_paintLayer_2 0 rfl rfl)
theorem dX3_paintLayer_49 : decode cX3_paintLayer 49 = .ok (.iload_n 1, 1) := dk_27 (dk_at dksX3_paintLayer_2 1 rfl rfl)
theorem dX3_paintLayer_50 : decode cX3_paintLayer 50 = .ok (.iload_n 2, 1) := dk_28 (dk_at dksX3_paintLayer_2 2 rfl rfl)
theorem dX3_paintLayer_51 : decode cX3_paintLayer 51 = .ok (.iload_n 3, 1) := dk_29 (dk_at dksX3_paintLayer_2 3 rfl rfl)
theorem dX3_paintLayer_52 : decode cX3_paintLayer 52 = .ok (.iload 4, 2) := dk_21 4 (dk_at dksX3_paintLayer_2 4 rfl rfl)
theorem dX3_paintLayer_54 : decode cX3_paintLayer 54 = .ok (.invokevirtual 262, 3) := dk_182 1 6 (dk_at dksX3_paintLayer_2 6 rfl rfl)
theorem dX3_paintLayer_57 : decode cX3_paintLayer 57 = .ok (.goto 27, 3) := dk_167 0 27 (dk_at dksX3_paintLayer_2 9 rfl rfl)
theorem dX3_paintLayer_60 : decode cX3_paintLayer 60 = .ok (.aload_n 0, 1) := dk_42 (dk_at dksX3_paintLayer_2 12 rfl rfl)
theorem dX3_paintLayer_61 : decode cX3_paintLayer 61 = .ok (.iload_n 1, 1) := dk_27 (dk_at dksX3_paintLayer_2 13 rfl rfl)
theorem dX3_paintLayer_62 : decode cX3_paintLayer 62 = .ok (.iload_n 2, 1) := dk_28 (dk_at dksX3_paintLayer_2 14 rfl rfl)
theorem dX3_paintLayer_63 : decode cX3_paintLayer 63 = .ok (.iload_n 3, 1) := dk_29 (dk_at dksX3_paintLayer_2 15 rfl rfl)
theorem dX3_paintLayer_64 : decode cX3_paintLayer 64 = .ok (.iload 4, 2) := dk_21 4 (dk_at dksX3_paintLayer_2 16 rfl rfl)
theorem dX3_paintLayer_66 : decode cX3_paintLayer 66 = .ok (.invokevirtual 265, 3) := dk_182 1 9 (dk_at dksX3_paintLayer_2 18 rfl rfl)
theorem dX3_paintLayer_69 : decode cX3_paintLayer 69 = .ok (.goto 15, 3) := dk_167 0 15 (dk_at dksX3_paintLayer_2 21 rfl rfl)
theorem dX3_paintLayer_72 : decode cX3_paintLayer 72 = .ok (.aload_n 0, 1) := dk_42 (dk_at dksX3_paintLayer_3 0 rfl rfl)
theorem dX3_paintLayer_73 : decode cX3_paintLayer 73 = .ok (.iload_n 1, 1) := dk_27 (dk_at dksX3_paintLayer_3 1 rfl rfl)
theorem dX3_paintLayer_74 : decode cX3_paintLayer 74 = .ok (.iload_n 2, 1) := dk_28 (dk_at dksX3_paintLayer_3 2 rfl rfl)
theorem dX3_paintLayer_75 : decode cX3_paintLayer 75 = .ok (.iload_n 3, 1) := dk_29 (dk_at dksX3_paintLayer_3 3 rfl rfl)
theorem dX3_paintLayer_76 : decode cX3_paintLayer 76 = .ok (.iload 4, 2) := dk_21 4 (dk_at dksX3_paintLayer_3 4 rfl rfl)
theorem dX3_paintLayer_78 : decode cX3_paintLayer 78 = .ok (.invokevirtual 268, 3) := dk_182 1 12 (dk_at dksX3_paintLayer_3 6 rfl rfl)
theorem dX3_paintLayer_81 : decode cX3_paintLayer 81 = .ok (.goto 3, 3) := dk_167 0 3 (dk_at dksX3_paintLayer_3 9 rfl rfl)
theorem dX3_paintLayer_84 : decode cX3_paintLayer 84 = .ok (.return_, 1) := dk_177 (dk_at dksX3_paintLayer_3 12 rfl rfl)
abbrev cX3_paintRect : ByteArray := prog_20_method_49_code
def yX3_paintRect : MethodName := ⟨RX3, "paintRect", "(IIII)V"⟩
def dkwX3_paintRect_8 : List UInt8 := [180, 0, 28, 27, 46, 182, 0, 232, 132, 9, 1, 167, 255, 119, 177]
abbrev dktX3_paintRect_8 : List UInt8 := dkwX3_paintRect_8 ++ []
def dkwX3_paintRect_7 : List UInt8 := [180, 0, 184, 184, 0, 215, 148, 156, 0, 25, 42, 21, 4, 21, 9, 16, 16, 112, 21, 9, 16, 16, 108, 42]
abbrev dktX3_paintRect_7 : List UInt8 := dkwX3_paintRect_7 ++ dktX3_paintRect_8
def dkwX3_paintRect_6 : List UInt8 := [153, 0, 55, 22, 12, 22, 7, 42, 180, 0, 184, 184, 0, 212, 148, 155, 0, 40, 22, 12, 22, 7, 42]
abbrev dktX3_paintRect_6 : List UInt8 := dkwX3_paintRect_6 ++ dktX3_paintRect_7
def dkwX3_paintRect_5 : List UInt8 := [22, 10, 22, 5, 42, 180, 0, 180, 184, 0, 215, 148, 156, 0, 7, 4, 167, 0, 4, 3, 54, 14, 21, 14]
abbrev dktX3_paintRect_5 : List UInt8 := dkwX3_paintRect_5 ++ dktX3_paintRect_6
def dkwX3_paintRect_4 : List UInt8 := [133, 105, 20, 0, 230, 97, 55, 12, 22, 10, 22, 5, 42, 180, 0, 180, 184, 0, 212, 148, 155, 0, 22]
abbrev dktX3_paintRect_4 : List UInt8 := dkwX3_paintRect_4 ++ dktX3_paintRect_5
def dkwX3_paintRect_3 : List UInt8 := [20, 0, 187, 21, 9, 16, 16, 112, 133, 105, 20, 0, 230, 97, 55, 10, 20, 0, 187, 21, 9, 16, 16, 108]
abbrev dktX3_paintRect_3 : List UInt8 := dkwX3_paintRect_3 ++ dktX3_paintRect_4
def dkwX3_paintRect_2 : List UInt8 := [105, 182, 0, 196, 42, 27, 28, 29, 182, 0, 227, 3, 54, 9, 21, 9, 17, 0, 192, 162, 0, 135]
abbrev dktX3_paintRect_2 : List UInt8 := dkwX3_paintRect_2 ++ dktX3_paintRect_3
def dkwX3_paintRect_1 : List UInt8 := [55, 7, 42, 20, 0, 187, 42, 180, 0, 22, 27, 46, 133, 105, 20, 0, 187, 42, 180, 0, 25, 27, 46, 133]
abbrev dktX3_paintRect_1 : List UInt8 := dkwX3_paintRect_1 ++ dktX3_paintRect_2
def dkwX3_paintRect_0 : List UInt8 := [42, 9, 9, 182, 0, 196, 42, 27, 28, 29, 182, 0, 227, 42, 180, 0, 180, 55, 5, 42, 180, 0, 184]
abbrev dktX3_paintRect_0 : List UInt8 := dkwX3_paintRect_0 ++ dktX3_paintRect_1
theorem dksX3_paintRect_0 : cX3_paintRect.data.toList.drop 0 = dktX3_paintRect_0 := by decide +kernel
theorem dksX3_paintRect_1 : cX3_paintRect.data.toList.drop 23 = dktX3_paintRect_1 := dk_seg dksX3_paintRect_0 23 rfl rfl
theorem dksX3_paintRect_2 : cX3_paintRect.data.toList.drop 47 = dktX3_paintRect_2 := dk_seg dksX3_paintRect_1 24 rfl rfl
theorem dksX3_paintRect_3 : cX3_paintRect.data.toList.drop 69 = dktX3_paintRect_3 := dk_seg dksX3_paintRect_2 22 rfl rfl
theorem dksX3_paintRect_4 : cX3_paintRect.data.toList.drop 93 = dktX3_paintRect_4 := dk_seg dksX3_paintRect_3 24 rfl rfl
theorem dksX3_paintRect_5 : cX3_paintRect.data.toList.drop 116 = dktX3_paintRect_5 := dk_seg dksX3_paintRect_4 23 rfl rfl
theorem dksX3_paintRect_6 : cX3_paintRect.data.toList.drop 140 = dktX3_paintRect_6 := dk_seg dksX3_paintRect_5 24 rfl rfl
theorem dksX3_paintRect_7 : cX3_paintRect.data.toList.drop 163 = dktX3_paintRect_7 := dk_seg dksX3_paintRect_6 23 rfl rfl
theorem dksX3_paintRect_8 : cX3_paintRect.data.toList.drop 187 = dktX3_paintRect_8 := dk_seg dksX3_paintRect_7 24 rfl rfl
theorem dX3_paintRect_0 : decode cX3_paintRect 0 = .ok (.aload_n 0, 1) := dk_42 (dk_at dksX3_paintRect_0 0 rfl rfl)
theorem dX3_paintRect_1 : decode cX3_paintRect 1 = .ok (.lconst 0, 1) := dk_9 (dk_at dksX3_paintRect_0 1 rfl rfl)
theorem dX3_paintRect_2 : decode cX3_paintRect 2 = .ok (.lconst 0, 1) := dk_9 (dk_at dksX3_paintRect_0 2 rfl rfl)
theorem dX3_paintRect_3 : decode cX3_paintRect 3 = .ok (.invokevirtual 196, 3) := dk_182 0 196 (dk_at dksX3_paintRect_0 3 rfl rfl)
theorem dX3_paintRect_6 : decode cX3_paintRect 6 = .ok (.aload_n 0, 1) := dk_42 (dk_at dksX3_paintRect_0 6 rfl rfl)
theorem dX3_paintRect_7 : decode cX3_paintRect 7 = .ok (.iload_n 1, 1) := dk_27 (dk_at dksX3_paintRect_0 7 rfl rfl)
theorem dX3_paintRect_8 : decode cX3_paintRect 8 = .ok (.iload_n 2, 1) := dk_28 (dk_at dksX3_paintRect_0 8 rfl rfl)
theorem dX3_paintRect_9 : decode cX3_paintRect 9 = .ok (.iload_n 3, 1) := dk_29 (dk_at dksX3_paintRect_0 9 rfl rfl)
theorem dX3_paintRect_10 : decode cX3_paintRect 10 = .ok (.invokevirtual 227, 3) := dk_182 0 227 (dk_at dksX3_paintRect_0 10 rfl rfl)
theorem dX3_paintRect_13 : decode cX3_paintRect 13 = .ok (.aload_n 0, 1) := dk_42 (dk_at dksX3_paintRect_0 13 rfl rfl)
theorem dX3_paintRect_14 : decode cX3_paintRect 14 = .ok (.getfield 180, 3) := dk_180 0 180 (dk_at dksX3_paintRect_0 14 rfl rfl)
theorem dX3_paintRect_17 : decode cX3_paintRect 17 = .ok (.lstore 5, 2) := dk_55 5 (dk_at dksX3_paintRect_0 17 rfl rfl)
theorem dX3_paintRect_19 : decode cX3_paintRect 19 = .ok (.aload_n 0, 1) := dk_42 (dk_at dksX3_paintRect_0 19 rfl rfl)
theorem dX3_paintRect_20 : decode cX3_paintRect 20 = .ok (.getfield 184, 3) := dk_180 0 184 (dk_at dksX3_paintRect_0 20 rfl rfl)
theorem dX3_paintRect_23 : decode cX3_paintRect 23 = .ok (.lstore 7, 2) := dk_55 7 (dk_at dksX3_paintRect_1 0 rfl rfl)
theorem dX3_paintRect_25 : decode cX3_paintRect 25 = .ok (.aload_n 0, 1) := dk_42 (dk_at dksX3_paintRect_1 2 rfl rfl)
theorem dX3_paintRect_26 : decode cX3_paintRect 26 = .ok (.ldc2_w 187, 3) := dk_20 0 187 (dk_at dksX3_paintRect_1 3 rfl rfl)
theorem dX3_paintRect_29 : decode cX3_paintRect 29 = .ok (.aload_n 0, 1) := dk_42 (dk_at dksX3_paintRect_1 6 rfl rfl)
theorem dX3_paintRect_30 : decode cX3_paintRect 30 = .ok (.getfield 22, 3) := dk_180 0 22 (dk_at dksX3_paintRect_1 7 rfl rfl)
theorem dX3_paintRect_33 : decode cX3_paintRect 33 = .ok (.iload_n 1, 1) := dk_27 (dk_at dksX3_paintRect_1 10 rfl rfl)
theorem dX3_paintRect_34 : decode cX3_paintRect 34 = .ok (.iaload, 1) := dk_46 (dk_at dksX3_paintRect_1 11 rfl rfl)
theorem dX3_paintRect_35 : decode cX3_paintRect 35 = .ok (.i2l, 1) := dk_133 (dk_at dksX3_paintRect_1 12 rfl rfl)
theorem dX3_paintRect_36 : decode cX3_paintRect 36 = .ok (.lmul, 1) := dk_105 (dk_at dksX3_paintRect_1 13 rfl rfl)
theorem dX3_paintRect_37 : decode cX3_paintRect 37 = .ok (.ldc2_w 187, 3) := dk_20 0 187 (dk_at dksX3_paintRect_1 14 rfl rfl)
theorem dX3_paintRect_40 : decode cX3_paintRect 40 = .ok (.aload_n 0, 1) := dk_42 (dk_at dksX3_paintRect_1 17 rfl rfl)
theorem dX3_paintRect_41 : decode cX3_paintRect 41 = .ok (.getfield 25, 3) := dk_180 0 25 (dk_at dksX3_paintRect_1 18 rfl rfl)
theorem dX3_paintRect_44 : decode cX3_paintRect 44 = .ok (.iload_n 1, 1) := dk_27 (dk_at dksX3_paintRect_1 21 rfl rfl)
theorem dX3_paintRect_45 : decode cX3_paintRect 45 = .ok (.iaload, 1) := dk_46 (dk_at dksX3_paintRect_1 22 rfl rfl)
theorem dX3_paintRect_46 : decode cX3_paintRect 46 = .ok (.i2l, 1) := dk_133 (dk_at dksX3_paintRect_1 23 rfl rfl)
theorem dX3_paintRect_47 : decode cX3_paintRect 47 = .ok (.lmul, 1) := dk_105 (dk_at dksX3_paintRect_2 0 rfl rfl)
theorem dX3_paintRect_48 : decode cX3_paintRect 48 = .ok (.invokevirtual 196, 3) := dk_182 0 196 (dk_at dksX3_paintRect_2 1 rfl rfl)
theorem dX3_paintRect_51 : decode cX3_paintRect 51 = .ok (.aload_n 0, 1) := dk_42 (dk_at dksX3_paintRect_2 4 rfl rfl)
theorem dX3_paintRect_52 : decode cX3_paintRect 52 = .ok (.iload_n 1, 1) := dk_27 (dk_at dksX3_paintRect_2 5 rfl rfl)
theorem dX3_paintRect_53 : decode cX3_paintRect 53 = .ok (.iload_n 2, 1) := dk_28 (dk_at dksX3_paintRect_2 6 rfl rfl)
theorem dX3_paintRect_54 : decode cX3_paintRect 54 = .ok (.iload_n 3, 1) := dk_29 (dk_at dksX3_paintRect_2 7 rfl rfl)
theorem dX3_paintRect_55 : decode cX3_paintRect 55 = .ok (.invokevirtual 227, 3) := dk_182 0 227 (dk_at dksX3_paintRect_2 8 rfl rfl)
theorem dX3_paintRect_58 : decode cX3_paintRect 58 = .ok (.iconst 0, 1) := dk_3 (dk_at dksX3_paintRect_2 11 rfl rfl)
theorem dX3_paintRect_59 : decode cX3_paintRect 59 = .ok (.istore 9, 2) := dk_54 9 (dk_at dksX3_paintRect_2 12 rfl rfl)
theorem dX3_paintRect_61 : decode cX3_paintRect 61 = .ok (.iload 9, 2) := dk_21 9 (dk_at dksX3_paintRect_2 14 rfl rfl)
theorem dX3_paintRect_63 : decode cX3_paintRect 63 = .ok (.sipush 192, 3) := dk_17 0 192 (dk_at dksX3_paintRect_2 16 rfl rfl)
theorem dX3_paintRect_66 : decode cX3_paintRect 66 = .ok (.if_icmp .ge 135, 3) := dk_162 0 135 (dk_at dksX3_paintRect_2 19 rfl rfl)
theorem dX3_paintRect_69 : decode cX3_paintRect 69 = .ok (.ldc2_w 187, 3) := dk_20 0 187 (dk_at dksX3_paintRect_3 0 rfl rfl)
theorem dX3_paintRect_72 : decode cX3_paintRect 72 = .ok (.iload 9, 2) := dk_21 9 (dk_at dksX3_paintRect_3 3 rfl rfl)
theorem dX3_paintRect_74 : decode cX3_paintRect 74 = .ok (.bipush 16, 2) := dk_16 16 (dk_at dksX3_paintRect_3 5 rfl rfl)
theorem dX3_paintRect_76 : decode cX3_paintRect 76 = .ok (.irem, 1) := dk_112 (dk_at dksX3_paintRect_3 7 rfl rfl)
theorem dX3_paintRect_77 : decode cX3_paintRect 77 = .ok (.i2l, 1) := dk_133 (dk_at dksX3_paintRect_3 8 rfl rfl)
theorem dX3_paintRect_78 : decode cX3_paintRect 78 = .ok (.lmul, 1) := dk_105 (dk_at dksX3_paintRect_3 9 rfl rfl)
theorem dX3_paintRect_79 : decode cX3_paintRect 79 = .ok (.ldc2_w 230, 3) := dk_20 0 230 (dk_at dksX3_paintRect_3 10 rfl rfl)
theorem dX3_paintRect_82 : decode cX3_paintRect 82 = .ok (.ladd, 1) := dk_97 (dk_at dksX3_paintRect_3 13 rfl rfl)
theorem dX3_paintRect_83 : decode cX3_paintRect 83 = .ok (.lstore 10, 2) := dk_55 10 (dk_at dksX3_paintRect_3 14 rfl rfl)
theorem dX3_paintRect_85 : decode cX3_paintRect 85 = .ok (.ldc2_w 187, 3) := dk_20 0 187 (dk_at dksX3_paintRect_3 16 rfl rfl)
theorem dX3_paintRect_88 : decode cX3_paintRect 88 = .ok (.iload 9, 2) := dk_21 9 (dk_at dksX3_paintRect_3 19 rfl rfl)
theorem dX3_paintRect_90 : decode cX3_paintRect 90 = .ok (.bipush 16, 2) := dk_16 16 (dk_at dksX3_paintRect_3 21 rfl rfl)
theorem dX3_paintRect_92 : decode cX3_paintRect 92 = .ok (.idiv, 1) := dk_108 (dk_at dksX3_paintRect_3 23 rfl rfl)
theorem dX3_paintRect_93 : decode cX3_paintRect 93 = .ok (.i2l, 1) := dk_133 (dk_at dksX3_paintRect_4 0 rfl rfl)
theorem dX3_paintRect_94 : decode cX3_paintRect 94 = .ok (.lmul, 1) := dk_105 (dk_at dksX3_paintRect_4 1 rfl rfl)
theorem dX3_paintRect_95 : decode cX3_paintRect 95 = .ok (.ldc2_w 230, 3) := dk_20 0 230 (dk_at dksX3_paintRect_4 2 rfl rfl)
theorem dX3_paintRect_98 : decode cX3_paintRect 98 = .ok (.ladd, 1) := dk_97 (dk_at dksX3_paintRect_4 5 rfl rfl)
theorem dX3_paintRect_99 : decode cX3_paintRect 99 = .ok (.lstore 12, 2) := dk_55 12 (dk_at dksX3_paintRect_4 6 rfl rfl)
theorem dX3_paintRect_101 : decode cX3_paintRect 101 = .ok (.lload 10, 2) := dk_22 10 (dk_at dksX3_paintRect_4 8 rfl rfl)
theorem dX3_paintRect_103 : decode cX3_paintRect 103 = .ok (.lload 5, 2) := dk_22 5 (dk_at dksX3_paintRect_4 10 rfl rfl)
theorem dX3_paintRect_105 : decode cX3_paintRect 105 = .ok (.aload_n 0, 1) := dk_42 (dk_at dksX3_paintRect_4 12 rfl rfl)
theorem dX3_paintRect_106 : decode cX3_paintRect 106 = .ok (.getfield 180, 3) := dk_180 0 180 (dk_at dksX3_paintRect_4 13 rfl rfl)
theorem dX3_paintRect_109 : decode cX3_paintRect 109 = .ok (.invokestatic 212, 3) := dk_184 0 212 (dk_at dksX3_paintRect_4 16 rfl rfl)
theorem dX3_paintRect_112 : decode cX3_paintRect 112 = .ok (.lcmp, 1) := dk_148 (dk_at dksX3_paintRect_4 19 rfl rfl)
theorem dX3_paintRect_113 : decode cX3_paintRect 113 = .ok (.ifCond .lt 22, 3) := dk_155 0 22 (dk_at dksX3_paintRect_4 20 rfl rfl)
theorem dX3_paintRect_116 : decode cX3_paintRect 116 = .ok (.lload 10, 2) := dk_22 10 (dk_at dksX3_paintRect_5 0 rfl rfl)
theorem dX3_paintRect_118 : decode cX3_paintRect 118 = .ok (.lload 5, 2) := dk_22 5 (dk_at dksX3_paintRect_5 2 rfl rfl)
theorem dX3_paintRect_120 : decode cX3_paintRect 120 = .ok (.aload_n 0, 1) := dk_42 (dk_at dksX3_paintRect_5 4 rfl rfl)
theorem dX3_paintRect_121 : decode cX3_paintRect 121 = .ok (.getfield 180, 3) := dk_180 0 180 (dk_at dksX3_paintRect_5 5 rfl rfl)
theorem dX3_paintRect_124 : decode cX3_paintRect 124 = .ok (.invokestatic 215, 3) := dk_184 0 215 (dk_at dksX3_paintRect_5 8 rfl rfl)
theorem dX3_paintRect_127 : decode cX3_paintRect 127 = .ok (.lcmp, 1) := dk_148 (dk_at dksX3_paintRect_5 11 rfl rfl)
theorem dX3_paintRect_128 : decode cX3_paintRect 128 = .ok (.ifCond .ge 7, 3) := dk_156 0 7 (dk_at dksX3_paintRect_5 12 rfl rfl)
theorem dX3_paintRect_131 : decode cX3_paintRect 131 = .ok (.iconst 1, 1) := dk_4 (dk_at dksX3_paintRect_5 15 rfl rfl)
theorem dX3_paintRect_132 : decode cX3_paintRect 132 = .ok (.goto 4, 3) := dk_167 0 4 (dk_at dksX3_paintRect_5 16 rfl rfl)
theorem dX3_paintRect_135 : decode cX3_paintRect 135 = .ok (.iconst 0, 1) := dk_3 (dk_at dksX3_paintRect_5 19 rfl rfl)
theorem dX3_paintRect_136 : decode cX3_paintRect 136 = .ok (.istore 14, 2) := dk_54 14 (dk_at dksX3_paintRect_5 20 rfl rfl)
theorem dX3_paintRect_138 : decode cX3_paintRect 138 = .ok (.iload 14, 2) := dk_21 14 (dk_at dksX3_paintRect_5 22 rfl rfl)
theorem dX3_paintRect_140 : decode cX3_paintRect 140 = .ok (.ifCond .eq 55, 3) := dk_153 0 55 (dk_at dksX3_paintRect_6 0 rfl rfl)
theorem dX3_paintRect_143 : decode cX3_paintRect 143 = .ok (.lload 12, 2) := dk_22 12 (dk_at dksX3_paintRect_6 3 rfl rfl)
theorem dX3_paintRect_145 : decode cX3_paintRect 145 = .ok (.lload 7, 2) := dk_22 7 (dk_at dksX3_paintRect_6 5 rfl rfl)
theorem dX3_paintRect_147 : decode cX3_paintRect 147 = .ok (.aload_n 0, 1) := dk_42 (dk_at dksX3_paintRect_6 7 rfl rfl)
theorem dX3_paintRect_148 : decode cX3_paintRect 148 = .ok (.getfield 184, 3) := dk_180 0 184 (dk_at dksX3_paintRect_6 8 rfl rfl)
theorem dX3_paintRect_151 : decode cX3_paintRect 151 = .ok (.invokestatic 212, 3) := dk_184 0 212 (dk_at dksX3_paintRect_6 11 rfl rfl)
theorem dX3_paintRect_154 : decode cX3_paintRect 154 = .ok (.lcmp, 1) := dk_148 (dk_at dksX3_paintRect_6 14 rfl rfl)
theorem dX3_paintRect_155 : decode cX3_paintRect 155 = .ok (.ifCond .lt 40, 3) := dk_155 0 40 (dk_at dksX3_paintRect_6 15 rfl rfl)
theorem dX3_paintRect_158 : decode cX3_paintRect 158 = .ok (.lload 12, 2) := dk_22 12 (dk_at dksX3_paintRect_6 18 rfl rfl)
theorem dX3_paintRect_160 : decode cX3_paintRect 160 = .ok (.lload 7, 2) := dk_22 7 (dk_at dksX3_paintRect_6 20 rfl rfl)
theorem dX3_paintRect_162 : decode cX3_paintRect 162 = .ok (.aload_n 0, 1) := dk_42 (dk_at dksX3_paintRect_6 22 rfl rfl)
theorem dX3_paintRect_163 : decode cX3_paintRect 163 = .ok (.getfield 184, 3) := dk_180 0 184 (dk_at dksX3_paintRect_7 0 rfl rfl)
theorem dX3_paintRect_166 : decode cX3_paintRect 166 = .ok (.invokestatic 215, 3) := dk_184 0 215 (dk_at dksX3_paintRect_7 3 rfl rfl)
theorem dX3_paintRect_169 : decode cX3_paintRect 169 = .ok (.lcmp, 1) := dk_148 (dk_at dksX3_paintRect_7 6 rfl rfl)
theorem dX3_paintRect_170 : decode cX3_paintRect 170 = .ok (.ifCond .ge 25, 3) := dk_156 0 25 (dk_at dksX3_paintRect_7 7 rfl rfl)
theorem dX3_paintRect_173 : decode cX3_paintRect 173 = .ok (.aload_n 0, 1) := dk_42 (dk_at dksX3_paintRect_7 10 rfl rfl)
theorem dX3_paintRect_174 : decode cX3_paintRect 174 = .ok (.iload 4, 2) := dk_21 4 (dk_at dksX3_paintRect_7 11 rfl rfl)
theorem dX3_paintRect_176 : decode cX3_paintRect 176 = .ok (.iload 9, 2) := dk_21 9 (dk_at dksX3_paintRect_7 13 rfl rfl)
theorem dX3_paintRect_178 : decode cX3_paintRect 178 = .ok (.bipush 16, 2) := dk_16 16 (dk_at dksX3_paintRect_7 15 rfl rfl)
theorem dX3_paintRect_180 : decode cX3_paintRect 180 = .ok (.irem, 1) := dk_112 (dk_at dksX3_paintRect_7 17 rfl rfl)
theorem dX3_paintRect_181 : decode cX3_paintRect 181 = .ok (.iload 9, 2) := dk_21 9 (dk_at dksX3_paintRect_7 18 rfl rfl)
theorem dX3_paintRect_183 : decode cX3_paintRect 183 = .ok (.bipush 16, 2) := dk_16 16 (dk_at dksX3_paintRect_7 20 rfl rfl)
theorem dX3_paintRect_185 : decode cX3_paintRect 185 = .ok (.idiv, 1) := dk_108 (dk_at dksX3_paintRect_7 22 rfl rfl)
theorem dX3_paintRect_186 : decode cX3_paintRect 186 = .ok (.aload_n 0, 1) := dk_42 (dk_at dksX3_paintRect_7 23 rfl rfl)
theorem dX3_paintRect_187 : decode cX3_paintRect 187 = .ok (.getfield 28, 3) := dk_180 0 28 (dk_at dksX3_paintRect_8 0 rfl rfl)
theorem dX3_paintRect_190 : decode cX3_paintRect 190 = .ok (.iload_n 1, 1) := dk_27 (dk_at dksX3_paintRect_8 3 rfl rfl)
theorem dX3_paintRect_191 : decode cX3_paintRect 191 = .ok (.iaload, 1) := dk_46 (dk_at dksX3_paintRect_8 4 rfl rfl)
theorem dX3_paintRect_192 : decode cX3_paintRect 192 = .ok (.invokevirtual 232, 3) := dk_182 0 232 (dk_at dksX3_paintRect_8 5 rfl rfl)
theorem dX3_paintRect_195 : decode cX3_paintRect 195 = .ok (.iinc 9 1, 3) := dk_132 9 1 (dk_at dksX3_paintRect_8 8 rfl rfl)
theorem dX3_paintRect_198 : decode cX3_paintRect 198 = .ok (.goto (-137), 3) := dk_167 255 119 (dk_at dksX3_paintRect_8 11 rfl rfl)
theorem dX3_paintRect_201 : decode cX3_paintRect 201 = .ok (.return_, 1) := dk_177 (dk_at dksX3_paintRect_8 14 rfl rfl)
abbrev cX3_mapOut : ByteArray := prog_20_method_41_code
def yX3_mapOut : MethodName := ⟨RX3, "mapOut", "(III)V"⟩
def dkwX3_mapOut_1 : List UInt8 := [42, 180, 0, 74, 21, 4, 46, 182, 0, 200, 132, 4, 255, 167, 255, 230, 177]
abbrev dktX3_mapOut_1 : List UInt8 := dkwX3_mapOut_1 ++ []
def dkwX3_mapOut_0 : List UInt8 := [42, 27, 28, 182, 0, 200, 29, 4, 100, 54, 4, 21, 4, 155, 0, 27, 42, 42, 180, 0, 71, 21, 4, 46]
abbrev dktX3_mapOut_0 : List UInt8 := dkwX3_mapOut_0 ++ dktX3_mapOut_1
theorem dksX3_mapOut_0 : cX3_mapOut.data.toList.drop 0 = dktX3_mapOut_0 := by decide +kernel
theorem dksX3_mapOut_1 : cX3_mapOut.data.toList.drop 24 = dktX3_mapOut_1 := dk_seg dksX3_mapOut_0 24 rfl rfl
theorem dX3_mapOut_0 : decode cX3_mapOut 0 = .ok (.aload_n 0, 1) := dk_42 (dk_at dksX3_mapOut_0 0 rfl rfl)
theorem dX3_mapOut_1 : decode cX3_mapOut 1 = .ok (.iload_n 1, 1) := dk_27 (dk_at dksX3_mapOut_0 1 rfl rfl)
theorem dX3_mapOut_2 : decode cX3_mapOut 2 = .ok (.iload_n 2, 1) := dk_28 (dk_at dksX3_mapOut_0 2 rfl rfl)
theorem dX3_mapOut_3 : decode cX3_mapOut 3 = .ok (.invokevirtual 200, 3) := dk_182 0 200 (dk_at dksX3_mapOut_0 3 rfl rfl)
theorem dX3_mapOut_6 : decode cX3_mapOut 6 = .ok (.iload_n 3, 1) := dk_29 (dk_at dksX3_mapOut_0 6 rfl rfl)
theorem dX3_mapOut_7 : decode cX3_mapOut 7 = .ok (.iconst 1, 1) := dk_4 (dk_at dksX3_mapOut_0 7 rfl rfl)
theorem dX3_mapOut_8 : decode cX3_mapOut 8 = .ok (.isub, 1) := dk_100 (dk_at dksX3_mapOut_0 8 rfl rfl)
theorem dX3_mapOut_9 : decode cX3_mapOut 9 = .ok (.istore 4, 2) := dk_54 4 (dk_at dksX3_mapOut_0 9 rfl rfl)
theorem dX3_mapOut_11 : decode cX3_mapOut 11 = .ok (.iload 4, 2) := dk_21 4 (dk_at dksX3_mapOut_0 11 rfl rfl)
theorem dX3_mapOut_13 : decode cX3_mapOut 13 = .ok (.ifCond .lt 27, 3) := dk_155 0 27 (dk_at dksX3_mapOut_0 13 rfl rfl)
theorem dX3_mapOut_16 : decode cX3_mapOut 16 = .ok (.aload_n 0, 1) := dk_42 (dk_at dksX3_mapOut_0 16 rfl rfl)
theorem dX3_mapOut_17 : decode cX3_mapOut 17 = .ok (.aload_n 0, 1) := dk_42 (dk_at dksX3_mapOut_0 17 rfl rfl)
theorem dX3_mapOut_18 : decode cX3_mapOut 18 = .ok (.getfield 71, 3) := dk_180 0 71 (dk_at dksX3_mapOut_0 18 rfl rfl)
theorem dX3_mapOut_21 : decode cX3_mapOut 21 = .ok (.iload 4, 2) := dk_21 4 (dk_at dksX3_mapOut_0 21 rfl rfl)
theorem dX3_mapOut_23 : decode cX3_mapOut 23 = .ok (.iaload, 1) := dk_46 (dk_at dksX3_mapOut_0 23 rfl rfl)
theorem dX3_mapOut_24 : decode cX3_mapOut 24 = .ok (.aload_n 0, 1) := dk_42 (dk_at dksX3_mapOut_1 0 rfl rfl)
theorem dX3_mapOut_25 : decode cX3_mapOut 25 = .ok (.getfield 74, 3) := dk_180 0 74 (dk_at dksX3_mapOut_1 1 rfl rfl)
theorem dX3_mapOut_28 : decode cX3_mapOut 28 = .ok (.iload 4, 2) := dk_21 4 (dk_at dksX3_mapOut_1 4 rfl rfl)
theorem dX3_mapOut_30 : decode cX3_mapOut 30 = .ok (.iaload, 1) := dk_46 (dk_at dksX3_mapOut_1 6 rfl rfl)
theorem dX3_mapOut_31 : decode cX3_mapOut 31 = .ok (.invokevirtual 200, 3) := dk_182 0 200 (dk_at dksX3_mapOut_1 7 rfl rfl)
theorem dX3_mapOut_34 : decode cX3_mapOut 34 = .ok (.iinc 4 (-1), 3) := dk_132 4 255 (dk_at dksX3_mapOut_1 10 rfl rfl)
theorem dX3_mapOut_37 : decode cX3_mapOut 37 = .ok (.goto (-26), 3) := dk_167 255 230 (dk_at dksX3_mapOut_1 13 rfl rfl)
theorem dX3_mapOut_40 : decode cX3_mapOut 40 = .ok (.return_, 1) := dk_177 (dk_at dksX3_mapOut_1 16 rfl rfl)
abbrev cX3_paint : ByteArray := prog_20_method_48_code
def yX3_paint : MethodName := ⟨RX3, "paint", "(IIII)V"⟩
def dkwX3_paint_1 : List UInt8 := [17, 0, 192, 27, 104, 16, 16, 29, 104, 96, 28, 96, 21, 4, 79, 177]
abbrev dktX3_paint_1 : List UInt8 := dkwX3_paint_1 ++ []
def dkwX3_paint_0 : List UInt8 := [28, 3, 16, 15, 184, 0, 96, 153, 0, 32, 29, 3, 16, 11, 184, 0, 96, 153, 0, 22, 42, 180, 0, 77]
abbrev dktX3_paint_0 : List UInt8 := dkwX3_paint_0 ++ dktX3_paint_1
theorem dksX3_paint_0 : cX3_paint.data.toList.drop 0 = dktX3_paint_0 := by decide +kernel
theorem dksX3_paint_1 : cX3_paint.data.toList.drop 24 = dktX3_paint_1 := dk_seg dksX3_paint_0 24 rfl rfl
theorem dX3_paint_0 : decode cX3_paint 0 = .ok (.iload_n 2, 1) := dk_28 (dk_at dksX3_paint_0 0 rfl rfl)
theorem dX3_paint_1 : decode cX3_paint 1 = .ok (.iconst 0, 1) := dk_3 (dk_at dksX3_paint_0 1 rfl rfl)
theorem dX3_paint_2 : decode cX3_paint 2 = .ok (.bipush 15, 2) := dk_16 15 (dk_at dksX3_paint_0 2 rfl rfl)
theorem dX3_paint_4 : decode cX3_paint 4 = .ok (.invokestatic 96, 3) := dk_184 0 96 (dk_at dksX3_paint_0 4 rfl rfl)
theorem dX3_paint_7 : decode cX3_paint 7 = .ok (.ifCond .eq 32, 3) := dk_153 0 32 (dk_at dksX3_paint_0 7 rfl rfl)
theorem dX3_paint_10 : decode cX3_paint 10 = .ok (.iload_n 3, 1) := dk_29 (dk_at dksX3_paint_0 10 rfl rfl)
theorem dX3_paint_11 : decode cX3_paint 11 = .ok (.iconst 0, 1) := dk_3 (dk_at dksX3_paint_0 11 rfl rfl)
theorem dX3_paint_12 : decode cX3_paint 12 = .ok (.bipush 11, 2) := dk_16 11 (dk_at dksX3_paint_0 12 rfl rfl)
theorem dX3_paint_14 : decode cX3_paint 14 = .ok (.invokestatic 96, 3) := dk_184 0 96 (dk_at dksX3_paint_0 14 rfl rfl)
theorem dX3_paint_17 : decode cX3_paint 17 = .ok (.ifCond .eq 22, 3) := dk_153 0 22 (dk_at dksX3_paint_0 17 rfl rfl)
theorem dX3_paint_20 : decode cX3_paint 20 = .ok (.aload_n 0, 1) := dk_42 (dk_at dksX3_paint_0 20 rfl rfl)
theorem dX3_paint_21 : decode cX3_paint 21 = .ok (.getfield 77, 3) := dk_180 0 77 (dk_at dksX3_paint_0 21 rfl rfl)
theorem dX3_paint_24 : decode cX3_paint 24 = .ok (.sipush 192, 3) := dk_17 0 192 (dk_at dksX3_paint_1 0 rfl rfl)
theorem dX3_paint_27 : decode cX3_paint 27 = .ok (.iload_n 1, 1) := dk_27 (dk_at dksX3_paint_1 3 rfl rfl)
theorem dX3_paint_28 : decode cX3_paint 28 = .ok (.imul, 1) := dk_104 (dk_at dksX3_paint_1 4 rfl rfl)
theorem dX3_paint_29 : decode cX3_paint 29 = .ok (.bipush 16, 2) := dk_16 16 (dk_at dksX3_paint_1 5 rfl rfl)
theorem dX3_paint_31 : decode cX3_paint 31 = .ok (.iload_n 3, 1) := dk_29 (dk_at dksX3_paint_1 7 rfl rfl)
theorem dX3_paint_32 : decode cX3_paint 32 = .ok (.imul, 1) := dk_104 (dk_at dksX3_paint_1 8 rfl rfl)
theorem dX3_paint_33 : decode cX3_paint 33 = .ok (.iadd, 1) := dk_96 (dk_at dksX3_paint_1 9 rfl rfl)
theorem dX3_paint_34 : decode cX3_paint 34 = .ok (.iload_n 2, 1) := dk_28 (dk_at dksX3_paint_1 10 rfl rfl)
theorem dX3_paint_35 : decode cX3_paint 35 = .ok (.iadd, 1) := dk_96 (dk_at dksX3_paint_1 11 rfl rfl)
theorem dX3_paint_36 : decode cX3_paint 36 = .ok (.iload 4, 2) := dk_21 4 (dk_at dksX3_paint_1 12 rfl rfl)
theorem dX3_paint_38 : decode cX3_paint 38 = .ok (.iastore, 1) := dk_79 (dk_at dksX3_paint_1 14 rfl rfl)
theorem dX3_paint_39 : decode cX3_paint 39 = .ok (.return_, 1) := dk_177 (dk_at dksX3_paint_1 15 rfl rfl)
abbrev cX3_paintStroke : ByteArray := prog_20_method_51_code
def yX3_paintStroke : MethodName := ⟨RX3, "paintStroke", "(IIII)V"⟩
def dkwX3_paintStroke_6 : List UInt8 := [182, 0, 250, 21, 7, 21, 9, 96, 54, 7, 132, 8, 1, 167, 255, 128, 177]
abbrev dktX3_paintStroke_6 : List UInt8 := dkwX3_paintStroke_6 ++ []
def dkwX3_paintStroke_5 : List UInt8 := [182, 0, 243, 42, 27, 28, 29, 182, 0, 227, 42, 21, 4, 21, 12, 21, 13, 42, 180, 0, 28, 27, 46]
abbrev dktX3_paintStroke_5 : List UInt8 := dkwX3_paintStroke_5 ++ dktX3_paintStroke_6
def dkwX3_paintStroke_4 : List UInt8 := [180, 0, 180, 184, 0, 246, 54, 12, 42, 180, 0, 184, 184, 0, 246, 54, 13, 42, 27, 21, 8, 21, 11]
abbrev dktX3_paintStroke_4 : List UInt8 := dkwX3_paintStroke_4 ++ dktX3_paintStroke_5
def dkwX3_paintStroke_3 : List UInt8 := [21, 11, 162, 0, 69, 42, 27, 21, 8, 21, 10, 182, 0, 243, 42, 27, 28, 29, 182, 0, 227, 42]
abbrev dktX3_paintStroke_3 : List UInt8 := dkwX3_paintStroke_3 ++ dktX3_paintStroke_4
def dkwX3_paintStroke_2 : List UInt8 := [21, 5, 21, 7, 100, 184, 0, 221, 54, 10, 21, 9, 21, 6, 21, 7, 100, 184, 0, 241, 54, 11, 21, 10]
abbrev dktX3_paintStroke_2 : List UInt8 := dkwX3_paintStroke_2 ++ dktX3_paintStroke_3
def dkwX3_paintStroke_1 : List UInt8 := [21, 8, 42, 180, 0, 56, 27, 46, 4, 100, 162, 0, 121, 42, 27, 21, 8, 182, 0, 206, 54, 9, 3]
abbrev dktX3_paintStroke_1 : List UInt8 := dkwX3_paintStroke_1 ++ dktX3_paintStroke_2
def dkwX3_paintStroke_0 : List UInt8 := [42, 27, 7, 28, 182, 0, 218, 54, 5, 42, 27, 8, 28, 182, 0, 218, 54, 6, 3, 54, 7, 3, 54, 8]
abbrev dktX3_paintStroke_0 : List UInt8 := dkwX3_paintStroke_0 ++ dktX3_paintStroke_1
theorem dksX3_paintStroke_0 : cX3_paintStroke.data.toList.drop 0 = dktX3_paintStroke_0 := by decide +kernel
theorem dksX3_paintStroke_1 : cX3_paintStroke.data.toList.drop 24 = dktX3_paintStroke_1 := dk_seg dksX3_paintStroke_0 24 rfl rfl
theorem dksX3_paintStroke_2 : cX3_paintStroke.data.toList.drop 47 = dktX3_paintStroke_2 := dk_seg dksX3_paintStroke_1 23 rfl rfl
theorem dksX3_paintStroke_3 : cX3_paintStroke.data.toList.drop 71 = dktX3_paintStroke_3 := dk_seg dksX3_paintStroke_2 24 rfl rfl
theorem dksX3_paintStroke_4 : cX3_paintStroke.data.toList.drop 93 = dktX3_paintStroke_4 := dk_seg dksX3_paintStroke_3 22 rfl rfl
theorem dksX3_paintStroke_5 : cX3_paintStroke.data.toList.drop 116 = dktX3_paintStroke_5 := dk_seg dksX3_paintStroke_4 23 rfl rfl
theorem dksX3_paintStroke_6 : cX3_paintStroke.data.toList.drop 139 = dktX3_paintStroke_6 := dk_seg dksX3_paintStroke_5 23 rfl rfl
theorem dX3_paintStroke_0 : decode cX3_paintStroke 0 = .ok (.aload_n 0, 1) := dk_42 (dk_at dksX3_paintStroke_0 0 rfl rfl)
theorem dX3_paintStroke_1 : decode cX3_paintStroke 1 = .ok (.iload_n 1, 1) := dk_27 (dk_at dksX3_paintStroke_0 1 rfl rfl)
theorem dX3_paintStroke_2 : decode cX3_paintStroke 2 = .ok (.iconst 4, 1) := dk_7 (dk_at dksX3_paintStroke_0 2 rfl rfl)
theorem dX3_paintStroke_3 : decode cX3_paintStroke 3 = .ok (.iload_n 2, 1) := dk_28 (dk_at dksX3_paintStroke_0 3 rfl rfl)
theorem dX3_paintStroke_4 : decode cX3_paintStroke 4 = .ok (.invokevirtual 218, 3) := dk_182 0 218 (dk_at dksX3_paintStroke_0 4 rfl rfl)
theorem dX3_paintStroke_7 : decode cX3_paintStroke 7 = .ok (.istore 5, 2) := dk_54 5 (dk_at dksX3_paintStroke_0 7 rfl rfl)
theorem dX3_paintStroke_9 : decode cX3_paintStroke 9 = .ok (.aload_n 0, 1) := dk_42 (dk_at dksX3_paintStroke_0 9 rfl rfl)
theorem dX3_paintStroke_10 : decode cX3_paintStroke 10 = .ok (.iload_n 1, 1) := dk_27 (dk_at dksX3_paintStroke_0 10 rfl rfl)
theorem dX3_paintStroke_11 : decode cX3_paintStroke 11 = .ok (.iconst 5, 1) := dk_8 (dk_at dksX3_paintStroke_0 11 rfl rfl)
theorem dX3_paintStroke_12 : decode cX3_paintStroke 12 = .ok (.iload_n 2, 1) := dk_28 (dk_at dksX3_paintStroke_0 12 rfl rfl)
theorem dX3_paintStroke_13 : decode cX3_paintStroke 13 = .ok (.invokevirtual 218, 3) := dk_182 0 218 (dk_at dksX3_paintStroke_0 13 rfl rfl)
theorem dX3_paintStroke_16 : decode cX3_paintStroke 16 = .ok (.istore 6, 2) := dk_54 6 (dk_at dksX3_paintStroke_0 16 rfl rfl)
theorem dX3_paintStroke_18 : decode cX3_paintStroke 18 = .ok (.iconst 0, 1) := dk_3 (dk_at dksX3_paintStroke_0 18 rfl rfl)
theorem dX3_paintStroke_19 : decode cX3_paintStroke 19 = .ok (.istore 7, 2) := dk_54 7 (dk_at dksX3_paintStroke_0 19 rfl rfl)
theorem dX3_paintStroke_21 : decode cX3_paintStroke 21 = .ok (.iconst 0, 1) := dk_3 (dk_at dksX3_paintStroke_0 21 rfl rfl)
theorem dX3_paintStroke_22 : decode cX3_paintStroke 22 = .ok (.istore 8, 2) := dk_54 8 (dk_at dksX3_paintStroke_0 22 rfl rfl)
theorem dX3_paintStroke_24 : decode cX3_paintStroke 24 = .ok (.iload 8, 2) := dk_21 8 (dk_at dksX3_paintStroke_1 0 rfl rfl)
theorem dX3_paintStroke_26 : decode cX3_paintStroke 26 = .ok (.aload_n 0, 1) := dk_42 (dk_at dksX3_paintStroke_1 2 rfl rfl)
theorem dX3_paintStroke_27 : decode cX3_paintStroke 27 = .ok (.getfield 56, 3) := dk_180 0 56 (dk_at dksX3_paintStroke_1 3 rfl rfl)
theorem dX3_paintStroke_30 : decode cX3_paintStroke 30 = .ok (.iload_n 1, 1) := dk_27 (dk_at dksX3_paintStroke_1 6 rfl rfl)
theorem dX3_paintStroke_31 : decode cX3_paintStroke 31 = .ok (.iaload, 1) := dk_46 (dk_at dksX3_paintStroke_1 7 rfl rfl)
theorem dX3_paintStroke_32 : decode cX3_paintStroke 32 = .ok (.iconst 1, 1) := dk_4 (dk_at dksX3_paintStroke_1 8 rfl rfl)
theorem dX3_paintStroke_33 : decode cX3_paintStroke 33 = .ok (.isub, 1) := dk_100 (dk_at dksX3_paintStroke_1 9 rfl rfl)
theorem dX3_paintStroke_34 : decode cX3_paintStroke 34 = .ok (.if_icmp .ge 121, 3) := dk_162 0 121 (dk_at dksX3_paintStroke_1 10 rfl rfl)
theorem dX3_paintStroke_37 : decode cX3_paintStroke 37 = .ok (.aload_n 0, 1) := dk_42 (dk_at dksX3_paintStroke_1 13 rfl rfl)
theorem dX3_paintStroke_38 : decode cX3_paintStroke 38 = .ok (.iload_n 1, 1) := dk_27 (dk_at dksX3_paintStroke_1 14 rfl rfl)
theorem dX3_paintStroke_39 : decode cX3_paintStroke 39 = .ok (.iload 8, 2) := dk_21 8 (dk_at dksX3_paintStroke_1 15 rfl rfl)
theorem dX3_paintStroke_41 : decode cX3_paintStroke 41 = .ok (.invokevirtual 206, 3) := dk_182 0 206 (dk_at dksX3_paintStroke_1 17 rfl rfl)
theorem dX3_paintStroke_44 : decode cX3_paintStroke 44 = .ok (.istore 9, 2) := dk_54 9 (dk_at dksX3_paintStroke_1 20 rfl rfl)
theorem dX3_paintStroke_46 : decode cX3_paintStroke 46 = .ok (.iconst 0, 1) := dk_3 (dk_at dksX3_paintStroke_1 22 rfl rfl)
theorem dX3_paintStroke_47 : decode cX3_paintStroke 47 = .ok (.iload 5, 2) := dk_21 5 (dk_at dksX3_paintStroke_2 0 rfl rfl)
theorem dX3_paintStroke_49 : decode cX3_paintStroke 49 = .ok (.iload 7, 2) := dk_21 7 (dk_at dksX3_paintStroke_2 2 rfl rfl)
theorem dX3_paintStroke_51 : decode cX3_paintStroke 51 = .ok (.isub, 1) := dk_100 (dk_at dksX3_paintStroke_2 4 rfl rfl)
theorem dX3_paintStroke_52 : decode cX3_paintStroke 52 = .ok (.invokestatic 221, 3) := dk_184 0 221 (dk_at dksX3_paintStroke_2 5 rfl rfl)
theorem dX3_paintStroke_55 : decode cX3_paintStroke 55 = .ok (.istore 10, 2) := dk_54 10 (dk_at dksX3_paintStroke_2 8 rfl rfl)
theorem dX3_paintStroke_57 : decode cX3_paintStroke 57 = .ok (.iload 9, 2) := dk_21 9 (dk_at dksX3_paintStroke_2 10 rfl rfl)
theorem dX3_paintStroke_59 : decode cX3_paintStroke 59 = .ok (.iload 6, 2) := dk_21 6 (dk_at dksX3_paintStroke_2 12 rfl rfl)
theorem dX3_paintStroke_61 : decode cX3_paintStroke 61 = .ok (.iload 7, 2) := dk_21 7 (dk_at dksX3_paintStroke_2 14 rfl rfl)
theorem dX3_paintStroke_63 : decode cX3_paintStroke 63 = .ok (.isub, 1) := dk_100 (dk_at dksX3_paintStroke_2 16 rfl rfl)
theorem dX3_paintStroke_64 : decode cX3_paintStroke 64 = .ok (.invokestatic 241, 3) := dk_184 0 241 (dk_at dksX3_paintStroke_2 17 rfl rfl)
theorem dX3_paintStroke_67 : decode cX3_paintStroke 67 = .ok (.istore 11, 2) := dk_54 11 (dk_at dksX3_paintStroke_2 20 rfl rfl)
theorem dX3_paintStroke_69 : decode cX3_paintStroke 69 = .ok (.iload 10, 2) := dk_21 10 (dk_at dksX3_paintStroke_2 22 rfl rfl)
theorem dX3_paintStroke_71 : decode cX3_paintStroke 71 = .ok (.iload 11, 2) := dk_21 11 (dk_at dksX3_paintStroke_3 0 rfl rfl)
theorem dX3_paintStroke_73 : decode cX3_paintStroke 73 = .ok (.if_icmp .ge 69, 3) := dk_162 0 69 (dk_at dksX3_paintStroke_3 2 rfl rfl)
theorem dX3_paintStroke_76 : decode cX3_paintStroke 76 = .ok (.aload_n 0, 1) := dk_42 (dk_at dksX3_paintStroke_3 5 rfl rfl)
theorem dX3_paintStroke_77 : decode cX3_paintStroke 77 = .ok (.iload_n 1, 1) := dk_27 (dk_at dksX3_paintStroke_3 6 rfl rfl)
theorem dX3_paintStroke_78 : decode cX3_paintStroke 78 = .ok (.iload 8, 2) := dk_21 8 (dk_at dksX3_paintStroke_3 7 rfl rfl)
theorem dX3_paintStroke_80 : decode cX3_paintStroke 80 = .ok (.iload 10, 2) := dk_21 10 (dk_at dksX3_paintStroke_3 9 rfl rfl)
theorem dX3_paintStroke_82 : decode cX3_paintStroke 82 = .ok (.invokevirtual 243, 3) := dk_182 0 243 (dk_at dksX3_paintStroke_3 11 rfl rfl)
theorem dX3_paintStroke_85 : decode cX3_paintStroke 85 = .ok (.aload_n 0, 1) := dk_42 (dk_at dksX3_paintStroke_3 14 rfl rfl)
theorem dX3_paintStroke_86 : decode cX3_paintStroke 86 = .ok (.iload_n 1, 1) := dk_27 (dk_at dksX3_paintStroke_3 15 rfl rfl)
theorem dX3_paintStroke_87 : decode cX3_paintStroke 87 = .ok (.iload_n 2, 1) := dk_28 (dk_at dksX3_paintStroke_3 16 rfl rfl)
theorem dX3_paintStroke_88 : decode cX3_paintStroke 88 = .ok (.iload_n 3, 1) := dk_29 (dk_at dksX3_paintStroke_3 17 rfl rfl)
theorem dX3_paintStroke_89 : decode cX3_paintStroke 89 = .ok (.invokevirtual 227, 3) := dk_182 0 227 (dk_at dksX3_paintStroke_3 18 rfl rfl)
theorem dX3_paintStroke_92 : decode cX3_paintStroke 92 = .ok (.aload_n 0, 1) := dk_42 (dk_at dksX3_paintStroke_3 21 rfl rfl)
theorem dX3_paintStroke_93 : decode cX3_paintStroke 93 = .ok (.getfield 180, 3) := dk_180 0 180 (dk_at dksX3_paintStroke_4 0 rfl rfl)
theorem dX3_paintStroke_96 : decode cX3_paintStroke 96 = .ok (.invokestatic 246, 3) := dk_184 0 246 (dk_at dksX3_paintStroke_4 3 rfl rfl)
theorem dX3_paintStroke_99 : decode cX3_paintStroke 99 = .ok (.istore 12, 2) := dk_54 12 (dk_at dksX3_paintStroke_4 6 rfl rfl)
theorem dX3_paintStroke_101 : decode cX3_paintStroke 101 = .ok (.aload_n 0, 1) := dk_42 (dk_at dksX3_paintStroke_4 8 rfl rfl)
theorem dX3_paintStroke_102 : decode cX3_paintStroke 102 = .ok (.getfield 184, 3) := dk_180 0 184 (dk_at dksX3_paintStroke_4 9 rfl rfl)
theorem dX3_paintStroke_105 : decode cX3_paintStroke 105 = .ok (.invokestatic 246, 3) := dk_184 0 246 (dk_at dksX3_paintStroke_4 12 rfl rfl)
theorem dX3_paintStroke_108 : decode cX3_paintStroke 108 = .ok (.istore 13, 2) := dk_54 13 (dk_at dksX3_paintStroke_4 15 rfl rfl)
theorem dX3_paintStroke_110 : decode cX3_paintStroke 110 = .ok (.aload_n 0, 1) := dk_42 (dk_at dksX3_paintStroke_4 17 rfl rfl)
theorem dX3_paintStroke_111 : decode cX3_paintStroke 111 = .ok (.iload_n 1, 1) := dk_27 (dk_at dksX3_paintStroke_4 18 rfl rfl)
theorem dX3_paintStroke_112 : decode cX3_paintStroke 112 = .ok (.iload 8, 2) := dk_21 8 (dk_at dksX3_paintStroke_4 19 rfl rfl)
theorem dX3_paintStroke_114 : decode cX3_paintStroke 114 = .ok (.iload 11, 2) := dk_21 11 (dk_at dksX3_paintStroke_4 21 rfl rfl)
theorem dX3_paintStroke_116 : decode cX3_paintStroke 116 = .ok (.invokevirtual 243, 3) := dk_182 0 243 (dk_at dksX3_paintStroke_5 0 rfl rfl)
theorem dX3_paintStroke_119 : decode cX3_paintStroke 119 = .ok (.aload_n 0, 1) := dk_42 (dk_at dksX3_paintStroke_5 3 rfl rfl)
theorem dX3_paintStroke_120 : decode cX3_paintStroke 120 = .ok (.iload_n 1, 1) := dk_27 (dk_at dksX3_paintStroke_5 4 rfl rfl)
theorem dX3_paintStroke_121 : decode cX3_paintStroke 121 = .ok (.iload_n 2, 1) := dk_28 (dk_at dksX3_paintStroke_5 5 rfl rfl)
theorem dX3_paintStroke_122 : decode cX3_paintStroke 122 = .ok (.iload_n 3, 1) := dk_29 (dk_at dksX3_paintStroke_5 6 rfl rfl)
theorem dX3_paintStroke_123 : decode cX3_paintStroke 123 = .ok (.invokevirtual 227, 3) := dk_182 0 227 (dk_at dksX3_paintStroke_5 7 rfl rfl)
theorem dX3_paintStroke_126 : decode cX3_paintStroke 126 = .ok (.aload_n 0, 1) := dk_42 (dk_at dksX3_paintStroke_5 10 rfl rfl)
theorem dX3_paintStroke_127 : decode cX3_paintStroke 127 = .ok (.iload 4, 2) := dk_21 4 (dk_at dksX3_paintStroke_5 11 rfl rfl)
theorem dX3_paintStroke_129 : decode cX3_paintStroke 129 = .ok (.iload 12, 2) := dk_21 12 (dk_at dksX3_paintStroke_5 13 rfl rfl)
theorem dX3_paintStroke_131 : decode cX3_paintStroke 131 = .ok (.iload 13, 2) := dk_21 13 (dk_at dksX3_paintStroke_5 15 rfl rfl)
theorem dX3_paintStroke_133 : decode cX3_paintStroke 133 = .ok (.aload_n 0, 1) := dk_42 (dk_at dksX3_paintStroke_5 17 rfl rfl)
theorem dX3_paintStroke_134 : decode cX3_paintStroke 134 = .ok (.getfield 28, 3) := dk_180 0 28 (dk_at dksX3_paintStroke_5 18 rfl rfl)
theorem dX3_paintStroke_137 : decode cX3_paintStroke 137 = .ok (.iload_n 1, 1) := dk_27 (dk_at dksX3_paintStroke_5 21 rfl rfl)
theorem dX3_paintStroke_138 : decode cX3_paintStroke 138 = .ok (.iaload, 1) := dk_46 (dk_at dksX3_paintStroke_5 22 rfl rfl)
theorem dX3_paintStroke_139 : decode cX3_paintStroke 139 = .ok (.invokevirtual 250, 3) := dk_182 0 250 (dk_at dksX3_paintStroke_6 0 rfl rfl)
theorem dX3_paintStroke_142 : decode cX3_paintStroke 142 = .ok (.iload 7, 2) := dk_21 7 (dk_at dksX3_paintStroke_6 3 rfl rfl)
theorem dX3_paintStroke_144 : decode cX3_paintStroke 144 = .ok (.iload 9, 2) := dk_21 9 (dk_at dksX3_paintStroke_6 5 rfl rfl)
theorem dX3_paintStroke_146 : decode cX3_paintStroke 146 = .ok (.iadd, 1) := dk_96 (dk_at dksX3_paintStroke_6 7 rfl rfl)
theorem dX3_paintStroke_147 : decode cX3_paintStroke 147 = .ok (.istore 7, 2) := dk_54 7 (dk_at dksX3_paintStroke_6 8 rfl rfl)
theorem dX3_paintStroke_149 : decode cX3_paintStroke 149 = .ok (.iinc 8 1, 3) := dk_132 8 1 (dk_at dksX3_paintStroke_6 10 rfl rfl)
theorem dX3_paintStroke_152 : decode cX3_paintStroke 152 = .ok (.goto (-128), 3) := dk_167 255 128 (dk_at dksX3_paintStroke_6 13 rfl rfl)
theorem dX3_paintStroke_155 : decode cX3_paintStroke 155 = .ok (.return_, 1) := dk_177 (dk_at dksX3_paintStroke_6 16 rfl rfl)
abbrev cX3_beginAlong : ByteArray := prog_20_method_50_code
def yX3_beginAlong : MethodName := ⟨RX3, "beginAlong", "(III)V"⟩
def dkwX3_beginAlong_3 : List UInt8 := [97, 20, 0, 187, 42, 180, 0, 53, 21, 4, 46, 133, 105, 21, 6, 133, 29, 133, 105, 97, 182, 0, 196, 177]
abbrev dktX3_beginAlong_3 : List UInt8 := dkwX3_beginAlong_3 ++ []
def dkwX3_beginAlong_2 : List UInt8 := [184, 0, 236, 54, 6, 42, 20, 0, 187, 42, 180, 0, 50, 21, 4, 46, 133, 105, 21, 5, 133, 29, 133, 105]
abbrev dktX3_beginAlong_2 : List UInt8 := dkwX3_beginAlong_2 ++ dktX3_beginAlong_3
def dkwX3_beginAlong_1 : List UInt8 := [100, 184, 0, 236, 54, 5, 42, 180, 0, 53, 21, 4, 4, 96, 46, 42, 180, 0, 53, 21, 4, 46, 100]
abbrev dktX3_beginAlong_1 : List UInt8 := dkwX3_beginAlong_1 ++ dktX3_beginAlong_2
def dkwX3_beginAlong_0 : List UInt8 := [16, 6, 27, 104, 28, 96, 54, 4, 42, 180, 0, 50, 21, 4, 4, 96, 46, 42, 180, 0, 50, 21, 4, 46]
abbrev dktX3_beginAlong_0 : List UInt8 := dkwX3_beginAlong_0 ++ dktX3_beginAlong_1
theorem dksX3_beginAlong_0 : cX3_beginAlong.data.toList.drop 0 = dktX3_beginAlong_0 := by decide +kernel
theorem dksX3_beginAlong_1 : cX3_beginAlong.data.toList.drop 24 = dktX3_beginAlong_1 := dk_seg dksX3_beginAlong_0 24 rfl rfl
theorem dksX3_beginAlong_2 : cX3_beginAlong.data.toList.drop 47 = dktX3_beginAlong_2 := dk_seg dksX3_beginAlong_1 23 rfl rfl
theorem dksX3_beginAlong_3 : cX3_beginAlong.data.toList.drop 71 = dktX3_beginAlong_3 := dk_seg dksX3_beginAlong_2 24 rfl rfl
theorem dX3_beginAlong_0 : decode cX3_beginAlong 0 = .ok (.bipush 6, 2) := dk_16 6 (dk_at dksX3_beginAlong_0 0 rfl rfl)
theorem dX3_beginAlong_2 : decode cX3_beginAlong 2 = .ok (.iload_n 1, 1) := dk_27 (dk_at dksX3_beginAlong_0 2 rfl rfl)
theorem dX3_beginAlong_3 : decode cX3_beginAlong 3 = .ok (.imul, 1) := dk_104 (dk_at dksX3_beginAlong_0 3 rfl rfl)
theorem dX3_beginAlong_4 : decode cX3_beginAlong 4 = .ok (.iload_n 2, 1) := dk_28 (dk_at dksX3_beginAlong_0 4 rfl rfl)
theorem dX3_beginAlong_5 : decode cX3_beginAlong 5 = .ok (.iadd, 1) := dk_96 (dk_at dksX3_beginAlong_0 5 rfl rfl)
theorem dX3_beginAlong_6 : decode cX3_beginAlong 6 = .ok (.istore 4, 2) := dk_54 4 (dk_at dksX3_beginAlong_0 6 rfl rfl)
theorem dX3_beginAlong_8 : decode cX3_beginAlong 8 = .ok (.aload_n 0, 1) := dk_42 (dk_at dksX3_beginAlong_0 8 rfl rfl)
theorem dX3_beginAlong_9 : decode cX3_beginAlong 9 = .ok (.getfield 50, 3) := dk_180 0 50 (dk_at dksX3_beginAlong_0 9 rfl rfl)
theorem dX3_beginAlong_12 : decode cX3_beginAlong 12 = .ok (.iload 4, 2) := dk_21 4 (dk_at dksX3_beginAlong_0 12 rfl rfl)
theorem dX3_beginAlong_14 : decode cX3_beginAlong 14 = .ok (.iconst 1, 1) := dk_4 (dk_at dksX3_beginAlong_0 14 rfl rfl)
theorem dX3_beginAlong_15 : decode cX3_beginAlong 15 = .ok (.iadd, 1) := dk_96 (dk_at dksX3_beginAlong_0 15 rfl rfl)
theorem dX3_beginAlong_16 : decode cX3_beginAlong 16 = .ok (.iaload, 1) := dk_46 (dk_at dksX3_beginAlong_0 16 rfl rfl)
theorem dX3_beginAlong_17 : decode cX3_beginAlong 17 = .ok (.aload_n 0, 1) := dk_42 (dk_at dksX3_beginAlong_0 17 rfl rfl)
theorem dX3_beginAlong_18 : decode cX3_beginAlong 18 = .ok (.getfield 50, 3) := dk_180 0 50 (dk_at dksX3_beginAlong_0 18 rfl rfl)
theorem dX3_beginAlong_21 : decode cX3_beginAlong 21 = .ok (.iload 4, 2) := dk_21 4 (dk_at dksX3_beginAlong_0 21 rfl rfl)
theorem dX3_beginAlong_23 : decode cX3_beginAlong 23 = .ok (.iaload, 1) := dk_46 (dk_at dksX3_beginAlong_0 23 rfl rfl)
theorem dX3_beginAlong_24 : decode cX3_beginAlong 24 = .ok (.isub, 1) := dk_100 (dk_at dksX3_beginAlong_1 0 rfl rfl)
theorem dX3_beginAlong_25 : decode cX3_beginAlong 25 = .ok (.invokestatic 236, 3) := dk_184 0 236 (dk_at dksX3_beginAlong_1 1 rfl rfl)
theorem dX3_beginAlong_28 : decode cX3_beginAlong 28 = .ok (.istore 5, 2) := dk_54 5 (dk_at dksX3_beginAlong_1 4 rfl rfl)
theorem dX3_beginAlong_30 : decode cX3_beginAlong 30 = .ok (.aload_n 0, 1) := dk_42 (dk_at dksX3_beginAlong_1 6 rfl rfl)
theorem dX3_beginAlong_31 : decode cX3_beginAlong 31 = .ok (.getfield 53, 3) := dk_180 0 53 (dk_at dksX3_beginAlong_1 7 rfl rfl)
theorem dX3_beginAlong_34 : decode cX3_beginAlong 34 = .ok (.iload 4, 2) := dk_21 4 (dk_at dksX3_beginAlong_1 10 rfl rfl)
theorem dX3_beginAlong_36 : decode cX3_beginAlong 36 = .ok (.iconst 1, 1) := dk_4 (dk_at dksX3_beginAlong_1 12 rfl rfl)
theorem dX3_beginAlong_37 : decode cX3_beginAlong 37 = .ok (.iadd, 1) := dk_96 (dk_at dksX3_beginAlong_1 13 rfl rfl)
theorem dX3_beginAlong_38 : decode cX3_beginAlong 38 = .ok (.iaload, 1) := dk_46 (dk_at dksX3_beginAlong_1 14 rfl rfl)
theorem dX3_beginAlong_39 : decode cX3_beginAlong 39 = .ok (.aload_n 0, 1) := dk_42 (dk_at dksX3_beginAlong_1 15 rfl rfl)
theorem dX3_beginAlong_40 : decode cX3_beginAlong 40 = .ok (.getfield 53, 3) := dk_180 0 53 (dk_at dksX3_beginAlong_1 16 rfl rfl)
theorem dX3_beginAlong_43 : decode cX3_beginAlong 43 = .ok (.iload 4, 2) := dk_21 4 (dk_at dksX3_beginAlong_1 19 rfl rfl)
theorem dX3_beginAlong_45 : decode cX3_beginAlong 45 = .ok (.iaload, 1) := dk_46 (dk_at dksX3_beginAlong_1 21 rfl rfl)
theorem dX3_beginAlong_46 : decode cX3_beginAlong 46 = .ok (.isub, 1) := dk_100 (dk_at dksX3_beginAlong_1 22 rfl rfl)
theorem dX3_beginAlong_47 : decode cX3_beginAlong 47 = .ok (.invokestatic 236, 3) := dk_184 0 236 (dk_at dksX3_beginAlong_2 0 rfl rfl)
theorem dX3_beginAlong_50 : decode cX3_beginAlong 50 = .ok (.istore 6, 2) := dk_54 6 (dk_at dksX3_beginAlong_2 3 rfl rfl)
theorem dX3_beginAlong_52 : decode cX3_beginAlong 52 = .ok (.aload_n 0, 1) := dk_42 (dk_at dksX3_beginAlong_2 5 rfl rfl)
theorem dX3_beginAlong_53 : decode cX3_beginAlong 53 = .ok (.ldc2_w 187, 3) := dk_20 0 187 (dk_at dksX3_beginAlong_2 6 rfl rfl)
theorem dX3_beginAlong_56 : decode cX3_beginAlong 56 = .ok (.aload_n 0, 1) := dk_42 (dk_at dksX3_beginAlong_2 9 rfl rfl)
theorem dX3_beginAlong_57 : decode cX3_beginAlong 57 = .ok (.getfield 50, 3) := dk_180 0 50 (dk_at dksX3_beginAlong_2 10 rfl rfl)
theorem dX3_beginAlong_60 : decode cX3_beginAlong 60 = .ok (.iload 4, 2) := dk_21 4 (dk_at dksX3_beginAlong_2 13 rfl rfl)
theorem dX3_beginAlong_62 : decode cX3_beginAlong 62 = .ok (.iaload, 1) := dk_46 (dk_at dksX3_beginAlong_2 15 rfl rfl)
theorem dX3_beginAlong_63 : decode cX3_beginAlong 63 = .ok (.i2l, 1) := dk_133 (dk_at dksX3_beginAlong_2 16 rfl rfl)
theorem dX3_beginAlong_64 : decode cX3_beginAlong 64 = .ok (.lmul, 1) := dk_105 (dk_at dksX3_beginAlong_2 17 rfl rfl)
theorem dX3_beginAlong_65 : decode cX3_beginAlong 65 = .ok (.iload 5, 2) := dk_21 5 (dk_at dksX3_beginAlong_2 18 rfl rfl)
theorem dX3_beginAlong_67 : decode cX3_beginAlong 67 = .ok (.i2l, 1) := dk_133 (dk_at dksX3_beginAlong_2 20 rfl rfl)
theorem dX3_beginAlong_68 : decode cX3_beginAlong 68 = .ok (.iload_n 3, 1) := dk_29 (dk_at dksX3_beginAlong_2 21 rfl rfl)
theorem dX3_beginAlong_69 : decode cX3_beginAlong 69 = .ok (.i2l, 1) := dk_133 (dk_at dksX3_beginAlong_2 22 rfl rfl)
theorem dX3_beginAlong_70 : decode cX3_beginAlong 70 = .ok (.lmul, 1) := dk_105 (dk_at dksX3_beginAlong_2 23 rfl rfl)
theorem dX3_beginAlong_71 : decode cX3_beginAlong 71 = .ok (.ladd, 1) := dk_97 (dk_at dksX3_beginAlong_3 0 rfl rfl)
theorem dX3_beginAlong_72 : decode cX3_beginAlong 72 = .ok (.ldc2_w 187, 3) := dk_20 0 187 (dk_at dksX3_beginAlong_3 1 rfl rfl)
theorem dX3_beginAlong_75 : decode cX3_beginAlong 75 = .ok (.aload_n 0, 1) := dk_42 (dk_at dksX3_beginAlong_3 4 rfl rfl)
theorem dX3_beginAlong_76 : decode cX3_beginAlong 76 = .ok (.getfield 53, 3) := dk_180 0 53 (dk_at dksX3_beginAlong_3 5 rfl rfl)
theorem dX3_beginAlong_79 : decode cX3_beginAlong 79 = .ok (.iload 4, 2) := dk_21 4 (dk_at dksX3_beginAlong_3 8 rfl rfl)
theorem dX3_beginAlong_81 : decode cX3_beginAlong 81 = .ok (.iaload, 1) := dk_46 (dk_at dksX3_beginAlong_3 10 rfl rfl)
theorem dX3_beginAlong_82 : decode cX3_beginAlong 82 = .ok (.i2l, 1) := dk_133 (dk_at dksX3_beginAlong_3 11 rfl rfl)
theorem dX3_beginAlong_83 : decode cX3_beginAlong 83 = .ok (.lmul, 1) := dk_105 (dk_at dksX3_beginAlong_3 12 rfl rfl)
theorem dX3_beginAlong_84 : decode cX3_beginAlong 84 = .ok (.iload 6, 2) := dk_21 6 (dk_at dksX3_beginAlong_3 13 rfl rfl)
theorem dX3_beginAlong_86 : decode cX3_beginAlong 86 = .ok (.i2l, 1) := dk_133 (dk_at dksX3_beginAlong_3 15 rfl rfl)
theorem dX3_beginAlong_87 : decode cX3_beginAlong 87 = .ok (.iload_n 3, 1) := dk_29 (dk_at dksX3_beginAlong_3 16 rfl rfl)
theorem dX3_beginAlong_88 : decode cX3_beginAlong 88 = .ok (.i2l, 1) := dk_133 (dk_at dksX3_beginAlong_3 17 rfl rfl)
theorem dX3_beginAlong_89 : decode cX3_beginAlong 89 = .ok (.lmul, 1) := dk_105 (dk_at dksX3_beginAlong_3 18 rfl rfl)
theorem dX3_beginAlong_90 : decode cX3_beginAlong 90 = .ok (.ladd, 1) := dk_97 (dk_at dksX3_beginAlong_3 19 rfl rfl)
theorem dX3_beginAlong_91 : decode cX3_beginAlong 91 = .ok (.invokevirtual 196, 3) := dk_182 0 196 (dk_at dksX3_beginAlong_3 20 rfl rfl)
theorem dX3_beginAlong_94 : decode cX3_beginAlong 94 = .ok (.return_, 1) := dk_177 (dk_at dksX3_beginAlong_3 23 rfl rfl)
abbrev cX3_cellOf : ByteArray := prog_20_method_47_code
def yX3_cellOf : MethodName := ⟨RX3, "cellOf", "(J)I"⟩
def dkwX3_cellOf_0 : List UInt8 := [30, 20, 0, 187, 184, 0, 189, 65, 20, 0, 223, 20, 0, 225, 32, 184, 0, 212, 184, 0, 215, 136, 172]
abbrev dktX3_cellOf_0 : List UInt8 := dkwX3_cellOf_0 ++ []
theorem dksX3_cellOf_0 : cX3_cellOf.data.toList.drop 0 = dktX3_cellOf_0 := by decide +kernel
theorem dX3_cellOf_0 : decode cX3_cellOf 0 = .ok (.lload_n 0, 1) := dk_30 (dk_at dksX3_cellOf_0 0 rfl rfl)
theorem dX3_cellOf_1 : decode cX3_cellOf 1 = .ok (.ldc2_w 187, 3) := dk_20 0 187 (dk_at dksX3_cellOf_0 1 rfl rfl)
theorem dX3_cellOf_4 : decode cX3_cellOf 4 = .ok (.invokestatic 189, 3) := dk_184 0 189 (dk_at dksX3_cellOf_0 4 rfl rfl)
theorem dX3_cellOf_7 : decode cX3_cellOf 7 = .ok (.lstore_n 2, 1) := dk_65 (dk_at dksX3_cellOf_0 7 rfl rfl)
theorem dX3_cellOf_8 : decode cX3_cellOf 8 = .ok (.ldc2_w 223, 3) := dk_20 0 223 (dk_at dksX3_cellOf_0 8 rfl rfl)
theorem dX3_cellOf_11 : decode cX3_cellOf 11 = .ok (.ldc2_w 225, 3) := dk_20 0 225 (dk_at dksX3_cellOf_0 11 rfl rfl)
theorem dX3_cellOf_14 : decode cX3_cellOf 14 = .ok (.lload_n 2, 1) := dk_32 (dk_at dksX3_cellOf_0 14 rfl rfl)
theorem dX3_cellOf_15 : decode cX3_cellOf 15 = .ok (.invokestatic 212, 3) := dk_184 0 212 (dk_at dksX3_cellOf_0 15 rfl rfl)
theorem dX3_cellOf_18 : decode cX3_cellOf 18 = .ok (.invokestatic 215, 3) := dk_184 0 215 (dk_at dksX3_cellOf_0 18 rfl rfl)
theorem dX3_cellOf_21 : decode cX3_cellOf 21 = .ok (.l2i, 1) := dk_136 (dk_at dksX3_cellOf_0 21 rfl rfl)
theorem dX3_cellOf_22 : decode cX3_cellOf 22 = .ok (.ireturn, 1) := dk_172 (dk_at dksX3_cellOf_0 22 rfl rfl)
abbrev cX3_paintBox : ByteArray := prog_20_method_52_code
def yX3_paintBox : MethodName := ⟨RX3, "paintBox", "(IIII)V"⟩
def dkwX3_paintBox_3 : List UInt8 := [167, 255, 231, 132, 7, 1, 167, 255, 206, 177]
abbrev dktX3_paintBox_3 : List UInt8 := dkwX3_paintBox_3 ++ []
def dkwX3_paintBox_2 : List UInt8 := [21, 5, 184, 0, 221, 163, 0, 20, 42, 27, 21, 8, 21, 7, 21, 4, 182, 0, 232, 132, 8, 1]
abbrev dktX3_paintBox_2 : List UInt8 := dkwX3_paintBox_2 ++ dktX3_paintBox_3
def dkwX3_paintBox_1 : List UInt8 := [54, 7, 21, 7, 29, 21, 6, 184, 0, 221, 163, 0, 45, 28, 21, 5, 184, 0, 241, 54, 8, 21, 8, 28]
abbrev dktX3_paintBox_1 : List UInt8 := dkwX3_paintBox_1 ++ dktX3_paintBox_2
def dkwX3_paintBox_0 : List UInt8 := [42, 180, 0, 180, 184, 0, 246, 54, 5, 42, 180, 0, 184, 184, 0, 246, 54, 6, 29, 21, 6, 184, 0, 241]
abbrev dktX3_paintBox_0 : List UInt8 := dkwX3_paintBox_0 ++ dktX3_paintBox_1
theorem dksX3_paintBox_0 : cX3_paintBox.data.toList.drop 0 = dktX3_paintBox_0 := by decide +kernel
theorem dksX3_paintBox_1 : cX3_paintBox.data.toList.drop 24 = dktX3_paintBox_1 := dk_seg dksX3_paintBox_0 24 rfl rfl
theorem dksX3_paintBox_2 : cX3_paintBox.data.toList.drop 48 = dktX3_paintBox_2 := dk_seg dksX3_paintBox_1 24 rfl rfl
theorem dksX3_paintBox_3 : cX3_paintBox.data.toList.drop 70 = dktX3_paintBox_3 := dk_seg dksX3_paintBox_2 22 rfl rfl
theorem dX3_paintBox_0 : decode cX3_paintBox 0 = .ok (.aload_n 0, 1) := dk_42 (dk_at dksX3_paintBox_0 0 rfl rfl)
theorem dX3_paintBox_1 : decode cX3_paintBox 1 = .ok (.getfield 180, 3) := dk_180 0 180 (dk_at dksX3_paintBox_0 1 rfl rfl)
theorem dX3_paintBox_4 : decode cX3_paintBox 4 = .ok (.invokestatic 246, 3) := dk_184 0 246 (dk_at dksX3_paintBox_0 4 rfl rfl)
theorem dX3_paintBox_7 : decode cX3_paintBox 7 = .ok (.istore 5, 2) := dk_54 5 (dk_at dksX3_paintBox_0 7 rfl rfl)
theorem dX3_paintBox_9 : decode cX3_paintBox 9 = .ok (.aload_n 0, 1) := dk_42 (dk_at dksX3_paintBox_0 9 rfl rfl)
theorem dX3_paintBox_10 : decode cX3_paintBox 10 = .ok (.getfield 184, 3) := dk_180 0 184 (dk_at dksX3_paintBox_0 10 rfl rfl)
theorem dX3_paintBox_13 : decode cX3_paintBox 13 = .ok (.invokestatic 246, 3) := dk_184 0 246 (dk_at dksX3_paintBox_0 13 rfl rfl)
theorem dX3_paintBox_16 : decode cX3_paintBox 16 = .ok (.istore 6, 2) := dk_54 6 (dk_at dksX3_paintBox_0 16 rfl rfl)
theorem dX3_paintBox_18 : decode cX3_paintBox 18 = .ok (.iload_n 3, 1) := dk_29 (dk_at dksX3_paintBox_0 18 rfl rfl)
theorem dX3_paintBox_19 : decode cX3_paintBox 19 = .ok (.iload 6, 2) := dk_21 6 (dk_at dksX3_paintBox_0 19 rfl rfl)
theorem dX3_paintBox_21 : decode cX3_paintBox 21 = .ok (.invokestatic 241, 3) := dk_184 0 241 (dk_at dksX3_paintBox_0 21 rfl rfl)
theorem dX3_paintBox_24 : decode cX3_paintBox 24 = .ok (.istore 7, 2) := dk_54 7 (dk_at dksX3_paintBox_1 0 rfl rfl)
theorem dX3_paintBox_26 : decode cX3_paintBox 26 = .ok (.iload 7, 2) := dk_21 7 (dk_at dksX3_paintBox_1 2 rfl rfl)
theorem dX3_paintBox_28 : decode cX3_paintBox 28 = .ok (.iload_n 3, 1) := dk_29 (dk_at dksX3_paintBox_1 4 rfl rfl)
theorem dX3_paintBox_29 : decode cX3_paintBox 29 = .ok (.iload 6, 2) := dk_21 6 (dk_at dksX3_paintBox_1 5 rfl rfl)
theorem dX3_paintBox_31 : decode cX3_paintBox 31 = .ok (.invokestatic 221, 3) := dk_184 0 221 (dk_at dksX3_paintBox_1 7 rfl rfl)
theorem dX3_paintBox_34 : decode cX3_paintBox 34 = .ok (.if_icmp .gt 45, 3) := dk_163 0 45 (dk_at dksX3_paintBox_1 10 rfl rfl)
theorem dX3_paintBox_37 : decode cX3_paintBox 37 = .ok (.iload_n 2, 1) := dk_28 (dk_at dksX3_paintBox_1 13 rfl rfl)
theorem dX3_paintBox_38 : decode cX3_paintBox 38 = .ok (.iload 5, 2) := dk_21 5 (dk_at dksX3_paintBox_1 14 rfl rfl)
theorem dX3_paintBox_40 : decode cX3_paintBox 40 = .ok (.invokestatic 241, 3) := dk_184 0 241 (dk_at dksX3_paintBox_1 16 rfl rfl)
theorem dX3_paintBox_43 : decode cX3_paintBox 43 = .ok (.istore 8, 2) := dk_54 8 (dk_at dksX3_paintBox_1 19 rfl rfl)
theorem dX3_paintBox_45 : decode cX3_paintBox 45 = .ok (.iload 8, 2) := dk_21 8 (dk_at dksX3_paintBox_1 21 rfl rfl)
theorem dX3_paintBox_47 : decode cX3_paintBox 47 = .ok (.iload_n 2, 1) := dk_28 (dk_at dksX3_paintBox_1 23 rfl rfl)
theorem dX3_paintBox_48 : decode cX3_paintBox 48 = .ok (.iload 5, 2) := dk_21 5 (dk_at dksX3_paintBox_2 0 rfl rfl)
theorem dX3_paintBox_50 : decode cX3_paintBox 50 = .ok (.invokestatic 221, 3) := dk_184 0 221 (dk_at dksX3_paintBox_2 2 rfl rfl)
theorem dX3_paintBox_53 : decode cX3_paintBox 53 = .ok (.if_icmp .gt 20, 3) := dk_163 0 20 (dk_at dksX3_paintBox_2 5 rfl rfl)
theorem dX3_paintBox_56 : decode cX3_paintBox 56 = .ok (.aload_n 0, 1) := dk_42 (dk_at dksX3_paintBox_2 8 rfl rfl)
theorem dX3_paintBox_57 : decode cX3_paintBox 57 = .ok (.iload_n 1, 1) := dk_27 (dk_at dksX3_paintBox_2 9 rfl rfl)
theorem dX3_paintBox_58 : decode cX3_paintBox 58 = .ok (.iload 8, 2) := dk_21 8 (dk_at dksX3_paintBox_2 10 rfl rfl)
theorem dX3_paintBox_60 : decode cX3_paintBox 60 = .ok (.iload 7, 2) := dk_21 7 (dk_at dksX3_paintBox_2 12 rfl rfl)
theorem dX3_paintBox_62 : decode cX3_paintBox 62 = .ok (.iload 4, 2) := dk_21 4 (dk_at dksX3_paintBox_2 14 rfl rfl)
theorem dX3_paintBox_64 : decode cX3_paintBox 64 = .ok (.invokevirtual 232, 3) := dk_182 0 232 (dk_at dksX3_paintBox_2 16 rfl rfl)
theorem dX3_paintBox_67 : decode cX3_paintBox 67 = .ok (.iinc 8 1, 3) := dk_132 8 1 (dk_at dksX3_paintBox_2 19 rfl rfl)
theorem dX3_paintBox_70 : decode cX3_paintBox 70 = .ok (.goto (-25), 3) := dk_167 255 231 (dk_at dksX3_paintBox_3 0 rfl rfl)
theorem dX3_paintBox_73 : decode cX3_paintBox 73 = .ok (.iinc 7 1, 3) := dk_132 7 1 (dk_at dksX3_paintBox_3 3 rfl rfl)
theorem dX3_paintBox_76 : decode cX3_paintBox 76 = .ok (.goto (-50), 3) := dk_167 255 206 (dk_at dksX3_paintBox_3 6 rfl rfl)
theorem dX3_paintBox_79 : decode cX3_paintBox 79 = .ok (.return_, 1) := dk_177 (dk_at dksX3_paintBox_3 9 rfl rfl)
abbrev cX3_paintNested : ByteArray := prog_20_method_53_code
def yX3_paintNested : MethodName := ⟨RX3, "paintNested", "(IIII)V"⟩
def dkwX3_paintNested_3 : List UInt8 := [42, 42, 180, 0, 22, 27, 46, 21, 6, 29, 4, 96, 21, 4, 182, 0, 253, 177]
abbrev dktX3_paintNested_3 : List UInt8 := dkwX3_paintNested_3 ++ []
def dkwX3_paintNested_2 : List UInt8 := [28, 42, 180, 0, 41, 27, 46, 100, 54, 6, 42, 180, 0, 71, 29, 27, 79, 42, 180, 0, 74, 29, 28, 79]
abbrev dktX3_paintNested_2 : List UInt8 := dkwX3_paintNested_2 ++ dktX3_paintNested_3
def dkwX3_paintNested_1 : List UInt8 := [153, 0, 24, 3, 17, 3, 231, 42, 27, 16, 6, 28, 182, 0, 173, 184, 0, 241, 184, 0, 221, 167, 0, 11]
abbrev dktX3_paintNested_1 : List UInt8 := dkwX3_paintNested_1 ++ dktX3_paintNested_2
def dkwX3_paintNested_0 : List UInt8 := [42, 180, 0, 59, 16, 8, 27, 104, 16, 6, 96, 46, 158, 0, 7, 4, 167, 0, 4, 3, 54, 5, 21, 5]
abbrev dktX3_paintNested_0 : List UInt8 := dkwX3_paintNested_0 ++ dktX3_paintNested_1
theorem dksX3_paintNested_0 : cX3_paintNested.data.toList.drop 0 = dktX3_paintNested_0 := by decide +kernel
theorem dksX3_paintNested_1 : cX3_paintNested.data.toList.drop 24 = dktX3_paintNested_1 := dk_seg dksX3_paintNested_0 24 rfl rfl
theorem dksX3_paintNested_2 : cX3_paintNested.data.toList.drop 48 = dktX3_paintNested_2 := dk_seg dksX3_paintNested_1 24 rfl rfl
theorem dksX3_paintNested_3 : cX3_paintNested.data.toList.drop 72 = dktX3_paintNested_3 := dk_seg dksX3_paintNested_2 24 rfl rfl
theorem dX3_paintNested_0 : decode cX3_paintNested 0 = .ok (.aload_n 0, 1) := dk_42 (dk_at dksX3_paintNested_0 0 rfl rfl)
theorem dX3_paintNested_1 : decode cX3_paintNested 1 = .ok (.getfield 59, 3) := dk_180 0 59 (dk_at dksX3_paintNested_0 1 rfl rfl)
theorem dX3_paintNested_4 : decode cX3_paintNested 4 = .ok (.bipush 8, 2) := dk_16 8 (dk_at dksX3_paintNested_0 4 rfl rfl)
theorem dX3_paintNested_6 : decode cX3_paintNested 6 = .ok (.iload_n 1, 1) := dk_27 (dk_at dksX3_paintNested_0 6 rfl rfl)
theorem dX3_paintNested_7 : decode cX3_paintNested 7 = .ok (.imul, 1) := dk_104 (dk_at dksX3_paintNested_0 7 rfl rfl)
theorem dX3_paintNested_8 : decode cX3_paintNested 8 = .ok (.bipush 6, 2) := dk_16 6 (dk_at dksX3_paintNested_0 8 rfl rfl)
theorem dX3_paintNested_10 : decode cX3_paintNested 10 = .ok (.iadd, 1) := dk_96 (dk_at dksX3_paintNested_0 10 rfl rfl)
theorem dX3_paintNested_11 : decode cX3_paintNested 11 = .ok (.iaload, 1) := dk_46 (dk_at dksX3_paintNested_0 11 rfl rfl)
theorem dX3_paintNested_12 : decode cX3_paintNested 12 = .ok (.ifCond .le 7, 3) := dk_158 0 7 (dk_at dksX3_paintNested_0 12 rfl rfl)
theorem dX3_paintNested_15 : decode cX3_paintNested 15 = .ok (.iconst 1, 1) := dk_4 (dk_at dksX3_paintNested_0 15 rfl rfl)
theorem dX3_paintNested_16 : decode cX3_paintNested 16 = .ok (.goto 4, 3) := dk_167 0 4 (dk_at dksX3_paintNested_0 16 rfl rfl)
theorem dX3_paintNested_19 : decode cX3_paintNested 19 = .ok (.iconst 0, 1) := dk_3 (dk_at dksX3_paintNested_0 19 rfl rfl)
theorem dX3_paintNested_20 : decode cX3_paintNested 20 = .ok (.istore 5, 2) := dk_54 5 (dk_at dksX3_paintNested_0 20 rfl rfl)
theorem dX3_paintNested_22 : decode cX3_paintNested 22 = .ok (.iload 5, 2) := dk_21 5 (dk_at dksX3_paintNested_0 22 rfl rfl)
theorem dX3_paintNested_24 : decode cX3_paintNested 24 = .ok (.ifCond .eq 24, 3) := dk_153 0 24 (dk_at dksX3_paintNested_1 0 rfl rfl)
theorem dX3_paintNested_27 : decode cX3_paintNested 27 = .ok (.iconst 0, 1) := dk_3 (dk_at dksX3_paintNested_1 3 rfl rfl)
theorem dX3_paintNested_28 : decode cX3_paintNested 28 = .ok (.sipush 999, 3) := dk_17 3 231 (dk_at dksX3_paintNested_1 4 rfl rfl)
theorem dX3_paintNested_31 : decode cX3_paintNested 31 = .ok (.aload_n 0, 1) := dk_42 (dk_at dksX3_paintNested_1 7 rfl rfl)
theorem dX3_paintNested_32 : decode cX3_paintNested 32 = .ok (.iload_n 1, 1) := dk_27 (dk_at dksX3_paintNested_1 8 rfl rfl)
theorem dX3_paintNested_33 : decode cX3_paintNested 33 = .ok (.bipush 6, 2) := dk_16 6 (dk_at dksX3_paintNested_1 9 rfl rfl)
theorem dX3_paintNested_35 : decode cX3_paintNested 35 = .ok (.iload_n 2, 1) := dk_28 (dk_at dksX3_paintNested_1 11 rfl rfl)
theorem dX3_paintNested_36 : decode cX3_paintNested 36 = .ok (.invokevirtual 173, 3) := dk_182 0 173 (dk_at dksX3_paintNested_1 12 rfl rfl)
theorem dX3_paintNested_39 : decode cX3_paintNested 39 = .ok (.invokestatic 241, 3) := dk_184 0 241 (dk_at dksX3_paintNested_1 15 rfl rfl)
theorem dX3_paintNested_42 : decode cX3_paintNested 42 = .ok (.invokestatic 221, 3) := dk_184 0 221 (dk_at dksX3_paintNested_1 18 rfl rfl)
theorem dX3_paintNested_45 : decode cX3_paintNested 45 = .ok (.goto 11, 3) := dk_167 0 11 (dk_at dksX3_paintNested_1 21 rfl rfl)
theorem dX3_paintNested_48 : decode cX3_paintNested 48 = .ok (.iload_n 2, 1) := dk_28 (dk_at dksX3_paintNested_2 0 rfl rfl)
theorem dX3_paintNested_49 : decode cX3_paintNested 49 = .ok (.aload_n 0, 1) := dk_42 (dk_at dksX3_paintNested_2 1 rfl rfl)
theorem dX3_paintNested_50 : decode cX3_paintNested 50 = .ok (.getfield 41, 3) := dk_180 0 41 (dk_at dksX3_paintNested_2 2 rfl rfl)
theorem dX3_paintNested_53 : decode cX3_paintNested 53 = .ok (.iload_n 1, 1) := dk_27 (dk_at dksX3_paintNested_2 5 rfl rfl)
theorem dX3_paintNested_54 : decode cX3_paintNested 54 = .ok (.iaload, 1) := dk_46 (dk_at dksX3_paintNested_2 6 rfl rfl)
theorem dX3_paintNested_55 : decode cX3_paintNested 55 = .ok (.isub, 1) := dk_100 (dk_at dksX3_paintNested_2 7 rfl rfl)
theorem dX3_paintNested_56 : decode cX3_paintNested 56 = .ok (.istore 6, 2) := dk_54 6 (dk_at dksX3_paintNested_2 8 rfl rfl)
theorem dX3_paintNested_58 : decode cX3_paintNested 58 = .ok (.aload_n 0, 1) := dk_42 (dk_at dksX3_paintNested_2 10 rfl rfl)
theorem dX3_paintNested_59 : decode cX3_paintNested 59 = .ok (.getfield 71, 3) := dk_180 0 71 (dk_at dksX3_paintNested_2 11 rfl rfl)
theorem dX3_paintNested_62 : decode cX3_paintNested 62 = .ok (.iload_n 3, 1) := dk_29 (dk_at dksX3_paintNested_2 14 rfl rfl)
theorem dX3_paintNested_63 : decode cX3_paintNested 63 = .ok (.iload_n 1, 1) := dk_27 (dk_at dksX3_paintNested_2 15 rfl rfl)
theorem dX3_paintNested_64 : decode cX3_paintNested 64 = .ok (.iastore, 1) := dk_79 (dk_at dksX3_paintNested_2 16 rfl rfl)
theorem dX3_paintNested_65 : decode cX3_paintNested 65 = .ok (.aload_n 0, 1) := dk_42 (dk_at dksX3_paintNested_2 17 rfl rfl)
theorem dX3_paintNested_66 : decode cX3_paintNested 66 = .ok (.getfield 74, 3) := dk_180 0 74 (dk_at dksX3_paintNested_2 18 rfl rfl)
theorem dX3_paintNested_69 : decode cX3_paintNested 69 = .ok (.iload_n 3, 1) := dk_29 (dk_at dksX3_paintNested_2 21 rfl rfl)
theorem dX3_paintNested_70 : decode cX3_paintNested 70 = .ok (.iload_n 2, 1) := dk_28 (dk_at dksX3_paintNested_2 22 rfl rfl)
theorem dX3_paintNested_71 : decode cX3_paintNested 71 = .ok (.iastore, 1) := dk_79 (dk_at dksX3_paintNested_2 23 rfl rfl)
theorem dX3_paintNested_72 : decode cX3_paintNested 72 = .ok (.aload_n 0, 1) := dk_42 (dk_at dksX3_paintNested_3 0 rfl rfl)
theorem dX3_paintNested_73 : decode cX3_paintNested 73 = .ok (.aload_n 0, 1) := dk_42 (dk_at dksX3_paintNested_3 1 rfl rfl)
theorem dX3_paintNested_74 : decode cX3_paintNested 74 = .ok (.getfield 22, 3) := dk_180 0 22 (dk_at dksX3_paintNested_3 2 rfl rfl)
theorem dX3_paintNested_77 : decode cX3_paintNested 77 = .ok (.iload_n 1, 1) := dk_27 (dk_at dksX3_paintNested_3 5 rfl rfl)
theorem dX3_paintNested_78 : decode cX3_paintNested 78 = .ok (.iaload, 1) := dk_46 (dk_at dksX3_paintNested_3 6 rfl rfl)
theorem dX3_paintNested_79 : decode cX3_paintNested 79 = .ok (.iload 6, 2) := dk_21 6 (dk_at dksX3_paintNested_3 7 rfl rfl)
theorem dX3_paintNested_81 : decode cX3_paintNested 81 = .ok (.iload_n 3, 1) := dk_29 (dk_at dksX3_paintNested_3 9 rfl rfl)
theorem dX3_paintNested_82 : decode cX3_paintNested 82 = .ok (.iconst 1, 1) := dk_4 (dk_at dksX3_paintNested_3 10 rfl rfl)
theorem dX3_paintNested_83 : decode cX3_paintNested 83 = .ok (.iadd, 1) := dk_96 (dk_at dksX3_paintNested_3 11 rfl rfl)
theorem dX3_paintNested_84 : decode cX3_paintNested 84 = .ok (.iload 4, 2) := dk_21 4 (dk_at dksX3_paintNested_3 12 rfl rfl)
theorem dX3_paintNested_86 : decode cX3_paintNested 86 = .ok (.invokevirtual 253, 3) := dk_182 0 253 (dk_at dksX3_paintNested_3 14 rfl rfl)
theorem dX3_paintNested_89 : decode cX3_paintNested 89 = .ok (.return_, 1) := dk_177 (dk_at dksX3_paintNested_3 17 rfl rfl)
abbrev cX3_covered : ByteArray := prog_20_method_61_code
def yX3_covered : MethodName := ⟨RX3, "covered", "(II)I"⟩
def dkwX3_covered_1 : List UInt8 := [167, 0, 4, 3, 172]
abbrev dktX3_covered_1 : List UInt8 := dkwX3_covered_1 ++ []
def dkwX3_covered_0 : List UInt8 := [42, 42, 27, 182, 0, 104, 28, 184, 0, 137, 4, 182, 0, 100, 153, 0, 12, 42, 27, 28, 182, 1, 24]
abbrev dktX3_covered_0 : List UInt8 := dkwX3_covered_0 ++ dktX3_covered_1
theorem dksX3_covered_0 : cX3_covered.data.toList.drop 0 = dktX3_covered_0 := by decide +kernel
theorem dksX3_covered_1 : cX3_covered.data.toList.drop 23 = dktX3_covered_1 := dk_seg dksX3_covered_0 23 rfl rfl
theorem dX3_covered_0 : decode cX3_covered 0 = .ok (.aload_n 0, 1) := dk_42 (dk_at dksX3_covered_0 0 rfl rfl)
theorem dX3_covered_1 : decode cX3_covered 1 = .ok (.aload_n 0, 1) := dk_42 (dk_at dksX3_covered_0 1 rfl rfl)
theorem dX3_covered_2 : decode cX3_covered 2 = .ok (.iload_n 1, 1) := dk_27 (dk_at dksX3_covered_0 2 rfl rfl)
theorem dX3_covered_3 : decode cX3_covered 3 = .ok (.invokevirtual 104, 3) := dk_182 0 104 (dk_at dksX3_covered_0 3 rfl rfl)
theorem dX3_covered_6 : decode cX3_covered 6 = .ok (.iload_n 2, 1) := dk_28 (dk_at dksX3_covered_0 6 rfl rfl)
theorem dX3_covered_7 : decode cX3_covered 7 = .ok (.invokestatic 137, 3) := dk_184 0 137 (dk_at dksX3_covered_0 7 rfl rfl)
theorem dX3_covered_10 : decode cX3_covered 10 = .ok (.iconst 1, 1) := dk_4 (dk_at dksX3_covered_0 10 rfl rfl)
theorem dX3_covered_11 : decode cX3_covered 11 = .ok (.invokevirtual 100, 3) := dk_182 0 100 (dk_at dksX3_covered_0 11 rfl rfl)
theorem dX3_covered_14 : decode cX3_covered 14 = .ok (.ifCond .eq 12, 3) := dk_153 0 12 (dk_at dksX3_covered_0 14 rfl rfl)
theorem dX3_covered_17 : decode cX3_covered 17 = .ok (.aload_n 0, 1) := dk_42 (dk_at dksX3_covered_0 17 rfl rfl)
theorem dX3_covered_18 : decode cX3_covered 18 = .ok (.iload_n 1, 1) := dk_27 (dk_at dksX3_covered_0 18 rfl rfl)
theorem dX3_covered_19 : decode cX3_covered 19 = .ok (.iload_n 2, 1) := dk_28 (dk_at dksX3_covered_0 19 rfl rfl)
theorem dX3_covered_20 : decode cX3_covered 20 = .ok (.invokevirtual 280, 3) := dk_182 1 24 (dk_at dksX3_covered_0 20 rfl rfl)
theorem dX3_covered_23 : decode cX3_covered 23 = .ok (.goto 4, 3) := dk_167 0 4 (dk_at dksX3_covered_1 0 rfl rfl)
theorem dX3_covered_26 : decode cX3_covered 26 = .ok (.iconst 0, 1) := dk_3 (dk_at dksX3_covered_1 3 rfl rfl)
theorem dX3_covered_27 : decode cX3_covered 27 = .ok (.ireturn, 1) := dk_172 (dk_at dksX3_covered_1 4 rfl rfl)
abbrev cX3_countCovered : ByteArray := prog_20_method_60_code
def yX3_countCovered : MethodName := ⟨RX3, "countCovered", "(II)I"⟩
def dkwX3_countCovered_1 : List UInt8 := [180, 0, 77, 21, 4, 46, 158, 0, 7, 4, 167, 0, 4, 3, 96, 62, 132, 4, 1, 167, 255, 227, 29, 172]
abbrev dktX3_countCovered_1 : List UInt8 := dkwX3_countCovered_1 ++ []
def dkwX3_countCovered_0 : List UInt8 := [42, 27, 28, 3, 3, 182, 0, 253, 3, 62, 3, 54, 4, 21, 4, 17, 0, 192, 162, 0, 27, 29, 42]
abbrev dktX3_countCovered_0 : List UInt8 := dkwX3_countCovered_0 ++ dktX3_countCovered_1
theorem dksX3_countCovered_0 : cX3_countCovered.data.toList.drop 0 = dktX3_countCovered_0 := by decide +kernel
theorem dksX3_countCovered_1 : cX3_countCovered.data.toList.drop 23 = dktX3_countCovered_1 := dk_seg dksX3_countCovered_0 23 rfl rfl
theorem dX3_countCovered_0 : decode cX3_countCovered 0 = .ok (.aload_n 0, 1) := dk_42 (dk_at dksX3_countCovered_0 0 rfl rfl)
theorem dX3_countCovered_1 : decode cX3_countCovered 1 = .ok (.iload_n 1, 1) := dk_27 (dk_at dksX3_countCovered_0 1 rfl rfl)
theorem dX3_countCovered_2 : decode cX3_countCovered 2 = .ok (.iload_n 2, 1) := dk_28 (dk_at dksX3_countCovered_0 2 rfl rfl)
theorem dX3_countCovered_3 : decode cX3_countCovered 3 = .ok (.iconst 0, 1) := dk_3 (dk_at dksX3_countCovered_0 3 rfl rfl)
theorem dX3_countCovered_4 : decode cX3_countCovered 4 = .ok (.iconst 0, 1) := dk_3 (dk_at dksX3_countCovered_0 4 rfl rfl)
theorem dX3_countCovered_5 : decode cX3_countCovered 5 = .ok (.invokevirtual 253, 3) := dk_182 0 253 (dk_at dksX3_countCovered_0 5 rfl rfl)
theorem dX3_countCovered_8 : decode cX3_countCovered 8 = .ok (.iconst 0, 1) := dk_3 (dk_at dksX3_countCovered_0 8 rfl rfl)
theorem dX3_countCovered_9 : decode cX3_countCovered 9 = .ok (.istore_n 3, 1) := dk_62 (dk_at dksX3_countCovered_0 9 rfl rfl)
theorem dX3_countCovered_10 : decode cX3_countCovered 10 = .ok (.iconst 0, 1) := dk_3 (dk_at dksX3_countCovered_0 10 rfl rfl)
theorem dX3_countCovered_11 : decode cX3_countCovered 11 = .ok (.istore 4, 2) := dk_54 4 (dk_at dksX3_countCovered_0 11 rfl rfl)
theorem dX3_countCovered_13 : decode cX3_countCovered 13 = .ok (.iload 4, 2) := dk_21 4 (dk_at dksX3_countCovered_0 13 rfl rfl)
theorem dX3_countCovered_15 : decode cX3_countCovered 15 = .ok (.sipush 192, 3) := dk_17 0 192 (dk_at dksX3_countCovered_0 15 rfl rfl)
theorem dX3_countCovered_18 : decode cX3_countCovered 18 = .ok (.if_icmp .ge 27, 3) := dk_162 0 27 (dk_at dksX3_countCovered_0 18 rfl rfl)
theorem dX3_countCovered_21 : decode cX3_countCovered 21 = .ok (.iload_n 3, 1) := dk_29 (dk_at dksX3_countCovered_0 21 rfl rfl)
theorem dX3_countCovered_22 : decode cX3_countCovered 22 = .ok (.aload_n 0, 1) := dk_42 (dk_at dksX3_countCovered_0 22 rfl rfl)
theorem dX3_countCovered_23 : decode cX3_countCovered 23 = .ok (.getfield 77, 3) := dk_180 0 77 (dk_at dksX3_countCovered_1 0 rfl rfl)
theorem dX3_countCovered_26 : decode cX3_countCovered 26 = .ok (.iload 4, 2) := dk_21 4 (dk_at dksX3_countCovered_1 3 rfl rfl)
theorem dX3_countCovered_28 : decode cX3_countCovered 28 = .ok (.iaload, 1) := dk_46 (dk_at dksX3_countCovered_1 5 rfl rfl)
theorem dX3_countCovered_29 : decode cX3_countCovered 29 = .ok (.ifCond .le 7, 3) := dk_158 0 7 (dk_at dksX3_countCovered_1 6 rfl rfl)
theorem dX3_countCovered_32 : decode cX3_countCovered 32 = .ok (.iconst 1, 1) := dk_4 (dk_at dksX3_countCovered_1 9 rfl rfl)
theorem dX3_countCovered_33 : decode cX3_countCovered 33 = .ok (.goto 4, 3) := dk_167 0 4 (dk_at dksX3_countCovered_1 10 rfl rfl)
theorem dX3_countCovered_36 : decode cX3_countCovered 36 = .ok (.iconst 0, 1) := dk_3 (dk_at dksX3_countCovered_1 13 rfl rfl)
theorem dX3_countCovered_37 : decode cX3_countCovered 37 = .ok (.iadd, 1) := dk_96 (dk_at dksX3_countCovered_1 14 rfl rfl)
theorem dX3_countCovered_38 : decode cX3_countCovered 38 = .ok (.istore_n 3, 1) := dk_62 (dk_at dksX3_countCovered_1 15 rfl rfl)
theorem dX3_countCovered_39 : decode cX3_countCovered 39 = .ok (.iinc 4 1, 3) := dk_132 4 1 (dk_at dksX3_countCovered_1 16 rfl rfl)
theorem dX3_countCovered_42 : decode cX3_countCovered 42 = .ok (.goto (-29), 3) := dk_167 255 227 (dk_at dksX3_countCovered_1 19 rfl rfl)
theorem dX3_countCovered_45 : decode cX3_countCovered 45 = .ok (.iload_n 3, 1) := dk_29 (dk_at dksX3_countCovered_1 22 rfl rfl)
theorem dX3_countCovered_46 : decode cX3_countCovered 46 = .ok (.ireturn, 1) := dk_172 (dk_at dksX3_countCovered_1 23 rfl rfl)
abbrev cX3_checksum : ByteArray := prog_20_method_62_code
def yX3_checksum : MethodName := ⟨RX3, "checksum", "(II)I"⟩
def dkwX3_checksum_2 : List UInt8 := [21, 4, 46, 96, 62, 132, 4, 1, 167, 255, 232, 29, 172]
abbrev dktX3_checksum_2 : List UInt8 := dkwX3_checksum_2 ++ []
def dkwX3_checksum_1 : List UInt8 := [182, 0, 253, 3, 62, 3, 54, 4, 21, 4, 17, 0, 192, 162, 0, 22, 16, 31, 29, 104, 42, 180, 0, 77]
abbrev dktX3_checksum_1 : List UInt8 := dkwX3_checksum_1 ++ dktX3_checksum_2
def dkwX3_checksum_0 : List UInt8 := [42, 42, 27, 182, 0, 104, 28, 184, 0, 137, 4, 182, 0, 100, 154, 0, 5, 3, 172, 42, 27, 28, 3, 3]
abbrev dktX3_checksum_0 : List UInt8 := dkwX3_checksum_0 ++ dktX3_checksum_1
theorem dksX3_checksum_0 : cX3_checksum.data.toList.drop 0 = dktX3_checksum_0 := by decide +kernel
theorem dksX3_checksum_1 : cX3_checksum.data.toList.drop 24 = dktX3_checksum_1 := dk_seg dksX3_checksum_0 24 rfl rfl
theorem dksX3_checksum_2 : cX3_checksum.data.toList.drop 48 = dktX3_checksum_2 := dk_seg dksX3_checksum_1 24 rfl rfl
theorem dX3_checksum_0 : decode cX3_checksum 0 = .ok (.aload_n 0, 1) := dk_42 (dk_at dksX3_checksum_0 0 rfl rfl)
theorem dX3_checksum_1 : decode cX3_checksum 1 = .ok (.aload_n 0, 1) := dk_42 (dk_at dksX3_checksum_0 1 rfl rfl)
theorem dX3_checksum_2 : decode cX3_checksum 2 = .ok (.iload_n 1, 1) := dk_27 (dk_at dksX3_checksum_0 2 rfl rfl)
theorem dX3_checksum_3 : decode cX3_checksum 3 = .ok (.invokevirtual 104, 3) := dk_182 0 104 (dk_at dksX3_checksum_0 3 rfl rfl)
theorem dX3_checksum_6 : decode cX3_checksum 6 = .ok (.iload_n 2, 1) := dk_28 (dk_at dksX3_checksum_0 6 rfl rfl)
theorem dX3_checksum_7 : decode cX3_checksum 7 = .ok (.invokestatic 137, 3) := dk_184 0 137 (dk_at dksX3_checksum_0 7 rfl rfl)
theorem dX3_checksum_10 : decode cX3_checksum 10 = .ok (.iconst 1, 1) := dk_4 (dk_at dksX3_checksum_0 10 rfl rfl)
theorem dX3_checksum_11 : decode cX3_checksum 11 = .ok (.invokevirtual 100, 3) := dk_182 0 100 (dk_at dksX3_checksum_0 11 rfl rfl)
theorem dX3_checksum_14 : decode cX3_checksum 14 = .ok (.ifCond .ne 5, 3) := dk_154 0 5 (dk_at dksX3_checksum_0 14 rfl rfl)
theorem dX3_checksum_17 : decode cX3_checksum 17 = .ok (.iconst 0, 1) := dk_3 (dk_at dksX3_checksum_0 17 rfl rfl)
theorem dX3_checksum_18 : decode cX3_checksum 18 = .ok (.ireturn, 1) := dk_172 (dk_at dksX3_checksum_0 18 rfl rfl)
theorem dX3_checksum_19 : decode cX3_checksum 19 = .ok (.aload_n 0, 1) := dk_42 (dk_at dksX3_checksum_0 19 rfl rfl)
theorem dX3_checksum_20 : decode cX3_checksum 20 = .ok (.iload_n 1, 1) := dk_27 (dk_at dksX3_checksum_0 20 rfl rfl)
theorem dX3_checksum_21 : decode cX3_checksum 21 = .ok (.iload_n 2, 1) := dk_28 (dk_at dksX3_checksum_0 21 rfl rfl)
theorem dX3_checksum_22 : decode cX3_checksum 22 = .ok (.iconst 0, 1) := dk_3 (dk_at dksX3_checksum_0 22 rfl rfl)
theorem dX3_checksum_23 : decode cX3_checksum 23 = .ok (.iconst 0, 1) := dk_3 (dk_at dksX3_checksum_0 23 rfl rfl)
theorem dX3_checksum_24 : decode cX3_checksum 24 = .ok (.invokevirtual 253, 3) := dk_182 0 253 (dk_at dksX3_checksum_1 0 rfl rfl)
theorem dX3_checksum_27 : decode cX3_checksum 27 = .ok (.iconst 0, 1) := dk_3 (dk_at dksX3_checksum_1 3 rfl rfl)
theorem dX3_checksum_28 : decode cX3_checksum 28 = .ok (.istore_n 3, 1) := dk_62 (dk_at dksX3_checksum_1 4 rfl rfl)
theorem dX3_checksum_29 : decode cX3_checksum 29 = .ok (.iconst 0, 1) := dk_3 (dk_at dksX3_checksum_1 5 rfl rfl)
theorem dX3_checksum_30 : decode cX3_checksum 30 = .ok (.istore 4, 2) := dk_54 4 (dk_at dksX3_checksum_1 6 rfl rfl)
theorem dX3_checksum_32 : decode cX3_checksum 32 = .ok (.iload 4, 2) := dk_21 4 (dk_at dksX3_checksum_1 8 rfl rfl)
theorem dX3_checksum_34 : decode cX3_checksum 34 = .ok (.sipush 192, 3) := dk_17 0 192 (dk_at dksX3_checksum_1 10 rfl rfl)
theorem dX3_checksum_37 : decode cX3_checksum 37 = .ok (.if_icmp .ge 22, 3) := dk_162 0 22 (dk_at dksX3_checksum_1 13 rfl rfl)
theorem dX3_checksum_40 : decode cX3_checksum 40 = .ok (.bipush 31, 2) := dk_16 31 (dk_at dksX3_checksum_1 16 rfl rfl)
theorem dX3_checksum_42 : decode cX3_checksum 42 = .ok (.iload_n 3, 1) := dk_29 (dk_at dksX3_checksum_1 18 rfl rfl)
theorem dX3_checksum_43 : decode cX3_checksum 43 = .ok (.imul, 1) := dk_104 (dk_at dksX3_checksum_1 19 rfl rfl)
theorem dX3_checksum_44 : decode cX3_checksum 44 = .ok (.aload_n 0, 1) := dk_42 (dk_at dksX3_checksum_1 20 rfl rfl)
theorem dX3_checksum_45 : decode cX3_checksum 45 = .ok (.getfield 77, 3) := dk_180 0 77 (dk_at dksX3_checksum_1 21 rfl rfl)
theorem dX3_checksum_48 : decode cX3_checksum 48 = .ok (.iload 4, 2) := dk_21 4 (dk_at dksX3_checksum_2 0 rfl rfl)
theorem dX3_checksum_50 : decode cX3_checksum 50 = .ok (.iaload, 1) := dk_46 (dk_at dksX3_checksum_2 2 rfl rfl)
theorem dX3_checksum_51 : decode cX3_checksum 51 = .ok (.iadd, 1) := dk_96 (dk_at dksX3_checksum_2 3 rfl rfl)
theorem dX3_checksum_52 : decode cX3_checksum 52 = .ok (.istore_n 3, 1) := dk_62 (dk_at dksX3_checksum_2 4 rfl rfl)
theorem dX3_checksum_53 : decode cX3_checksum 53 = .ok (.iinc 4 1, 3) := dk_132 4 1 (dk_at dksX3_checksum_2 5 rfl rfl)
theorem dX3_checksum_56 : decode cX3_checksum 56 = .ok (.goto (-24), 3) := dk_167 255 232 (dk_at dksX3_checksum_2 8 rfl rfl)
theorem dX3_checksum_59 : decode cX3_checksum 59 = .ok (.iload_n 3, 1) := dk_29 (dk_at dksX3_checksum_2 11 rfl rfl)
theorem dX3_checksum_60 : decode cX3_checksum 60 = .ok (.ireturn, 1) := dk_172 (dk_at dksX3_checksum_2 12 rfl rfl)
abbrev cX3_playErrors : ByteArray := prog_20_method_63_code
def yX3_playErrors : MethodName := ⟨RX3, "playErrors", "(III)I"⟩
def dkwX3_playErrors_1 : List UInt8 := [167, 0, 4, 3, 4, 182, 0, 100, 54, 4, 3, 172]
abbrev dktX3_playErrors_1 : List UInt8 := dkwX3_playErrors_1 ++ []
def dkwX3_playErrors_0 : List UInt8 := [42, 42, 27, 182, 0, 104, 28, 184, 0, 137, 153, 0, 17, 29, 4, 16, 20, 184, 0, 96, 153, 0, 7, 4]
abbrev dktX3_playErrors_0 : List UInt8 := dkwX3_playErrors_0 ++ dktX3_playErrors_1
theorem dksX3_playErrors_0 : cX3_playErrors.data.toList.drop 0 = dktX3_playErrors_0 := by decide +kernel
theorem dksX3_playErrors_1 : cX3_playErrors.data.toList.drop 24 = dktX3_playErrors_1 := dk_seg dksX3_playErrors_0 24 rfl rfl
theorem dX3_playErrors_0 : decode cX3_playErrors 0 = .ok (.aload_n 0, 1) := dk_42 (dk_at dksX3_playErrors_0 0 rfl rfl)
theorem dX3_playErrors_1 : decode cX3_playErrors 1 = .ok (.aload_n 0, 1) := dk_42 (dk_at dksX3_playErrors_0 1 rfl rfl)
theorem dX3_playErrors_2 : decode cX3_playErrors 2 = .ok (.iload_n 1, 1) := dk_27 (dk_at dksX3_playErrors_0 2 rfl rfl)
theorem dX3_playErrors_3 : decode cX3_playErrors 3 = .ok (.invokevirtual 104, 3) := dk_182 0 104 (dk_at dksX3_playErrors_0 3 rfl rfl)
theorem dX3_playErrors_6 : decode cX3_playErrors 6 = .ok (.iload_n 2, 1) := dk_28 (dk_at dksX3_playErrors_0 6 rfl rfl)
theorem dX3_playErrors_7 : decode cX3_playErrors 7 = .ok (.invokestatic 137, 3) := dk_184 0 137 (dk_at dksX3_playErrors_0 7 rfl rfl)
theorem dX3_playErrors_10 : decode cX3_playErrors 10 = .ok (.ifCond .eq 17, 3) := dk_153 0 17 (dk_at dksX3_playErrors_0 10 rfl rfl)
theorem dX3_playErrors_13 : decode cX3_playErrors 13 = .ok (.iload_n 3, 1) := dk_29 (dk_at dksX3_playErrors_0 13 rfl rfl)
theorem dX3_playErrors_14 : decode cX3_playErrors 14 = .ok (.iconst 1, 1) := dk_4 (dk_at dksX3_playErrors_0 14 rfl rfl)
theorem dX3_playErrors_15 : decode cX3_playErrors 15 = .ok (.bipush 20, 2) := dk_16 20 (dk_at dksX3_playErrors_0 15 rfl rfl)
theorem dX3_playErrors_17 : decode cX3_playErrors 17 = .ok (.invokestatic 96, 3) := dk_184 0 96 (dk_at dksX3_playErrors_0 17 rfl rfl)
theorem dX3_playErrors_20 : decode cX3_playErrors 20 = .ok (.ifCond .eq 7, 3) := dk_153 0 7 (dk_at dksX3_playErrors_0 20 rfl rfl)
theorem dX3_playErrors_23 : decode cX3_playErrors 23 = .ok (.iconst 1, 1) := dk_4 (dk_at dksX3_playErrors_0 23 rfl rfl)
theorem dX3_playErrors_24 : decode cX3_playErrors 24 = .ok (.goto 4, 3) := dk_167 0 4 (dk_at dksX3_playErrors_1 0 rfl rfl)
theorem dX3_playErrors_27 : decode cX3_playErrors 27 = .ok (.iconst 0, 1) := dk_3 (dk_at dksX3_playErrors_1 3 rfl rfl)
theorem dX3_playErrors_28 : decode cX3_playErrors 28 = .ok (.iconst 1, 1) := dk_4 (dk_at dksX3_playErrors_1 4 rfl rfl)
theorem dX3_playErrors_29 : decode cX3_playErrors 29 = .ok (.invokevirtual 100, 3) := dk_182 0 100 (dk_at dksX3_playErrors_1 5 rfl rfl)
theorem dX3_playErrors_32 : decode cX3_playErrors 32 = .ok (.istore 4, 2) := dk_54 4 (dk_at dksX3_playErrors_1 8 rfl rfl)
theorem dX3_playErrors_34 : decode cX3_playErrors 34 = .ok (.iconst 0, 1) := dk_3 (dk_at dksX3_playErrors_1 10 rfl rfl)
theorem dX3_playErrors_35 : decode cX3_playErrors 35 = .ok (.ireturn, 1) := dk_172 (dk_at dksX3_playErrors_1 11 rfl rfl)
abbrev cX3_writeRow : ByteArray := prog_20_method_67_code
def yX3_writeRow : MethodName := ⟨RX3, "writeRow", "(III)I"⟩
def dkwX3_writeRow_5 : List UInt8 := [16, 46, 160, 0, 16, 42, 89, 180, 0, 93, 4, 100, 181, 0, 93, 167, 255, 223, 42, 180, 0, 93, 172]
abbrev dktX3_writeRow_5 : List UInt8 := dkwX3_writeRow_5 ++ []
def dkwX3_writeRow_4 : List UInt8 := [132, 4, 1, 167, 255, 213, 42, 180, 0, 93, 158, 0, 32, 42, 180, 0, 80, 42, 180, 0, 93, 4, 100, 46]
abbrev dktX3_writeRow_4 : List UInt8 := dkwX3_writeRow_4 ++ dktX3_writeRow_5
def dkwX3_writeRow_3 : List UInt8 := [46, 54, 5, 42, 21, 5, 158, 0, 11, 16, 48, 21, 5, 96, 167, 0, 5, 16, 46, 182, 1, 27]
abbrev dktX3_writeRow_3 : List UInt8 := dkwX3_writeRow_3 ++ dktX3_writeRow_4
def dkwX3_writeRow_2 : List UInt8 := [181, 0, 93, 3, 54, 4, 21, 4, 16, 16, 162, 0, 42, 42, 180, 0, 77, 16, 16, 29, 104, 21, 4, 96]
abbrev dktX3_writeRow_2 : List UInt8 := dkwX3_writeRow_2 ++ dktX3_writeRow_3
def dkwX3_writeRow_1 : List UInt8 := [167, 0, 4, 3, 4, 182, 0, 100, 154, 0, 5, 3, 172, 42, 27, 28, 3, 3, 182, 0, 253, 42, 3]
abbrev dktX3_writeRow_1 : List UInt8 := dkwX3_writeRow_1 ++ dktX3_writeRow_2
def dkwX3_writeRow_0 : List UInt8 := [42, 42, 27, 182, 0, 104, 28, 184, 0, 137, 153, 0, 17, 29, 3, 16, 11, 184, 0, 96, 153, 0, 7, 4]
abbrev dktX3_writeRow_0 : List UInt8 := dkwX3_writeRow_0 ++ dktX3_writeRow_1
theorem dksX3_writeRow_0 : cX3_writeRow.data.toList.drop 0 = dktX3_writeRow_0 := by decide +kernel
theorem dksX3_writeRow_1 : cX3_writeRow.data.toList.drop 24 = dktX3_writeRow_1 := dk_seg dksX3_writeRow_0 24 rfl rfl
theorem dksX3_writeRow_2 : cX3_writeRow.data.toList.drop 47 = dktX3_writeRow_2 := dk_seg dksX3_writeRow_1 23 rfl rfl
theorem dksX3_writeRow_3 : cX3_writeRow.data.toList.drop 71 = dktX3_writeRow_3 := dk_seg dksX3_writeRow_2 24 rfl rfl
theorem dksX3_writeRow_4 : cX3_writeRow.data.toList.drop 93 = dktX3_writeRow_4 := dk_seg dksX3_writeRow_3 22 rfl rfl
theorem dksX3_writeRow_5 : cX3_writeRow.data.toList.drop 117 = dktX3_writeRow_5 := dk_seg dksX3_writeRow_4 24 rfl rfl
theorem dX3_writeRow_0 : decode cX3_writeRow 0 = .ok (.aload_n 0, 1) := dk_42 (dk_at dksX3_writeRow_0 0 rfl rfl)
theorem dX3_writeRow_1 : decode cX3_writeRow 1 = .ok (.aload_n 0, 1) := dk_42 (dk_at dksX3_writeRow_0 1 rfl rfl)
theorem dX3_writeRow_2 : decode cX3_writeRow 2 = .ok (.iload_n 1, 1) := dk_27 (dk_at dksX3_writeRow_0 2 rfl rfl)
theorem dX3_writeRow_3 : decode cX3_writeRow 3 = .ok (.invokevirtual 104, 3) := dk_182 0 104 (dk_at dksX3_writeRow_0 3 rfl rfl)
theorem dX3_writeRow_6 : decode cX3_writeRow 6 = .ok (.iload_n 2, 1) := dk_28 (dk_at dksX3_writeRow_0 6 rfl rfl)
theorem dX3_writeRow_7 : decode cX3_writeRow 7 = .ok (.invokestatic 137, 3) := dk_184 0 137 (dk_at dksX3_writeRow_0 7 rfl rfl)
theorem dX3_writeRow_10 : decode cX3_writeRow 10 = .ok (.ifCond .eq 17, 3) := dk_153 0 17 (dk_at dksX3_writeRow_0 10 rfl rfl)
theorem dX3_writeRow_13 : decode cX3_writeRow 13 = .ok (.iload_n 3, 1) := dk_29 (dk_at dksX3_writeRow_0 13 rfl rfl)
theorem dX3_writeRow_14 : decode cX3_writeRow 14 = .ok (.iconst 0, 1) := dk_3 (dk_at dksX3_writeRow_0 14 rfl rfl)
theorem dX3_writeRow_15 : decode cX3_writeRow 15 = .ok (.bipush 11, 2) := dk_16 11 (dk_at dksX3_writeRow_0 15 rfl rfl)
theorem dX3_writeRow_17 : decode cX3_writeRow 17 = .ok (.invokestatic 96, 3) := dk_184 0 96 (dk_at dksX3_writeRow_0 17 rfl rfl)
theorem dX3_writeRow_20 : decode cX3_writeRow 20 = .ok (.ifCond .eq 7, 3) := dk_153 0 7 (dk_at dksX3_writeRow_0 20 rfl rfl)
theorem dX3_writeRow_23 : decode cX3_writeRow 23 = .ok (.iconst 1, 1) := dk_4 (dk_at dksX3_writeRow_0 23 rfl rfl)
theorem dX3_writeRow_24 : decode cX3_writeRow 24 = .ok (.goto 4, 3) := dk_167 0 4 (dk_at dksX3_writeRow_1 0 rfl rfl)
theorem dX3_writeRow_27 : decode cX3_writeRow 27 = .ok (.iconst 0, 1) := dk_3 (dk_at dksX3_writeRow_1 3 rfl rfl)
theorem dX3_writeRow_28 : decode cX3_writeRow 28 = .ok (.iconst 1, 1) := dk_4 (dk_at dksX3_writeRow_1 4 rfl rfl)
theorem dX3_writeRow_29 : decode cX3_writeRow 29 = .ok (.invokevirtual 100, 3) := dk_182 0 100 (dk_at dksX3_writeRow_1 5 rfl rfl)
theorem dX3_writeRow_32 : decode cX3_writeRow 32 = .ok (.ifCond .ne 5, 3) := dk_154 0 5 (dk_at dksX3_writeRow_1 8 rfl rfl)
theorem dX3_writeRow_35 : decode cX3_writeRow 35 = .ok (.iconst 0, 1) := dk_3 (dk_at dksX3_writeRow_1 11 rfl rfl)
theorem dX3_writeRow_36 : decode cX3_writeRow 36 = .ok (.ireturn, 1) := dk_172 (dk_at dksX3_writeRow_1 12 rfl rfl)
theorem dX3_writeRow_37 : decode cX3_writeRow 37 = .ok (.aload_n 0, 1) := dk_42 (dk_at dksX3_writeRow_1 13 rfl rfl)
theorem dX3_writeRow_38 : decode cX3_writeRow 38 = .ok (.iload_n 1, 1) := dk_27 (dk_at dksX3_writeRow_1 14 rfl rfl)
theorem dX3_writeRow_39 : decode cX3_writeRow 39 = .ok (.iload_n 2, 1) := dk_28 (dk_at dksX3_writeRow_1 15 rfl rfl)
theorem dX3_writeRow_40 : decode cX3_writeRow 40 = .ok (.iconst 0, 1) := dk_3 (dk_at dksX3_writeRow_1 16 rfl rfl)
theorem dX3_writeRow_41 : decode cX3_writeRow 41 = .ok (.iconst 0, 1) := dk_3 (dk_at dksX3_writeRow_1 17 rfl rfl)
theorem dX3_writeRow_42 : decode cX3_writeRow 42 = .ok (.invokevirtual 253, 3) := dk_182 0 253 (dk_at dksX3_writeRow_1 18 rfl rfl)
theorem dX3_writeRow_45 : decode cX3_writeRow 45 = .ok (.aload_n 0, 1) := dk_42 (dk_at dksX3_writeRow_1 21 rfl rfl)
theorem dX3_writeRow_46 : decode cX3_writeRow 46 = .ok (.iconst 0, 1) := dk_3 (dk_at dksX3_writeRow_1 22 rfl rfl)
theorem dX3_writeRow_47 : decode cX3_writeRow 47 = .ok (.putfield 93, 3) := dk_181 0 93 (dk_at dksX3_writeRow_2 0 rfl rfl)
theorem dX3_writeRow_50 : decode cX3_writeRow 50 = .ok (.iconst 0, 1) := dk_3 (dk_at dksX3_writeRow_2 3 rfl rfl)
theorem dX3_writeRow_51 : decode cX3_writeRow 51 = .ok (.istore 4, 2) := dk_54 4 (dk_at dksX3_writeRow_2 4 rfl rfl)
theorem dX3_writeRow_53 : decode cX3_writeRow 53 = .ok (.iload 4, 2) := dk_21 4 (dk_at dksX3_writeRow_2 6 rfl rfl)
theorem dX3_writeRow_55 : decode cX3_writeRow 55 = .ok (.bipush 16, 2) := dk_16 16 (dk_at dksX3_writeRow_2 8 rfl rfl)
theorem dX3_writeRow_57 : decode cX3_writeRow 57 = .ok (.if_icmp .ge 42, 3) := dk_162 0 42 (dk_at dksX3_writeRow_2 10 rfl rfl)
theorem dX3_writeRow_60 : decode cX3_writeRow 60 = .ok (.aload_n 0, 1) := dk_42 (dk_at dksX3_writeRow_2 13 rfl rfl)
theorem dX3_writeRow_61 : decode cX3_writeRow 61 = .ok (.getfield 77, 3) := dk_180 0 77 (dk_at dksX3_writeRow_2 14 rfl rfl)
theorem dX3_writeRow_64 : decode cX3_writeRow 64 = .ok (.bipush 16, 2) := dk_16 16 (dk_at dksX3_writeRow_2 17 rfl rfl)
theorem dX3_writeRow_66 : decode cX3_writeRow 66 = .ok (.iload_n 3, 1) := dk_29 (dk_at dksX3_writeRow_2 19 rfl rfl)
theorem dX3_writeRow_67 : decode cX3_writeRow 67 = .ok (.imul, 1) := dk_104 (dk_at dksX3_writeRow_2 20 rfl rfl)
theorem dX3_writeRow_68 : decode cX3_writeRow 68 = .ok (.iload 4, 2) := dk_21 4 (dk_at dksX3_writeRow_2 21 rfl rfl)
theorem dX3_writeRow_70 : decode cX3_writeRow 70 = .ok (.iadd, 1) := dk_96 (dk_at dksX3_writeRow_2 23 rfl rfl)
theorem dX3_writeRow_71 : decode cX3_writeRow 71 = .ok (.iaload, 1) := dk_46 (dk_at dksX3_writeRow_3 0 rfl rfl)
theorem dX3_writeRow_72 : decode cX3_writeRow 72 = .ok (.istore 5, 2) := dk_54 5 (dk_at dksX3_writeRow_3 1 rfl rfl)
theorem dX3_writeRow_74 : decode cX3_writeRow 74 = .ok (.aload_n 0, 1) := dk_42 (dk_at dksX3_writeRow_3 3 rfl rfl)
theorem dX3_writeRow_75 : decode cX3_writeRow 75 = .ok (.iload 5, 2) := dk_21 5 (dk_at dksX3_writeRow_3 4 rfl rfl)
theorem dX3_writeRow_77 : decode cX3_writeRow 77 = .ok (.ifCond .le 11, 3) := dk_158 0 11 (dk_at dksX3_writeRow_3 6 rfl rfl)
theorem dX3_writeRow_80 : decode cX3_writeRow 80 = .ok (.bipush 48, 2) := dk_16 48 (dk_at dksX3_writeRow_3 9 rfl rfl)
theorem dX3_writeRow_82 : decode cX3_writeRow 82 = .ok (.iload 5, 2) := dk_21 5 (dk_at dksX3_writeRow_3 11 rfl rfl)
theorem dX3_writeRow_84 : decode cX3_writeRow 84 = .ok (.iadd, 1) := dk_96 (dk_at dksX3_writeRow_3 13 rfl rfl)
theorem dX3_writeRow_85 : decode cX3_writeRow 85 = .ok (.goto 5, 3) := dk_167 0 5 (dk_at dksX3_writeRow_3 14 rfl rfl)
theorem dX3_writeRow_88 : decode cX3_writeRow 88 = .ok (.bipush 46, 2) := dk_16 46 (dk_at dksX3_writeRow_3 17 rfl rfl)
theorem dX3_writeRow_90 : decode cX3_writeRow 90 = .ok (.invokevirtual 283, 3) := dk_182 1 27 (dk_at dksX3_writeRow_3 19 rfl rfl)
theorem dX3_writeRow_93 : decode cX3_writeRow 93 = .ok (.iinc 4 1, 3) := dk_132 4 1 (dk_at dksX3_writeRow_4 0 rfl rfl)
theorem dX3_writeRow_96 : decode cX3_writeRow 96 = .ok (.goto (-43), 3) := dk_167 255 213 (dk_at dksX3_writeRow_4 3 rfl rfl)
theorem dX3_writeRow_99 : decode cX3_writeRow 99 = .ok (.aload_n 0, 1) := dk_42 (dk_at dksX3_writeRow_4 6 rfl rfl)
theorem dX3_writeRow_100 : decode cX3_writeRow 100 = .ok (.getfield 93, 3) := dk_180 0 93 (dk_at dksX3_writeRow_4 7 rfl rfl)
theorem dX3_writeRow_103 : decode cX3_writeRow 103 = .ok (.ifCond .le 32, 3) := dk_158 0 32 (dk_at dksX3_writeRow_4 10 rfl rfl)
theorem dX3_writeRow_106 : decode cX3_writeRow 106 = .ok (.aload_n 0, 1) := dk_42 (dk_at dksX3_writeRow_4 13 rfl rfl)
theorem dX3_writeRow_107 : decode cX3_writeRow 107 = .ok (.getfield 80, 3) := dk_180 0 80 (dk_at dksX3_writeRow_4 14 rfl rfl)
theorem dX3_writeRow_110 : decode cX3_writeRow 110 = .ok (.aload_n 0, 1) := dk_42 (dk_at dksX3_writeRow_4 17 rfl rfl)
theorem dX3_writeRow_111 : decode cX3_writeRow 111 = .ok (.getfield 93, 3) := dk_180 0 93 (dk_at dksX3_writeRow_4 18 rfl rfl)
theorem dX3_writeRow_114 : decode cX3_writeRow 114 = .ok (.iconst 1, 1) := dk_4 (dk_at dksX3_writeRow_4 21 rfl rfl)
theorem dX3_writeRow_115 : decode cX3_writeRow 115 = .ok (.isub, 1) := dk_100 (dk_at dksX3_writeRow_4 22 rfl rfl)
theorem dX3_writeRow_116 : decode cX3_writeRow 116 = .ok (.iaload, 1) := dk_46 (dk_at dksX3_writeRow_4 23 rfl rfl)
theorem dX3_writeRow_117 : decode cX3_writeRow 117 = .ok (.bipush 46, 2) := dk_16 46 (dk_at dksX3_writeRow_5 0 rfl rfl)
theorem dX3_writeRow_119 : decode cX3_writeRow 119 = .ok (.if_icmp .ne 16, 3) := dk_160 0 16 (dk_at dksX3_writeRow_5 2 rfl rfl)
theorem dX3_writeRow_122 : decode cX3_writeRow 122 = .ok (.aload_n 0, 1) := dk_42 (dk_at dksX3_writeRow_5 5 rfl rfl)
theorem dX3_writeRow_123 : decode cX3_writeRow 123 = .ok (.dup, 1) := dk_89 (dk_at dksX3_writeRow_5 6 rfl rfl)
theorem dX3_writeRow_124 : decode cX3_writeRow 124 = .ok (.getfield 93, 3) := dk_180 0 93 (dk_at dksX3_writeRow_5 7 rfl rfl)
theorem dX3_writeRow_127 : decode cX3_writeRow 127 = .ok (.iconst 1, 1) := dk_4 (dk_at dksX3_writeRow_5 10 rfl rfl)
theorem dX3_writeRow_128 : decode cX3_writeRow 128 = .ok (.isub, 1) := dk_100 (dk_at dksX3_writeRow_5 11 rfl rfl)
theorem dX3_writeRow_129 : decode cX3_writeRow 129 = .ok (.putfield 93, 3) := dk_181 0 93 (dk_at dksX3_writeRow_5 12 rfl rfl)
theorem dX3_writeRow_132 : decode cX3_writeRow 132 = .ok (.goto (-33), 3) := dk_167 255 223 (dk_at dksX3_writeRow_5 15 rfl rfl)
theorem dX3_writeRow_135 : decode cX3_writeRow 135 = .ok (.aload_n 0, 1) := dk_42 (dk_at dksX3_writeRow_5 18 rfl rfl)
theorem dX3_writeRow_136 : decode cX3_writeRow 136 = .ok (.getfield 93, 3) := dk_180 0 93 (dk_at dksX3_writeRow_5 19 rfl rfl)
theorem dX3_writeRow_139 : decode cX3_writeRow 139 = .ok (.ireturn, 1) := dk_172 (dk_at dksX3_writeRow_5 22 rfl rfl)
abbrev cX3_put : ByteArray := prog_20_method_64_code
def yX3_put : MethodName := ⟨RX3, "put", "(I)V"⟩
def dkwX3_put_0 : List UInt8 := [42, 180, 0, 80, 42, 180, 0, 93, 27, 79, 42, 89, 180, 0, 93, 4, 96, 181, 0, 93, 177]
abbrev dktX3_put_0 : List UInt8 := dkwX3_put_0 ++ []
theorem dksX3_put_0 : cX3_put.data.toList.drop 0 = dktX3_put_0 := by decide +kernel
theorem dX3_put_0 : decode cX3_put 0 = .ok (.aload_n 0, 1) := dk_42 (dk_at dksX3_put_0 0 rfl rfl)
theorem dX3_put_1 : decode cX3_put 1 = .ok (.getfield 80, 3) := dk_180 0 80 (dk_at dksX3_put_0 1 rfl rfl)
theorem dX3_put_4 : decode cX3_put 4 = .ok (.aload_n 0, 1) := dk_42 (dk_at dksX3_put_0 4 rfl rfl)
theorem dX3_put_5 : decode cX3_put 5 = .ok (.getfield 93, 3) := dk_180 0 93 (dk_at dksX3_put_0 5 rfl rfl)
theorem dX3_put_8 : decode cX3_put 8 = .ok (.iload_n 1, 1) := dk_27 (dk_at dksX3_put_0 8 rfl rfl)
theorem dX3_put_9 : decode cX3_put 9 = .ok (.iastore, 1) := dk_79 (dk_at dksX3_put_0 9 rfl rfl)
theorem dX3_put_10 : decode cX3_put 10 = .ok (.aload_n 0, 1) := dk_42 (dk_at dksX3_put_0 10 rfl rfl)
theorem dX3_put_11 : decode cX3_put 11 = .ok (.dup, 1) := dk_89 (dk_at dksX3_put_0 11 rfl rfl)
theorem dX3_put_12 : decode cX3_put 12 = .ok (.getfield 93, 3) := dk_180 0 93 (dk_at dksX3_put_0 12 rfl rfl)
theorem dX3_put_15 : decode cX3_put 15 = .ok (.iconst 1, 1) := dk_4 (dk_at dksX3_put_0 15 rfl rfl)
theorem dX3_put_16 : decode cX3_put 16 = .ok (.iadd, 1) := dk_96 (dk_at dksX3_put_0 16 rfl rfl)
theorem dX3_put_17 : decode cX3_put 17 = .ok (.putfield 93, 3) := dk_181 0 93 (dk_at dksX3_put_0 17 rfl rfl)
theorem dX3_put_20 : decode cX3_put 20 = .ok (.return_, 1) := dk_177 (dk_at dksX3_put_0 20 rfl rfl)
abbrev cX3_write : ByteArray := prog_20_method_70_code
def yX3_write : MethodName := ⟨RX3, "write", "(I)I"⟩
def dkwX3_write_6 : List UInt8 := [16, 32, 3, 3, 182, 1, 30, 42, 42, 180, 0, 34, 27, 46, 182, 1, 34, 42, 180, 0, 93, 172]
abbrev dktX3_write_6 : List UInt8 := dkwX3_write_6 ++ []
def dkwX3_write_5 : List UInt8 := [153, 0, 17, 42, 16, 32, 16, 110, 16, 111, 16, 116, 3, 3, 182, 1, 30, 42, 16, 32, 16, 98, 16, 121]
abbrev dktX3_write_5 : List UInt8 := dkwX3_write_5 ++ dktX3_write_6
def dkwX3_write_4 : List UInt8 := [180, 0, 31, 27, 46, 182, 1, 34, 42, 180, 0, 34, 27, 46, 2, 159, 0, 50, 42, 180, 0, 37, 27, 51]
abbrev dktX3_write_4 : List UInt8 := dkwX3_write_4 ++ dktX3_write_5
def dkwX3_write_3 : List UInt8 := [27, 46, 2, 159, 0, 27, 42, 16, 32, 16, 105, 16, 110, 16, 32, 3, 3, 182, 1, 30, 42, 42]
abbrev dktX3_write_3 : List UInt8 := dkwX3_write_3 ++ dktX3_write_4
def dkwX3_write_2 : List UInt8 := [182, 1, 27, 42, 42, 180, 0, 44, 27, 46, 4, 100, 182, 1, 34, 42, 27, 182, 1, 40, 42, 180, 0, 31]
abbrev dktX3_write_2 : List UInt8 := dkwX3_write_2 ++ dktX3_write_3
def dkwX3_write_1 : List UInt8 := [182, 1, 37, 42, 16, 32, 182, 1, 27, 42, 42, 180, 0, 41, 27, 46, 182, 1, 34, 42, 16, 45]
abbrev dktX3_write_1 : List UInt8 := dkwX3_write_1 ++ dktX3_write_2
def dkwX3_write_0 : List UInt8 := [42, 42, 27, 182, 0, 116, 4, 4, 182, 0, 100, 154, 0, 5, 3, 172, 42, 3, 181, 0, 93, 42, 27]
abbrev dktX3_write_0 : List UInt8 := dkwX3_write_0 ++ dktX3_write_1
theorem dksX3_write_0 : cX3_write.data.toList.drop 0 = dktX3_write_0 := by decide +kernel
theorem dksX3_write_1 : cX3_write.data.toList.drop 23 = dktX3_write_1 := dk_seg dksX3_write_0 23 rfl rfl
theorem dksX3_write_2 : cX3_write.data.toList.drop 45 = dktX3_write_2 := dk_seg dksX3_write_1 22 rfl rfl
theorem dksX3_write_3 : cX3_write.data.toList.drop 69 = dktX3_write_3 := dk_seg dksX3_write_2 24 rfl rfl
theorem dksX3_write_4 : cX3_write.data.toList.drop 91 = dktX3_write_4 := dk_seg dksX3_write_3 22 rfl rfl
theorem dksX3_write_5 : cX3_write.data.toList.drop 115 = dktX3_write_5 := dk_seg dksX3_write_4 24 rfl rfl
theorem dksX3_write_6 : cX3_write.data.toList.drop 139 = dktX3_write_6 := dk_seg dksX3_write_5 24 rfl rfl
theorem dX3_write_0 : decode cX3_write 0 = .ok (.aload_n 0, 1) := dk_42 (dk_at dksX3_write_0 0 rfl rfl)
theorem dX3_write_1 : decode cX3_write 1 = .ok (.aload_n 0, 1) := dk_42 (dk_at dksX3_write_0 1 rfl rfl)
theorem dX3_write_2 : decode cX3_write 2 = .ok (.iload_n 1, 1) := dk_27 (dk_at dksX3_write_0 2 rfl rfl)
theorem dX3_write_3 : decode cX3_write 3 = .ok (.invokevirtual 116, 3) := dk_182 0 116 (dk_at dksX3_write_0 3 rfl rfl)
theorem dX3_write_6 : decode cX3_write 6 = .ok (.iconst 1, 1) := dk_4 (dk_at dksX3_write_0 6 rfl rfl)
theorem dX3_write_7 : decode cX3_write 7 = .ok (.iconst 1, 1) := dk_4 (dk_at dksX3_write_0 7 rfl rfl)
theorem dX3_write_8 : decode cX3_write 8 = .ok (.invokevirtual 100, 3) := dk_182 0 100 (dk_at dksX3_write_0 8 rfl rfl)
theorem dX3_write_11 : decode cX3_write 11 = .ok (.ifCond .ne 5, 3) := dk_154 0 5 (dk_at dksX3_write_0 11 rfl rfl)
theorem dX3_write_14 : decode cX3_write 14 = .ok (.iconst 0, 1) := dk_3 (dk_at dksX3_write_0 14 rfl rfl)
theorem dX3_write_15 : decode cX3_write 15 = .ok (.ireturn, 1) := dk_172 (dk_at dksX3_write_0 15 rfl rfl)
theorem dX3_write_16 : decode cX3_write 16 = .ok (.aload_n 0, 1) := dk_42 (dk_at dksX3_write_0 16 rfl rfl)
theorem dX3_write_17 : decode cX3_write 17 = .ok (.iconst 0, 1) := dk_3 (dk_at dksX3_write_0 17 rfl rfl)
theorem dX3_write_18 : decode cX3_write 18 = .ok (.putfield 93, 3) := dk_181 0 93 (dk_at dksX3_write_0 18 rfl rfl)
theorem dX3_write_21 : decode cX3_write 21 = .ok (.aload_n 0, 1) := dk_42 (dk_at dksX3_write_0 21 rfl rfl)
theorem dX3_write_22 : decode cX3_write 22 = .ok (.iload_n 1, 1) := dk_27 (dk_at dksX3_write_0 22 rfl rfl)
theorem dX3_write_23 : decode cX3_write 23 = .ok (.invokevirtual 293, 3) := dk_182 1 37 (dk_at dksX3_write_1 0 rfl rfl)
theorem dX3_write_26 : decode cX3_write 26 = .ok (.aload_n 0, 1) := dk_42 (dk_at dksX3_write_1 3 rfl rfl)
theorem dX3_write_27 : decode cX3_write 27 = .ok (.bipush 32, 2) := dk_16 32 (dk_at dksX3_write_1 4 rfl rfl)
theorem dX3_write_29 : decode cX3_write 29 = .ok (.invokevirtual 283, 3) := dk_182 1 27 (dk_at dksX3_write_1 6 rfl rfl)
theorem dX3_write_32 : decode cX3_write 32 = .ok (.aload_n 0, 1) := dk_42 (dk_at dksX3_write_1 9 rfl rfl)
theorem dX3_write_33 : decode cX3_write 33 = .ok (.aload_n 0, 1) := dk_42 (dk_at dksX3_write_1 10 rfl rfl)
theorem dX3_write_34 : decode cX3_write 34 = .ok (.getfield 41, 3) := dk_180 0 41 (dk_at dksX3_write_1 11 rfl rfl)
theorem dX3_write_37 : decode cX3_write 37 = .ok (.iload_n 1, 1) := dk_27 (dk_at dksX3_write_1 14 rfl rfl)
theorem dX3_write_38 : decode cX3_write 38 = .ok (.iaload, 1) := dk_46 (dk_at dksX3_write_1 15 rfl rfl)
theorem dX3_write_39 : decode cX3_write 39 = .ok (.invokevirtual 290, 3) := dk_182 1 34 (dk_at dksX3_write_1 16 rfl rfl)
theorem dX3_write_42 : decode cX3_write 42 = .ok (.aload_n 0, 1) := dk_42 (dk_at dksX3_write_1 19 rfl rfl)
theorem dX3_write_43 : decode cX3_write 43 = .ok (.bipush 45, 2) := dk_16 45 (dk_at dksX3_write_1 20 rfl rfl)
theorem dX3_write_45 : decode cX3_write 45 = .ok (.invokevirtual 283, 3) := dk_182 1 27 (dk_at dksX3_write_2 0 rfl rfl)
theorem dX3_write_48 : decode cX3_write 48 = .ok (.aload_n 0, 1) := dk_42 (dk_at dksX3_write_2 3 rfl rfl)
theorem dX3_write_49 : decode cX3_write 49 = .ok (.aload_n 0, 1) := dk_42 (dk_at dksX3_write_2 4 rfl rfl)
theorem dX3_write_50 : decode cX3_write 50 = .ok (.getfield 44, 3) := dk_180 0 44 (dk_at dksX3_write_2 5 rfl rfl)
theorem dX3_write_53 : decode cX3_write 53 = .ok (.iload_n 1, 1) := dk_27 (dk_at dksX3_write_2 8 rfl rfl)
theorem dX3_write_54 : decode cX3_write 54 = .ok (.iaload, 1) := dk_46 (dk_at dksX3_write_2 9 rfl rfl)
theorem dX3_write_55 : decode cX3_write 55 = .ok (.iconst 1, 1) := dk_4 (dk_at dksX3_write_2 10 rfl rfl)
theorem dX3_write_56 : decode cX3_write 56 = .ok (.isub, 1) := dk_100 (dk_at dksX3_write_2 11 rfl rfl)
theorem dX3_write_57 : decode cX3_write 57 = .ok (.invokevirtual 290, 3) := dk_182 1 34 (dk_at dksX3_write_2 12 rfl rfl)
theorem dX3_write_60 : decode cX3_write 60 = .ok (.aload_n 0, 1) := dk_42 (dk_at dksX3_write_2 15 rfl rfl)
theorem dX3_write_61 : decode cX3_write 61 = .ok (.iload_n 1, 1) := dk_27 (dk_at dksX3_write_2 16 rfl rfl)
theorem dX3_write_62 : decode cX3_write 62 = .ok (.invokevirtual 296, 3) := dk_182 1 40 (dk_at dksX3_write_2 17 rfl rfl)
theorem dX3_write_65 : decode cX3_write 65 = .ok (.aload_n 0, 1) := dk_42 (dk_at dksX3_write_2 20 rfl rfl)
theorem dX3_write_66 : decode cX3_write 66 = .ok (.getfield 31, 3) := dk_180 0 31 (dk_at dksX3_write_2 21 rfl rfl)
theorem dX3_write_69 : decode cX3_write 69 = .ok (.iload_n 1, 1) := dk_27 (dk_at dksX3_write_3 0 rfl rfl)
theorem dX3_write_70 : decode cX3_write 70 = .ok (.iaload, 1) := dk_46 (dk_at dksX3_write_3 1 rfl rfl)
theorem dX3_write_71 : decode cX3_write 71 = .ok (.iconst (-1), 1) := dk_2 (dk_at dksX3_write_3 2 rfl rfl)
theorem dX3_write_72 : decode cX3_write 72 = .ok (.if_icmp .eq 27, 3) := dk_159 0 27 (dk_at dksX3_write_3 3 rfl rfl)
theorem dX3_write_75 : decode cX3_write 75 = .ok (.aload_n 0, 1) := dk_42 (dk_at dksX3_write_3 6 rfl rfl)
theorem dX3_write_76 : decode cX3_write 76 = .ok (.bipush 32, 2) := dk_16 32 (dk_at dksX3_write_3 7 rfl rfl)
theorem dX3_write_78 : decode cX3_write 78 = .ok (.bipush 105, 2) := dk_16 105 (dk_at dksX3_write_3 9 rfl rfl)
theorem dX3_write_80 : decode cX3_write 80 = .ok (.bipush 110, 2) := dk_16 110 (dk_at dksX3_write_3 11 rfl rfl)
theorem dX3_write_82 : decode cX3_write 82 = .ok (.bipush 32, 2) := dk_16 32 (dk_at dksX3_write_3 13 rfl rfl)
theorem dX3_write_84 : decode cX3_write 84 = .ok (.iconst 0, 1) := dk_3 (dk_at dksX3_write_3 15 rfl rfl)
theorem dX3_write_85 : decode cX3_write 85 = .ok (.iconst 0, 1) := dk_3 (dk_at dksX3_write_3 16 rfl rfl)
theorem dX3_write_86 : decode cX3_write 86 = .ok (.invokevirtual 286, 3) := dk_182 1 30 (dk_at dksX3_write_3 17 rfl rfl)
theorem dX3_write_89 : decode cX3_write 89 = .ok (.aload_n 0, 1) := dk_42 (dk_at dksX3_write_3 20 rfl rfl)
theorem dX3_write_90 : decode cX3_write 90 = .ok (.aload_n 0, 1) := dk_42 (dk_at dksX3_write_3 21 rfl rfl)
theorem dX3_write_91 : decode cX3_write 91 = .ok (.getfield 31, 3) := dk_180 0 31 (dk_at dksX3_write_4 0 rfl rfl)
theorem dX3_write_94 : decode cX3_write 94 = .ok (.iload_n 1, 1) := dk_27 (dk_at dksX3_write_4 3 rfl rfl)
theorem dX3_write_95 : decode cX3_write 95 = .ok (.iaload, 1) := dk_46 (dk_at dksX3_write_4 4 rfl rfl)
theorem dX3_write_96 : decode cX3_write 96 = .ok (.invokevirtual 290, 3) := dk_182 1 34 (dk_at dksX3_write_4 5 rfl rfl)
theorem dX3_write_99 : decode cX3_write 99 = .ok (.aload_n 0, 1) := dk_42 (dk_at dksX3_write_4 8 rfl rfl)
theorem dX3_write_100 : decode cX3_write 100 = .ok (.getfield 34, 3) := dk_180 0 34 (dk_at dksX3_write_4 9 rfl rfl)
theorem dX3_write_103 : decode cX3_write 103 = .ok (.iload_n 1, 1) := dk_27 (dk_at dksX3_write_4 12 rfl rfl)
theorem dX3_write_104 : decode cX3_write 104 = .ok (.iaload, 1) := dk_46 (dk_at dksX3_write_4 13 rfl rfl)
theorem dX3_write_105 : decode cX3_write 105 = .ok (.iconst (-1), 1) := dk_2 (dk_at dksX3_write_4 14 rfl rfl)
theorem dX3_write_106 : decode cX3_write 106 = .ok (.if_icmp .eq 50, 3) := dk_159 0 50 (dk_at dksX3_write_4 15 rfl rfl)
theorem dX3_write_109 : decode cX3_write 109 = .ok (.aload_n 0, 1) := dk_42 (dk_at dksX3_write_4 18 rfl rfl)
theorem dX3_write_110 : decode cX3_write 110 = .ok (.getfield 37, 3) := dk_180 0 37 (dk_at dksX3_write_4 19 rfl rfl)
theorem dX3_write_113 : decode cX3_write 113 = .ok (.iload_n 1, 1) := dk_27 (dk_at dksX3_write_4 22 rfl rfl)
theorem dX3_write_114 : decode cX3_write 114 = .ok (.baload, 1) := dk_51 (dk_at dksX3_write_4 23 rfl rfl)
theorem dX3_write_115 : decode cX3_write 115 = .ok (.ifCond .eq 17, 3) := dk_153 0 17 (dk_at dksX3_write_5 0 rfl rfl)
theorem dX3_write_118 : decode cX3_write 118 = .ok (.aload_n 0, 1) := dk_42 (dk_at dksX3_write_5 3 rfl rfl)
theorem dX3_write_119 : decode cX3_write 119 = .ok (.bipush 32, 2) := dk_16 32 (dk_at dksX3_write_5 4 rfl rfl)
theorem dX3_write_121 : decode cX3_write 121 = .ok (.bipush 110, 2) := dk_16 110 (dk_at dksX3_write_5 6 rfl rfl)
theorem dX3_write_123 : decode cX3_write 123 = .ok (.bipush 111, 2) := dk_16 111 (dk_at dksX3_write_5 8 rfl rfl)
theorem dX3_write_125 : decode cX3_write 125 = .ok (.bipush 116, 2) := dk_16 116 (dk_at dksX3_write_5 10 rfl rfl)
theorem dX3_write_127 : decode cX3_write 127 = .ok (.iconst 0, 1) := dk_3 (dk_at dksX3_write_5 12 rfl rfl)
theorem dX3_write_128 : decode cX3_write 128 = .ok (.iconst 0, 1) := dk_3 (dk_at dksX3_write_5 13 rfl rfl)
theorem dX3_write_129 : decode cX3_write 129 = .ok (.invokevirtual 286, 3) := dk_182 1 30 (dk_at dksX3_write_5 14 rfl rfl)
theorem dX3_write_132 : decode cX3_write 132 = .ok (.aload_n 0, 1) := dk_42 (dk_at dksX3_write_5 17 rfl rfl)
theorem dX3_write_133 : decode cX3_write 133 = .ok (.bipush 32, 2) := dk_16 32 (dk_at dksX3_write_5 18 rfl rfl)
theorem dX3_write_135 : decode cX3_write 135 = .ok (.bipush 98, 2) := dk_16 98 (dk_at dksX3_write_5 20 rfl rfl)
theorem dX3_write_137 : decode cX3_write 137 = .ok (.bipush 121, 2) := dk_16 121 (dk_at dksX3_write_5 22 rfl rfl)
theorem dX3_write_139 : decode cX3_write 139 = .ok (.bipush 32, 2) := dk_16 32 (dk_at dksX3_write_6 0 rfl rfl)
theorem dX3_write_141 : decode cX3_write 141 = .ok (.iconst 0, 1) := dk_3 (dk_at dksX3_write_6 2 rfl rfl)
theorem dX3_write_142 : decode cX3_write 142 = .ok (.iconst 0, 1) := dk_3 (dk_at dksX3_write_6 3 rfl rfl)
theorem dX3_write_143 : decode cX3_write 143 = .ok (.invokevirtual 286, 3) := dk_182 1 30 (dk_at dksX3_write_6 4 rfl rfl)
theorem dX3_write_146 : decode cX3_write 146 = .ok (.aload_n 0, 1) := dk_42 (dk_at dksX3_write_6 7 rfl rfl)
theorem dX3_write_147 : decode cX3_write 147 = .ok (.aload_n 0, 1) := dk_42 (dk_at dksX3_write_6 8 rfl rfl)
theorem dX3_write_148 : decode cX3_write 148 = .ok (.getfield 34, 3) := dk_180 0 34 (dk_at dksX3_write_6 9 rfl rfl)
theorem dX3_write_151 : decode cX3_write 151 = .ok (.iload_n 1, 1) := dk_27 (dk_at dksX3_write_6 12 rfl rfl)
theorem dX3_write_152 : decode cX3_write 152 = .ok (.iaload, 1) := dk_46 (dk_at dksX3_write_6 13 rfl rfl)
theorem dX3_write_153 : decode cX3_write 153 = .ok (.invokevirtual 290, 3) := dk_182 1 34 (dk_at dksX3_write_6 14 rfl rfl)
theorem dX3_write_156 : decode cX3_write 156 = .ok (.aload_n 0, 1) := dk_42 (dk_at dksX3_write_6 17 rfl rfl)
theorem dX3_write_157 : decode cX3_write 157 = .ok (.getfield 93, 3) := dk_180 0 93 (dk_at dksX3_write_6 18 rfl rfl)
theorem dX3_write_160 : decode cX3_write 160 = .ok (.ireturn, 1) := dk_172 (dk_at dksX3_write_6 21 rfl rfl)
abbrev cX3_putKind : ByteArray := prog_20_method_68_code
def yX3_putKind : MethodName := ⟨RX3, "putKind", "(I)V"⟩
def dkwX3_putKind_4 : List UInt8 := [16, 100, 182, 1, 30, 167, 0, 17, 42, 16, 110, 16, 117, 16, 108, 16, 108, 3, 3, 182, 1, 30, 177]
abbrev dktX3_putKind_4 : List UInt8 := dkwX3_putKind_4 ++ []
def dkwX3_putKind_3 : List UInt8 := [16, 111, 16, 107, 16, 101, 182, 1, 30, 167, 0, 36, 42, 16, 110, 16, 101, 16, 115, 16, 116, 16, 101]
abbrev dktX3_putKind_3 : List UInt8 := dkwX3_putKind_3 ++ dktX3_putKind_4
def dkwX3_putKind_2 : List UInt8 := [42, 16, 114, 16, 101, 16, 99, 16, 116, 3, 3, 182, 1, 30, 167, 0, 55, 42, 16, 115, 16, 116, 16, 114]
abbrev dktX3_putKind_2 : List UInt8 := dkwX3_putKind_2 ++ dktX3_putKind_3
def dkwX3_putKind_1 : List UInt8 := [170, 0, 0, 0, 0, 81, 0, 0, 0, 0, 0, 0, 0, 2, 0, 0, 0, 26, 0, 0, 0, 43, 0, 0, 0, 62]
abbrev dktX3_putKind_1 : List UInt8 := dkwX3_putKind_1 ++ dktX3_putKind_2
def dkwX3_putKind_0 : List UInt8 := [42, 180, 0, 16, 27, 46]
abbrev dktX3_putKind_0 : List UInt8 := dkwX3_putKind_0 ++ dktX3_putKind_1
theorem dksX3_putKind_0 : cX3_putKind.data.toList.drop 0 = dktX3_putKind_0 := by decide +kernel
theorem dksX3_putKind_1 : cX3_putKind.data.toList.drop 6 = dktX3_putKind_1 := dk_seg dksX3_putKind_0 6 rfl rfl
theorem dksX3_putKind_2 : cX3_putKind.data.toList.drop 32 = dktX3_putKind_2 := dk_seg dksX3_putKind_1 26 rfl rfl
theorem dksX3_putKind_3 : cX3_putKind.data.toList.drop 56 = dktX3_putKind_3 := dk_seg dksX3_putKind_2 24 rfl rfl
theorem dksX3_putKind_4 : cX3_putKind.data.toList.drop 79 = dktX3_putKind_4 := dk_seg dksX3_putKind_3 23 rfl rfl
theorem dX3_putKind_0 : decode cX3_putKind 0 = .ok (.aload_n 0, 1) := dk_42 (dk_at dksX3_putKind_0 0 rfl rfl)
theorem dX3_putKind_1 : decode cX3_putKind 1 = .ok (.getfield 16, 3) := dk_180 0 16 (dk_at dksX3_putKind_0 1 rfl rfl)
theorem dX3_putKind_4 : decode cX3_putKind 4 = .ok (.iload_n 1, 1) := dk_27 (dk_at dksX3_putKind_0 4 rfl rfl)
theorem dX3_putKind_5 : decode cX3_putKind 5 = .ok (.iaload, 1) := dk_46 (dk_at dksX3_putKind_0 5 rfl rfl)
theorem dX3_putKind_6 : decode cX3_putKind 6 = .ok (.tableswitch 81 0 2 #[26, 43, 62], 26) := by decide +kernel
theorem dX3_putKind_32 : decode cX3_putKind 32 = .ok (.aload_n 0, 1) := dk_42 (dk_at dksX3_putKind_2 0 rfl rfl)
theorem dX3_putKind_33 : decode cX3_putKind 33 = .ok (.bipush 114, 2) := dk_16 114 (dk_at dksX3_putKind_2 1 rfl rfl)
theorem dX3_putKind_35 : decode cX3_putKind 35 = .ok (.bipush 101, 2) := dk_16 101 (dk_at dksX3_putKind_2 3 rfl rfl)
theorem dX3_putKind_37 : decode cX3_putKind 37 = .ok (.bipush 99, 2) := dk_16 99 (dk_at dksX3_putKind_2 5 rfl rfl)
theorem dX3_putKind_39 : decode cX3_putKind 39 = .ok (.bipush 116, 2) := dk_16 116 (dk_at dksX3_putKind_2 7 rfl rfl)
theorem dX3_putKind_41 : decode cX3_putKind 41 = .ok (.iconst 0, 1) := dk_3 (dk_at dksX3_putKind_2 9 rfl rfl)
theorem dX3_putKind_42 : decode cX3_putKind 42 = .ok (.iconst 0, 1) := dk_3 (dk_at dksX3_putKind_2 10 rfl rfl)
theorem dX3_putKind_43 : decode cX3_putKind 43 = .ok (.invokevirtual 286, 3) := dk_182 1 30 (dk_at dksX3_putKind_2 11 rfl rfl)
theorem dX3_putKind_46 : decode cX3_putKind 46 = .ok (.goto 55, 3) := dk_167 0 55 (dk_at dksX3_putKind_2 14 rfl rfl)
theorem dX3_putKind_49 : decode cX3_putKind 49 = .ok (.aload_n 0, 1) := dk_42 (dk_at dksX3_putKind_2 17 rfl rfl)
theorem dX3_putKind_50 : decode cX3_putKind 50 = .ok (.bipush 115, 2) := dk_16 115 (dk_at dksX3_putKind_2 18 rfl rfl)
theorem dX3_putKind_52 : decode cX3_putKind 52 = .ok (.bipush 116, 2) := dk_16 116 (dk_at dksX3_putKind_2 20 rfl rfl)
theorem dX3_putKind_54 : decode cX3_putKind 54 = .ok (.bipush 114, 2) := dk_16 114 (dk_at dksX3_putKind_2 22 rfl rfl)
theorem dX3_putKind_56 : decode cX3_putKind 56 = .ok (.bipush 111, 2) := dk_16 111 (dk_at dksX3_putKind_3 0 rfl rfl)
theorem dX3_putKind_58 : decode cX3_putKind 58 = .ok (.bipush 107, 2) := dk_16 107 (dk_at dksX3_putKind_3 2 rfl rfl)
theorem dX3_putKind_60 : decode cX3_putKind 60 = .ok (.bipush 101, 2) := dk_16 101 (dk_at dksX3_putKind_3 4 rfl rfl)
theorem dX3_putKind_62 : decode cX3_putKind 62 = .ok (.invokevirtual 286, 3) := dk_182 1 30 (dk_at dksX3_putKind_3 6 rfl rfl)
theorem dX3_putKind_65 : decode cX3_putKind 65 = .ok (.goto 36, 3) := dk_167 0 36 (dk_at dksX3_putKind_3 9 rfl rfl)
theorem dX3_putKind_68 : decode cX3_putKind 68 = .ok (.aload_n 0, 1) := dk_42 (dk_at dksX3_putKind_3 12 rfl rfl)
theorem dX3_putKind_69 : decode cX3_putKind 69 = .ok (.bipush 110, 2) := dk_16 110 (dk_at dksX3_putKind_3 13 rfl rfl)
theorem dX3_putKind_71 : decode cX3_putKind 71 = .ok (.bipush 101, 2) := dk_16 101 (dk_at dksX3_putKind_3 15 rfl rfl)
theorem dX3_putKind_73 : decode cX3_putKind 73 = .ok (.bipush 115, 2) := dk_16 115 (dk_at dksX3_putKind_3 17 rfl rfl)
theorem dX3_putKind_75 : decode cX3_putKind 75 = .ok (.bipush 116, 2) := dk_16 116 (dk_at dksX3_putKind_3 19 rfl rfl)
theorem dX3_putKind_77 : decode cX3_putKind 77 = .ok (.bipush 101, 2) := dk_16 101 (dk_at dksX3_putKind_3 21 rfl rfl)
theorem dX3_putKind_79 : decode cX3_putKind 79 = .ok (.bipush 100, 2) := dk_16 100 (dk_at dksX3_putKind_4 0 rfl rfl)
theorem dX3_putKind_81 : decode cX3_putKind 81 = .ok (.invokevirtual 286, 3) := dk_182 1 30 (dk_at dksX3_putKind_4 2 rfl rfl)
theorem dX3_putKind_84 : decode cX3_putKind 84 = .ok (.goto 17, 3) := dk_167 0 17 (dk_at dksX3_putKind_4 5 rfl rfl)
theorem dX3_putKind_87 : decode cX3_putKind 87 = .ok (.aload_n 0, 1) := dk_42 (dk_at dksX3_putKind_4 8 rfl rfl)
theorem dX3_putKind_88 : decode cX3_putKind 88 = .ok (.bipush 110, 2) := dk_16 110 (dk_at dksX3_putKind_4 9 rfl rfl)
theorem dX3_putKind_90 : decode cX3_putKind 90 = .ok (.bipush 117, 2) := dk_16 117 (dk_at dksX3_putKind_4 11 rfl rfl)
theorem dX3_putKind_92 : decode cX3_putKind 92 = .ok (.bipush 108, 2) := dk_16 108 (dk_at dksX3_putKind_4 13 rfl rfl)
theorem dX3_putKind_94 : decode cX3_putKind 94 = .ok (.bipush 108, 2) := dk_16 108 (dk_at dksX3_putKind_4 15 rfl rfl)
theorem dX3_putKind_96 : decode cX3_putKind 96 = .ok (.iconst 0, 1) := dk_3 (dk_at dksX3_putKind_4 17 rfl rfl)
theorem dX3_putKind_97 : decode cX3_putKind 97 = .ok (.iconst 0, 1) := dk_3 (dk_at dksX3_putKind_4 18 rfl rfl)
theorem dX3_putKind_98 : decode cX3_putKind 98 = .ok (.invokevirtual 286, 3) := dk_182 1 30 (dk_at dksX3_putKind_4 19 rfl rfl)
theorem dX3_putKind_101 : decode cX3_putKind 101 = .ok (.return_, 1) := dk_177 (dk_at dksX3_putKind_4 22 rfl rfl)
abbrev cX3_putWord : ByteArray := prog_20_method_66_code
def yX3_putWord : MethodName := ⟨RX3, "putWord", "(IIIIII)V"⟩
def dkwX3_putWord_2 : List UInt8 := [46, 153, 0, 18, 42, 25, 7, 21, 8, 46, 182, 1, 27, 132, 8, 1, 167, 255, 229, 177]
abbrev dktX3_putWord_2 : List UInt8 := dkwX3_putWord_2 ++ []
def dkwX3_putWord_1 : List UInt8 := [21, 5, 79, 89, 8, 21, 6, 79, 58, 7, 3, 54, 8, 21, 8, 16, 6, 162, 0, 26, 25, 7, 21, 8]
abbrev dktX3_putWord_1 : List UInt8 := dkwX3_putWord_1 ++ dktX3_putWord_2
def dkwX3_putWord_0 : List UInt8 := [16, 6, 188, 10, 89, 3, 27, 79, 89, 4, 28, 79, 89, 5, 29, 79, 89, 6, 21, 4, 79, 89, 7]
abbrev dktX3_putWord_0 : List UInt8 := dkwX3_putWord_0 ++ dktX3_putWord_1
theorem dksX3_putWord_0 : cX3_putWord.data.toList.drop 0 = dktX3_putWord_0 := by decide +kernel
theorem dksX3_putWord_1 : cX3_putWord.data.toList.drop 23 = dktX3_putWord_1 := dk_seg dksX3_putWord_0 23 rfl rfl
theorem dksX3_putWord_2 : cX3_putWord.data.toList.drop 47 = dktX3_putWord_2 := dk_seg dksX3_putWord_1 24 rfl rfl
theorem dX3_putWord_0 : decode cX3_putWord 0 = .ok (.bipush 6, 2) := dk_16 6 (dk_at dksX3_putWord_0 0 rfl rfl)
theorem dX3_putWord_2 : decode cX3_putWord 2 = .ok (.newarray .int, 2) := dk_188_10 (dk_at dksX3_putWord_0 2 rfl rfl)
theorem dX3_putWord_4 : decode cX3_putWord 4 = .ok (.dup, 1) := dk_89 (dk_at dksX3_putWord_0 4 rfl rfl)
theorem dX3_putWord_5 : decode cX3_putWord 5 = .ok (.iconst 0, 1) := dk_3 (dk_at dksX3_putWord_0 5 rfl rfl)
theorem dX3_putWord_6 : decode cX3_putWord 6 = .ok (.iload_n 1, 1) := dk_27 (dk_at dksX3_putWord_0 6 rfl rfl)
theorem dX3_putWord_7 : decode cX3_putWord 7 = .ok (.iastore, 1) := dk_79 (dk_at dksX3_putWord_0 7 rfl rfl)
theorem dX3_putWord_8 : decode cX3_putWord 8 = .ok (.dup, 1) := dk_89 (dk_at dksX3_putWord_0 8 rfl rfl)
theorem dX3_putWord_9 : decode cX3_putWord 9 = .ok (.iconst 1, 1) := dk_4 (dk_at dksX3_putWord_0 9 rfl rfl)
theorem dX3_putWord_10 : decode cX3_putWord 10 = .ok (.iload_n 2, 1) := dk_28 (dk_at dksX3_putWord_0 10 rfl rfl)
theorem dX3_putWord_11 : decode cX3_putWord 11 = .ok (.iastore, 1) := dk_79 (dk_at dksX3_putWord_0 11 rfl rfl)
theorem dX3_putWord_12 : decode cX3_putWord 12 = .ok (.dup, 1) := dk_89 (dk_at dksX3_putWord_0 12 rfl rfl)
theorem dX3_putWord_13 : decode cX3_putWord 13 = .ok (.iconst 2, 1) := dk_5 (dk_at dksX3_putWord_0 13 rfl rfl)
theorem dX3_putWord_14 : decode cX3_putWord 14 = .ok (.iload_n 3, 1) := dk_29 (dk_at dksX3_putWord_0 14 rfl rfl)
theorem dX3_putWord_15 : decode cX3_putWord 15 = .ok (.iastore, 1) := dk_79 (dk_at dksX3_putWord_0 15 rfl rfl)
theorem dX3_putWord_16 : decode cX3_putWord 16 = .ok (.dup, 1) := dk_89 (dk_at dksX3_putWord_0 16 rfl rfl)
theorem dX3_putWord_17 : decode cX3_putWord 17 = .ok (.iconst 3, 1) := dk_6 (dk_at dksX3_putWord_0 17 rfl rfl)
theorem dX3_putWord_18 : decode cX3_putWord 18 = .ok (.iload 4, 2) := dk_21 4 (dk_at dksX3_putWord_0 18 rfl rfl)
theorem dX3_putWord_20 : decode cX3_putWord 20 = .ok (.iastore, 1) := dk_79 (dk_at dksX3_putWord_0 20 rfl rfl)
theorem dX3_putWord_21 : decode cX3_putWord 21 = .ok (.dup, 1) := dk_89 (dk_at dksX3_putWord_0 21 rfl rfl)
theorem dX3_putWord_22 : decode cX3_putWord 22 = .ok (.iconst 4, 1) := dk_7 (dk_at dksX3_putWord_0 22 rfl rfl)
theorem dX3_putWord_23 : decode cX3_putWord 23 = .ok (.iload 5, 2) := dk_21 5 (dk_at dksX3_putWord_1 0 rfl rfl)
theorem dX3_putWord_25 : decode cX3_putWord 25 = .ok (.iastore, 1) := dk_79 (dk_at dksX3_putWord_1 2 rfl rfl)
theorem dX3_putWord_26 : decode cX3_putWord 26 = .ok (.dup, 1) := dk_89 (dk_at dksX3_putWord_1 3 rfl rfl)
theorem dX3_putWord_27 : decode cX3_putWord 27 = .ok (.iconst 5, 1) := dk_8 (dk_at dksX3_putWord_1 4 rfl rfl)
theorem dX3_putWord_28 : decode cX3_putWord 28 = .ok (.iload 6, 2) := dk_21 6 (dk_at dksX3_putWord_1 5 rfl rfl)
theorem dX3_putWord_30 : decode cX3_putWord 30 = .ok (.iastore, 1) := dk_79 (dk_at dksX3_putWord_1 7 rfl rfl)
theorem dX3_putWord_31 : decode cX3_putWord 31 = .ok (.astore 7, 2) := dk_58 7 (dk_at dksX3_putWord_1 8 rfl rfl)
theorem dX3_putWord_33 : decode cX3_putWord 33 = .ok (.iconst 0, 1) := dk_3 (dk_at dksX3_putWord_1 10 rfl rfl)
theorem dX3_putWord_34 : decode cX3_putWord 34 = .ok (.istore 8, 2) := dk_54 8 (dk_at dksX3_putWord_1 11 rfl rfl)
theorem dX3_putWord_36 : decode cX3_putWord 36 = .ok (.iload 8, 2) := dk_21 8 (dk_at dksX3_putWord_1 13 rfl rfl)
theorem dX3_putWord_38 : decode cX3_putWord 38 = .ok (.bipush 6, 2) := dk_16 6 (dk_at dksX3_putWord_1 15 rfl rfl)
theorem dX3_putWord_40 : decode cX3_putWord 40 = .ok (.if_icmp .ge 26, 3) := dk_162 0 26 (dk_at dksX3_putWord_1 17 rfl rfl)
theorem dX3_putWord_43 : decode cX3_putWord 43 = .ok (.aload 7, 2) := dk_25 7 (dk_at dksX3_putWord_1 20 rfl rfl)
theorem dX3_putWord_45 : decode cX3_putWord 45 = .ok (.iload 8, 2) := dk_21 8 (dk_at dksX3_putWord_1 22 rfl rfl)
theorem dX3_putWord_47 : decode cX3_putWord 47 = .ok (.iaload, 1) := dk_46 (dk_at dksX3_putWord_2 0 rfl rfl)
theorem dX3_putWord_48 : decode cX3_putWord 48 = .ok (.ifCond .eq 18, 3) := dk_153 0 18 (dk_at dksX3_putWord_2 1 rfl rfl)
theorem dX3_putWord_51 : decode cX3_putWord 51 = .ok (.aload_n 0, 1) := dk_42 (dk_at dksX3_putWord_2 4 rfl rfl)
theorem dX3_putWord_52 : decode cX3_putWord 52 = .ok (.aload 7, 2) := dk_25 7 (dk_at dksX3_putWord_2 5 rfl rfl)
theorem dX3_putWord_54 : decode cX3_putWord 54 = .ok (.iload 8, 2) := dk_21 8 (dk_at dksX3_putWord_2 7 rfl rfl)
theorem dX3_putWord_56 : decode cX3_putWord 56 = .ok (.iaload, 1) := dk_46 (dk_at dksX3_putWord_2 9 rfl rfl)
theorem dX3_putWord_57 : decode cX3_putWord 57 = .ok (.invokevirtual 283, 3) := dk_182 1 27 (dk_at dksX3_putWord_2 10 rfl rfl)
theorem dX3_putWord_60 : decode cX3_putWord 60 = .ok (.iinc 8 1, 3) := dk_132 8 1 (dk_at dksX3_putWord_2 13 rfl rfl)
theorem dX3_putWord_63 : decode cX3_putWord 63 = .ok (.goto (-27), 3) := dk_167 255 229 (dk_at dksX3_putWord_2 16 rfl rfl)
theorem dX3_putWord_66 : decode cX3_putWord 66 = .ok (.return_, 1) := dk_177 (dk_at dksX3_putWord_2 19 rfl rfl)
abbrev cX3_putNumber : ByteArray := prog_20_method_65_code
def yX3_putNumber : MethodName := ⟨RX3, "putNumber", "(I)V"⟩
def dkwX3_putNumber_2 : List UInt8 := [177]
abbrev dktX3_putNumber_2 : List UInt8 := dkwX3_putNumber_2 ++ []
def dkwX3_putNumber_1 : List UInt8 := [16, 48, 27, 16, 10, 108, 16, 10, 112, 96, 182, 1, 27, 42, 16, 48, 27, 16, 10, 112, 96, 182, 1, 27]
abbrev dktX3_putNumber_1 : List UInt8 := dkwX3_putNumber_1 ++ dktX3_putNumber_2
def dkwX3_putNumber_0 : List UInt8 := [27, 16, 99, 164, 0, 14, 42, 16, 48, 27, 16, 100, 108, 96, 182, 1, 27, 27, 16, 9, 164, 0, 17, 42]
abbrev dktX3_putNumber_0 : List UInt8 := dkwX3_putNumber_0 ++ dktX3_putNumber_1
theorem dksX3_putNumber_0 : cX3_putNumber.data.toList.drop 0 = dktX3_putNumber_0 := by decide +kernel
theorem dksX3_putNumber_1 : cX3_putNumber.data.toList.drop 24 = dktX3_putNumber_1 := dk_seg dksX3_putNumber_0 24 rfl rfl
theorem dksX3_putNumber_2 : cX3_putNumber.data.toList.drop 48 = dktX3_putNumber_2 := dk_seg dksX3_putNumber_1 24 rfl rfl
theorem dX3_putNumber_0 : decode cX3_putNumber 0 = .ok (.iload_n 1, 1) := dk_27 (dk_at dksX3_putNumber_0 0 rfl rfl)
theorem dX3_putNumber_1 : decode cX3_putNumber 1 = .ok (.bipush 99, 2) := dk_16 99 (dk_at dksX3_putNumber_0 1 rfl rfl)
theorem dX3_putNumber_3 : decode cX3_putNumber 3 = .ok (.if_icmp .le 14, 3) := dk_164 0 14 (dk_at dksX3_putNumber_0 3 rfl rfl)
theorem dX3_putNumber_6 : decode cX3_putNumber 6 = .ok (.aload_n 0, 1) := dk_42 (dk_at dksX3_putNumber_0 6 rfl rfl)
theorem dX3_putNumber_7 : decode cX3_putNumber 7 = .ok (.bipush 48, 2) := dk_16 48 (dk_at dksX3_putNumber_0 7 rfl rfl)
theorem dX3_putNumber_9 : decode cX3_putNumber 9 = .ok (.iload_n 1, 1) := dk_27 (dk_at dksX3_putNumber_0 9 rfl rfl)
theorem dX3_putNumber_10 : decode cX3_putNumber 10 = .ok (.bipush 100, 2) := dk_16 100 (dk_at dksX3_putNumber_0 10 rfl rfl)
theorem dX3_putNumber_12 : decode cX3_putNumber 12 = .ok (.idiv, 1) := dk_108 (dk_at dksX3_putNumber_0 12 rfl rfl)
theorem dX3_putNumber_13 : decode cX3_putNumber 13 = .ok (.iadd, 1) := dk_96 (dk_at dksX3_putNumber_0 13 rfl rfl)
theorem dX3_putNumber_14 : decode cX3_putNumber 14 = .ok (.invokevirtual 283, 3) := dk_182 1 27 (dk_at dksX3_putNumber_0 14 rfl rfl)
theorem dX3_putNumber_17 : decode cX3_putNumber 17 = .ok (.iload_n 1, 1) := dk_27 (dk_at dksX3_putNumber_0 17 rfl rfl)
theorem dX3_putNumber_18 : decode cX3_putNumber 18 = .ok (.bipush 9, 2) := dk_16 9 (dk_at dksX3_putNumber_0 18 rfl rfl)
theorem dX3_putNumber_20 : decode cX3_putNumber 20 = .ok (.if_icmp .le 17, 3) := dk_164 0 17 (dk_at dksX3_putNumber_0 20 rfl rfl)
theorem dX3_putNumber_23 : decode cX3_putNumber 23 = .ok (.aload_n 0, 1) := dk_42 (dk_at dksX3_putNumber_0 23 rfl rfl)
theorem dX3_putNumber_24 : decode cX3_putNumber 24 = .ok (.bipush 48, 2) := dk_16 48 (dk_at dksX3_putNumber_1 0 rfl rfl)
theorem dX3_putNumber_26 : decode cX3_putNumber 26 = .ok (.iload_n 1, 1) := dk_27 (dk_at dksX3_putNumber_1 2 rfl rfl)
theorem dX3_putNumber_27 : decode cX3_putNumber 27 = .ok (.bipush 10, 2) := dk_16 10 (dk_at dksX3_putNumber_1 3 rfl rfl)
theorem dX3_putNumber_29 : decode cX3_putNumber 29 = .ok (.idiv, 1) := dk_108 (dk_at dksX3_putNumber_1 5 rfl rfl)
theorem dX3_putNumber_30 : decode cX3_putNumber 30 = .ok (.bipush 10, 2) := dk_16 10 (dk_at dksX3_putNumber_1 6 rfl rfl)
theorem dX3_putNumber_32 : decode cX3_putNumber 32 = .ok (.irem, 1) := dk_112 (dk_at dksX3_putNumber_1 8 rfl rfl)
theorem dX3_putNumber_33 : decode cX3_putNumber 33 = .ok (.iadd, 1) := dk_96 (dk_at dksX3_putNumber_1 9 rfl rfl)
theorem dX3_putNumber_34 : decode cX3_putNumber 34 = .ok (.invokevirtual 283, 3) := dk_182 1 27 (dk_at dksX3_putNumber_1 10 rfl rfl)
theorem dX3_putNumber_37 : decode cX3_putNumber 37 = .ok (.aload_n 0, 1) := dk_42 (dk_at dksX3_putNumber_1 13 rfl rfl)
theorem dX3_putNumber_38 : decode cX3_putNumber 38 = .ok (.bipush 48, 2) := dk_16 48 (dk_at dksX3_putNumber_1 14 rfl rfl)
theorem dX3_putNumber_40 : decode cX3_putNumber 40 = .ok (.iload_n 1, 1) := dk_27 (dk_at dksX3_putNumber_1 16 rfl rfl)
theorem dX3_putNumber_41 : decode cX3_putNumber 41 = .ok (.bipush 10, 2) := dk_16 10 (dk_at dksX3_putNumber_1 17 rfl rfl)
theorem dX3_putNumber_43 : decode cX3_putNumber 43 = .ok (.irem, 1) := dk_112 (dk_at dksX3_putNumber_1 19 rfl rfl)
theorem dX3_putNumber_44 : decode cX3_putNumber 44 = .ok (.iadd, 1) := dk_96 (dk_at dksX3_putNumber_1 20 rfl rfl)
theorem dX3_putNumber_45 : decode cX3_putNumber 45 = .ok (.invokevirtual 283, 3) := dk_182 1 27 (dk_at dksX3_putNumber_1 21 rfl rfl)
theorem dX3_putNumber_48 : decode cX3_putNumber 48 = .ok (.return_, 1) := dk_177 (dk_at dksX3_putNumber_2 0 rfl rfl)
abbrev cX3_putSizes : ByteArray := prog_20_method_69_code
def yX3_putSizes : MethodName := ⟨RX3, "putSizes", "(I)V"⟩
def dkwX3_putSizes_3 : List UInt8 := [177]
abbrev dktX3_putSizes_3 : List UInt8 := dkwX3_putSizes_3 ++ []
def dkwX3_putSizes_2 : List UInt8 := [180, 0, 16, 27, 46, 154, 0, 19, 42, 16, 120, 182, 1, 27, 42, 42, 180, 0, 25, 27, 46, 182, 1, 34]
abbrev dktX3_putSizes_2 : List UInt8 := dkwX3_putSizes_2 ++ dktX3_putSizes_3
def dkwX3_putSizes_1 : List UInt8 := [4, 160, 0, 12, 42, 180, 0, 56, 27, 46, 167, 0, 9, 42, 180, 0, 22, 27, 46, 182, 1, 34, 42]
abbrev dktX3_putSizes_1 : List UInt8 := dkwX3_putSizes_1 ++ dktX3_putSizes_2
def dkwX3_putSizes_0 : List UInt8 := [42, 180, 0, 16, 27, 46, 6, 160, 0, 4, 177, 42, 16, 32, 182, 1, 27, 42, 42, 180, 0, 16, 27, 46]
abbrev dktX3_putSizes_0 : List UInt8 := dkwX3_putSizes_0 ++ dktX3_putSizes_1
theorem dksX3_putSizes_0 : cX3_putSizes.data.toList.drop 0 = dktX3_putSizes_0 := by decide +kernel
theorem dksX3_putSizes_1 : cX3_putSizes.data.toList.drop 24 = dktX3_putSizes_1 := dk_seg dksX3_putSizes_0 24 rfl rfl
theorem dksX3_putSizes_2 : cX3_putSizes.data.toList.drop 47 = dktX3_putSizes_2 := dk_seg dksX3_putSizes_1 23 rfl rfl
theorem dksX3_putSizes_3 : cX3_putSizes.data.toList.drop 71 = dktX3_putSizes_3 := dk_seg dksX3_putSizes_2 24 rfl rfl
theorem dX3_putSizes_0 : decode cX3_putSizes 0 = .ok (.aload_n 0, 1) := dk_42 (dk_at dksX3_putSizes_0 0 rfl rfl)
theorem dX3_putSizes_1 : decode cX3_putSizes 1 = .ok (.getfield 16, 3) := dk_180 0 16 (dk_at dksX3_putSizes_0 1 rfl rfl)
theorem dX3_putSizes_4 : decode cX3_putSizes 4 = .ok (.iload_n 1, 1) := dk_27 (dk_at dksX3_putSizes_0 4 rfl rfl)
theorem dX3_putSizes_5 : decode cX3_putSizes 5 = .ok (.iaload, 1) := dk_46 (dk_at dksX3_putSizes_0 5 rfl rfl)
theorem dX3_putSizes_6 : decode cX3_putSizes 6 = .ok (.iconst 3, 1) := dk_6 (dk_at dksX3_putSizes_0 6 rfl rfl)
theorem dX3_putSizes_7 : decode cX3_putSizes 7 = .ok (.if_icmp .ne 4, 3) := dk_160 0 4 (dk_at dksX3_putSizes_0 7 rfl rfl)
theorem dX3_putSizes_10 : decode cX3_putSizes 10 = .ok (.return_, 1) := dk_177 (dk_at dksX3_putSizes_0 10 rfl rfl)
theorem dX3_putSizes_11 : decode cX3_putSizes 11 = .ok (.aload_n 0, 1) := dk_42 (dk_at dksX3_putSizes_0 11 rfl rfl)
theorem dX3_putSizes_12 : decode cX3_putSizes 12 = .ok (.bipush 32, 2) := dk_16 32 (dk_at dksX3_putSizes_0 12 rfl rfl)
theorem dX3_putSizes_14 : decode cX3_putSizes 14 = .ok (.invokevirtual 283, 3) := dk_182 1 27 (dk_at dksX3_putSizes_0 14 rfl rfl)
theorem dX3_putSizes_17 : decode cX3_putSizes 17 = .ok (.aload_n 0, 1) := dk_42 (dk_at dksX3_putSizes_0 17 rfl rfl)
theorem dX3_putSizes_18 : decode cX3_putSizes 18 = .ok (.aload_n 0, 1) := dk_42 (dk_at dksX3_putSizes_0 18 rfl rfl)
theorem dX3_putSizes_19 : decode cX3_putSizes 19 = .ok (.getfield 16, 3) := dk_180 0 16 (dk_at dksX3_putSizes_0 19 rfl rfl)
theorem dX3_putSizes_22 : decode cX3_putSizes 22 = .ok (.iload_n 1, 1) := dk_27 (dk_at dksX3_putSizes_0 22 rfl rfl)
theorem dX3_putSizes_23 : decode cX3_putSizes 23 = .ok (.iaload, 1) := dk_46 (dk_at dksX3_putSizes_0 23 rfl rfl)
theorem dX3_putSizes_24 : decode cX3_putSizes 24 = .ok (.iconst 1, 1) := dk_4 (dk_at dksX3_putSizes_1 0 rfl rfl)
theorem dX3_putSizes_25 : decode cX3_putSizes 25 = .ok (.if_icmp .ne 12, 3) := dk_160 0 12 (dk_at dksX3_putSizes_1 1 rfl rfl)
theorem dX3_putSizes_28 : decode cX3_putSizes 28 = .ok (.aload_n 0, 1) := dk_42 (dk_at dksX3_putSizes_1 4 rfl rfl)
theorem dX3_putSizes_29 : decode cX3_putSizes 29 = .ok (.getfield 56, 3) := dk_180 0 56 (dk_at dksX3_putSizes_1 5 rfl rfl)
theorem dX3_putSizes_32 : decode cX3_putSizes 32 = .ok (.iload_n 1, 1) := dk_27 (dk_at dksX3_putSizes_1 8 rfl rfl)
theorem dX3_putSizes_33 : decode cX3_putSizes 33 = .ok (.iaload, 1) := dk_46 (dk_at dksX3_putSizes_1 9 rfl rfl)
theorem dX3_putSizes_34 : decode cX3_putSizes 34 = .ok (.goto 9, 3) := dk_167 0 9 (dk_at dksX3_putSizes_1 10 rfl rfl)
theorem dX3_putSizes_37 : decode cX3_putSizes 37 = .ok (.aload_n 0, 1) := dk_42 (dk_at dksX3_putSizes_1 13 rfl rfl)
theorem dX3_putSizes_38 : decode cX3_putSizes 38 = .ok (.getfield 22, 3) := dk_180 0 22 (dk_at dksX3_putSizes_1 14 rfl rfl)
theorem dX3_putSizes_41 : decode cX3_putSizes 41 = .ok (.iload_n 1, 1) := dk_27 (dk_at dksX3_putSizes_1 17 rfl rfl)
theorem dX3_putSizes_42 : decode cX3_putSizes 42 = .ok (.iaload, 1) := dk_46 (dk_at dksX3_putSizes_1 18 rfl rfl)
theorem dX3_putSizes_43 : decode cX3_putSizes 43 = .ok (.invokevirtual 290, 3) := dk_182 1 34 (dk_at dksX3_putSizes_1 19 rfl rfl)
theorem dX3_putSizes_46 : decode cX3_putSizes 46 = .ok (.aload_n 0, 1) := dk_42 (dk_at dksX3_putSizes_1 22 rfl rfl)
theorem dX3_putSizes_47 : decode cX3_putSizes 47 = .ok (.getfield 16, 3) := dk_180 0 16 (dk_at dksX3_putSizes_2 0 rfl rfl)
theorem dX3_putSizes_50 : decode cX3_putSizes 50 = .ok (.iload_n 1, 1) := dk_27 (dk_at dksX3_putSizes_2 3 rfl rfl)
theorem dX3_putSizes_51 : decode cX3_putSizes 51 = .ok (.iaload, 1) := dk_46 (dk_at dksX3_putSizes_2 4 rfl rfl)
theorem dX3_putSizes_52 : decode cX3_putSizes 52 = .ok (.ifCond .ne 19, 3) := dk_154 0 19 (dk_at dksX3_putSizes_2 5 rfl rfl)
theorem dX3_putSizes_55 : decode cX3_putSizes 55 = .ok (.aload_n 0, 1) := dk_42 (dk_at dksX3_putSizes_2 8 rfl rfl)
theorem dX3_putSizes_56 : decode cX3_putSizes 56 = .ok (.bipush 120, 2) := dk_16 120 (dk_at dksX3_putSizes_2 9 rfl rfl)
theorem dX3_putSizes_58 : decode cX3_putSizes 58 = .ok (.invokevirtual 283, 3) := dk_182 1 27 (dk_at dksX3_putSizes_2 11 rfl rfl)
theorem dX3_putSizes_61 : decode cX3_putSizes 61 = .ok (.aload_n 0, 1) := dk_42 (dk_at dksX3_putSizes_2 14 rfl rfl)
theorem dX3_putSizes_62 : decode cX3_putSizes 62 = .ok (.aload_n 0, 1) := dk_42 (dk_at dksX3_putSizes_2 15 rfl rfl)
theorem dX3_putSizes_63 : decode cX3_putSizes 63 = .ok (.getfield 25, 3) := dk_180 0 25 (dk_at dksX3_putSizes_2 16 rfl rfl)
theorem dX3_putSizes_66 : decode cX3_putSizes 66 = .ok (.iload_n 1, 1) := dk_27 (dk_at dksX3_putSizes_2 19 rfl rfl)
theorem dX3_putSizes_67 : decode cX3_putSizes 67 = .ok (.iaload, 1) := dk_46 (dk_at dksX3_putSizes_2 20 rfl rfl)
theorem dX3_putSizes_68 : decode cX3_putSizes 68 = .ok (.invokevirtual 290, 3) := dk_182 1 34 (dk_at dksX3_putSizes_2 21 rfl rfl)
theorem dX3_putSizes_71 : decode cX3_putSizes 71 = .ok (.return_, 1) := dk_177 (dk_at dksX3_putSizes_3 0 rfl rfl)
abbrev cX3_outputByte : ByteArray := prog_20_method_71_code
def yX3_outputByte : MethodName := ⟨RX3, "outputByte", "(I)I"⟩
def dkwX3_outputByte_1 : List UInt8 := [46, 167, 0, 4, 2, 172]
abbrev dktX3_outputByte_1 : List UInt8 := dkwX3_outputByte_1 ++ []
def dkwX3_outputByte_0 : List UInt8 := [42, 3, 181, 0, 83, 27, 3, 42, 180, 0, 93, 4, 100, 184, 0, 96, 153, 0, 12, 42, 180, 0, 80, 27]
abbrev dktX3_outputByte_0 : List UInt8 := dkwX3_outputByte_0 ++ dktX3_outputByte_1
theorem dksX3_outputByte_0 : cX3_outputByte.data.toList.drop 0 = dktX3_outputByte_0 := by decide +kernel
theorem dksX3_outputByte_1 : cX3_outputByte.data.toList.drop 24 = dktX3_outputByte_1 := dk_seg dksX3_outputByte_0 24 rfl rfl
theorem dX3_outputByte_0 : decode cX3_outputByte 0 = .ok (.aload_n 0, 1) := dk_42 (dk_at dksX3_outputByte_0 0 rfl rfl)
theorem dX3_outputByte_1 : decode cX3_outputByte 1 = .ok (.iconst 0, 1) := dk_3 (dk_at dksX3_outputByte_0 1 rfl rfl)
theorem dX3_outputByte_2 : decode cX3_outputByte 2 = .ok (.putfield 83, 3) := dk_181 0 83 (dk_at dksX3_outputByte_0 2 rfl rfl)
theorem dX3_outputByte_5 : decode cX3_outputByte 5 = .ok (.iload_n 1, 1) := dk_27 (dk_at dksX3_outputByte_0 5 rfl rfl)
theorem dX3_outputByte_6 : decode cX3_outputByte 6 = .ok (.iconst 0, 1) := dk_3 (dk_at dksX3_outputByte_0 6 rfl rfl)
theorem dX3_outputByte_7 : decode cX3_outputByte 7 = .ok (.aload_n 0, 1) := dk_42 (dk_at dksX3_outputByte_0 7 rfl rfl)
theorem dX3_outputByte_8 : decode cX3_outputByte 8 = .ok (.getfield 93, 3) := dk_180 0 93 (dk_at dksX3_outputByte_0 8 rfl rfl)
theorem dX3_outputByte_11 : decode cX3_outputByte 11 = .ok (.iconst 1, 1) := dk_4 (dk_at dksX3_outputByte_0 11 rfl rfl)
theorem dX3_outputByte_12 : decode cX3_outputByte 12 = .ok (.isub, 1) := dk_100 (dk_at dksX3_outputByte_0 12 rfl rfl)
theorem dX3_outputByte_13 : decode cX3_outputByte 13 = .ok (.invokestatic 96, 3) := dk_184 0 96 (dk_at dksX3_outputByte_0 13 rfl rfl)
theorem dX3_outputByte_16 : decode cX3_outputByte 16 = .ok (.ifCond .eq 12, 3) := dk_153 0 12 (dk_at dksX3_outputByte_0 16 rfl rfl)
theorem dX3_outputByte_19 : decode cX3_outputByte 19 = .ok (.aload_n 0, 1) := dk_42 (dk_at dksX3_outputByte_0 19 rfl rfl)
theorem dX3_outputByte_20 : decode cX3_outputByte 20 = .ok (.getfield 80, 3) := dk_180 0 80 (dk_at dksX3_outputByte_0 20 rfl rfl)
theorem dX3_outputByte_23 : decode cX3_outputByte 23 = .ok (.iload_n 1, 1) := dk_27 (dk_at dksX3_outputByte_0 23 rfl rfl)
theorem dX3_outputByte_24 : decode cX3_outputByte 24 = .ok (.iaload, 1) := dk_46 (dk_at dksX3_outputByte_1 0 rfl rfl)
theorem dX3_outputByte_25 : decode cX3_outputByte 25 = .ok (.goto 4, 3) := dk_167 0 4 (dk_at dksX3_outputByte_1 1 rfl rfl)
theorem dX3_outputByte_28 : decode cX3_outputByte 28 = .ok (.iconst (-1), 1) := dk_2 (dk_at dksX3_outputByte_1 4 rfl rfl)
theorem dX3_outputByte_29 : decode cX3_outputByte 29 = .ok (.ireturn, 1) := dk_172 (dk_at dksX3_outputByte_1 5 rfl rfl)
abbrev cX3_meanKeys : ByteArray := prog_20_method_72_code
def yX3_meanKeys : MethodName := ⟨RX3, "meanKeys", "()D"⟩
def dkwX3_meanKeys_4 : List UInt8 := [111, 175]
abbrev dktX3_meanKeys_4 : List UInt8 := dkwX3_meanKeys_4 ++ []
def dkwX3_meanKeys_3 : List UInt8 := [167, 0, 4, 3, 96, 61, 132, 3, 1, 167, 255, 188, 28, 154, 0, 7, 14, 167, 0, 8, 27, 135, 28, 135]
abbrev dktX3_meanKeys_3 : List UInt8 := dkwX3_meanKeys_3 ++ dktX3_meanKeys_4
def dkwX3_meanKeys_2 : List UInt8 := [21, 4, 96, 46, 96, 60, 132, 4, 1, 167, 255, 222, 28, 42, 180, 0, 47, 29, 51, 153, 0, 7, 4]
abbrev dktX3_meanKeys_2 : List UInt8 := dkwX3_meanKeys_2 ++ dktX3_meanKeys_3
def dkwX3_meanKeys_1 : List UInt8 := [16, 8, 162, 0, 33, 42, 180, 0, 47, 29, 51, 153, 0, 24, 27, 42, 180, 0, 59, 16, 8, 29, 104]
abbrev dktX3_meanKeys_1 : List UInt8 := dkwX3_meanKeys_1 ++ dktX3_meanKeys_2
def dkwX3_meanKeys_0 : List UInt8 := [42, 3, 181, 0, 83, 3, 60, 3, 61, 3, 62, 29, 42, 180, 0, 90, 162, 0, 66, 3, 54, 4, 21, 4]
abbrev dktX3_meanKeys_0 : List UInt8 := dkwX3_meanKeys_0 ++ dktX3_meanKeys_1
theorem dksX3_meanKeys_0 : cX3_meanKeys.data.toList.drop 0 = dktX3_meanKeys_0 := by decide +kernel
theorem dksX3_meanKeys_1 : cX3_meanKeys.data.toList.drop 24 = dktX3_meanKeys_1 := dk_seg dksX3_meanKeys_0 24 rfl rfl
theorem dksX3_meanKeys_2 : cX3_meanKeys.data.toList.drop 47 = dktX3_meanKeys_2 := dk_seg dksX3_meanKeys_1 23 rfl rfl
theorem dksX3_meanKeys_3 : cX3_meanKeys.data.toList.drop 70 = dktX3_meanKeys_3 := dk_seg dksX3_meanKeys_2 23 rfl rfl
theorem dksX3_meanKeys_4 : cX3_meanKeys.data.toList.drop 94 = dktX3_meanKeys_4 := dk_seg dksX3_meanKeys_3 24 rfl rfl
theorem dX3_meanKeys_0 : decode cX3_meanKeys 0 = .ok (.aload_n 0, 1) := dk_42 (dk_at dksX3_meanKeys_0 0 rfl rfl)
theorem dX3_meanKeys_1 : decode cX3_meanKeys 1 = .ok (.iconst 0, 1) := dk_3 (dk_at dksX3_meanKeys_0 1 rfl rfl)
theorem dX3_meanKeys_2 : decode cX3_meanKeys 2 = .ok (.putfield 83, 3) := dk_181 0 83 (dk_at dksX3_meanKeys_0 2 rfl rfl)
theorem dX3_meanKeys_5 : decode cX3_meanKeys 5 = .ok (.iconst 0, 1) := dk_3 (dk_at dksX3_meanKeys_0 5 rfl rfl)
theorem dX3_meanKeys_6 : decode cX3_meanKeys 6 = .ok (.istore_n 1, 1) := dk_60 (dk_at dksX3_meanKeys_0 6 rfl rfl)
theorem dX3_meanKeys_7 : decode cX3_meanKeys 7 = .ok (.iconst 0, 1) := dk_3 (dk_at dksX3_meanKeys_0 7 rfl rfl)
theorem dX3_meanKeys_8 : decode cX3_meanKeys 8 = .ok (.istore_n 2, 1) := dk_61 (dk_at dksX3_meanKeys_0 8 rfl rfl)
theorem dX3_meanKeys_9 : decode cX3_meanKeys 9 = .ok (.iconst 0, 1) := dk_3 (dk_at dksX3_meanKeys_0 9 rfl rfl)
theorem dX3_meanKeys_10 : decode cX3_meanKeys 10 = .ok (.istore_n 3, 1) := dk_62 (dk_at dksX3_meanKeys_0 10 rfl rfl)
theorem dX3_meanKeys_11 : decode cX3_meanKeys 11 = .ok (.iload_n 3, 1) := dk_29 (dk_at dksX3_meanKeys_0 11 rfl rfl)
theorem dX3_meanKeys_12 : decode cX3_meanKeys 12 = .ok (.aload_n 0, 1) := dk_42 (dk_at dksX3_meanKeys_0 12 rfl rfl)
theorem dX3_meanKeys_13 : decode cX3_meanKeys 13 = .ok (.getfield 90, 3) := dk_180 0 90 (dk_at dksX3_meanKeys_0 13 rfl rfl)
theorem dX3_meanKeys_16 : decode cX3_meanKeys 16 = .ok (.if_icmp .ge 66, 3) := dk_162 0 66 (dk_at dksX3_meanKeys_0 16 rfl rfl)
theorem dX3_meanKeys_19 : decode cX3_meanKeys 19 = .ok (.iconst 0, 1) := dk_3 (dk_at dksX3_meanKeys_0 19 rfl rfl)
theorem dX3_meanKeys_20 : decode cX3_meanKeys 20 = .ok (.istore 4, 2) := dk_54 4 (dk_at dksX3_meanKeys_0 20 rfl rfl)
theorem dX3_meanKeys_22 : decode cX3_meanKeys 22 = .ok (.iload 4, 2) := dk_21 4 (dk_at dksX3_meanKeys_0 22 rfl rfl)
theorem dX3_meanKeys_24 : decode cX3_meanKeys 24 = .ok (.bipush 8, 2) := dk_16 8 (dk_at dksX3_meanKeys_1 0 rfl rfl)
theorem dX3_meanKeys_26 : decode cX3_meanKeys 26 = .ok (.if_icmp .ge 33, 3) := dk_162 0 33 (dk_at dksX3_meanKeys_1 2 rfl rfl)
theorem dX3_meanKeys_29 : decode cX3_meanKeys 29 = .ok (.aload_n 0, 1) := dk_42 (dk_at dksX3_meanKeys_1 5 rfl rfl)
theorem dX3_meanKeys_30 : decode cX3_meanKeys 30 = .ok (.getfield 47, 3) := dk_180 0 47 (dk_at dksX3_meanKeys_1 6 rfl rfl)
theorem dX3_meanKeys_33 : decode cX3_meanKeys 33 = .ok (.iload_n 3, 1) := dk_29 (dk_at dksX3_meanKeys_1 9 rfl rfl)
theorem dX3_meanKeys_34 : decode cX3_meanKeys 34 = .ok (.baload, 1) := dk_51 (dk_at dksX3_meanKeys_1 10 rfl rfl)
theorem dX3_meanKeys_35 : decode cX3_meanKeys 35 = .ok (.ifCond .eq 24, 3) := dk_153 0 24 (dk_at dksX3_meanKeys_1 11 rfl rfl)
theorem dX3_meanKeys_38 : decode cX3_meanKeys 38 = .ok (.iload_n 1, 1) := dk_27 (dk_at dksX3_meanKeys_1 14 rfl rfl)
theorem dX3_meanKeys_39 : decode cX3_meanKeys 39 = .ok (.aload_n 0, 1) := dk_42 (dk_at dksX3_meanKeys_1 15 rfl rfl)
theorem dX3_meanKeys_40 : decode cX3_meanKeys 40 = .ok (.getfield 59, 3) := dk_180 0 59 (dk_at dksX3_meanKeys_1 16 rfl rfl)
theorem dX3_meanKeys_43 : decode cX3_meanKeys 43 = .ok (.bipush 8, 2) := dk_16 8 (dk_at dksX3_meanKeys_1 19 rfl rfl)
theorem dX3_meanKeys_45 : decode cX3_meanKeys 45 = .ok (.iload_n 3, 1) := dk_29 (dk_at dksX3_meanKeys_1 21 rfl rfl)
theorem dX3_meanKeys_46 : decode cX3_meanKeys 46 = .ok (.imul, 1) := dk_104 (dk_at dksX3_meanKeys_1 22 rfl rfl)
theorem dX3_meanKeys_47 : decode cX3_meanKeys 47 = .ok (.iload 4, 2) := dk_21 4 (dk_at dksX3_meanKeys_2 0 rfl rfl)
theorem dX3_meanKeys_49 : decode cX3_meanKeys 49 = .ok (.iadd, 1) := dk_96 (dk_at dksX3_meanKeys_2 2 rfl rfl)
theorem dX3_meanKeys_50 : decode cX3_meanKeys 50 = .ok (.iaload, 1) := dk_46 (dk_at dksX3_meanKeys_2 3 rfl rfl)
theorem dX3_meanKeys_51 : decode cX3_meanKeys 51 = .ok (.iadd, 1) := dk_96 (dk_at dksX3_meanKeys_2 4 rfl rfl)
theorem dX3_meanKeys_52 : decode cX3_meanKeys 52 = .ok (.istore_n 1, 1) := dk_60 (dk_at dksX3_meanKeys_2 5 rfl rfl)
theorem dX3_meanKeys_53 : decode cX3_meanKeys 53 = .ok (.iinc 4 1, 3) := dk_132 4 1 (dk_at dksX3_meanKeys_2 6 rfl rfl)
theorem dX3_meanKeys_56 : decode cX3_meanKeys 56 = .ok (.goto (-34), 3) := dk_167 255 222 (dk_at dksX3_meanKeys_2 9 rfl rfl)
theorem dX3_meanKeys_59 : decode cX3_meanKeys 59 = .ok (.iload_n 2, 1) := dk_28 (dk_at dksX3_meanKeys_2 12 rfl rfl)
theorem dX3_meanKeys_60 : decode cX3_meanKeys 60 = .ok (.aload_n 0, 1) := dk_42 (dk_at dksX3_meanKeys_2 13 rfl rfl)
theorem dX3_meanKeys_61 : decode cX3_meanKeys 61 = .ok (.getfield 47, 3) := dk_180 0 47 (dk_at dksX3_meanKeys_2 14 rfl rfl)
theorem dX3_meanKeys_64 : decode cX3_meanKeys 64 = .ok (.iload_n 3, 1) := dk_29 (dk_at dksX3_meanKeys_2 17 rfl rfl)
theorem dX3_meanKeys_65 : decode cX3_meanKeys 65 = .ok (.baload, 1) := dk_51 (dk_at dksX3_meanKeys_2 18 rfl rfl)
theorem dX3_meanKeys_66 : decode cX3_meanKeys 66 = .ok (.ifCond .eq 7, 3) := dk_153 0 7 (dk_at dksX3_meanKeys_2 19 rfl rfl)
theorem dX3_meanKeys_69 : decode cX3_meanKeys 69 = .ok (.iconst 1, 1) := dk_4 (dk_at dksX3_meanKeys_2 22 rfl rfl)
theorem dX3_meanKeys_70 : decode cX3_meanKeys 70 = .ok (.goto 4, 3) := dk_167 0 4 (dk_at dksX3_meanKeys_3 0 rfl rfl)
theorem dX3_meanKeys_73 : decode cX3_meanKeys 73 = .ok (.iconst 0, 1) := dk_3 (dk_at dksX3_meanKeys_3 3 rfl rfl)
theorem dX3_meanKeys_74 : decode cX3_meanKeys 74 = .ok (.iadd, 1) := dk_96 (dk_at dksX3_meanKeys_3 4 rfl rfl)
theorem dX3_meanKeys_75 : decode cX3_meanKeys 75 = .ok (.istore_n 2, 1) := dk_61 (dk_at dksX3_meanKeys_3 5 rfl rfl)
theorem dX3_meanKeys_76 : decode cX3_meanKeys 76 = .ok (.iinc 3 1, 3) := dk_132 3 1 (dk_at dksX3_meanKeys_3 6 rfl rfl)
theorem dX3_meanKeys_79 : decode cX3_meanKeys 79 = .ok (.goto (-68), 3) := dk_167 255 188 (dk_at dksX3_meanKeys_3 9 rfl rfl)
theorem dX3_meanKeys_82 : decode cX3_meanKeys 82 = .ok (.iload_n 2, 1) := dk_28 (dk_at dksX3_meanKeys_3 12 rfl rfl)
theorem dX3_meanKeys_83 : decode cX3_meanKeys 83 = .ok (.ifCond .ne 7, 3) := dk_154 0 7 (dk_at dksX3_meanKeys_3 13 rfl rfl)
theorem dX3_meanKeys_86 : decode cX3_meanKeys 86 = .ok (.dconst 0, 1) := dk_14 (dk_at dksX3_meanKeys_3 16 rfl rfl)
theorem dX3_meanKeys_87 : decode cX3_meanKeys 87 = .ok (.goto 8, 3) := dk_167 0 8 (dk_at dksX3_meanKeys_3 17 rfl rfl)
theorem dX3_meanKeys_90 : decode cX3_meanKeys 90 = .ok (.iload_n 1, 1) := dk_27 (dk_at dksX3_meanKeys_3 20 rfl rfl)
theorem dX3_meanKeys_91 : decode cX3_meanKeys 91 = .ok (.i2d, 1) := dk_135 (dk_at dksX3_meanKeys_3 21 rfl rfl)
theorem dX3_meanKeys_92 : decode cX3_meanKeys 92 = .ok (.iload_n 2, 1) := dk_28 (dk_at dksX3_meanKeys_3 22 rfl rfl)
theorem dX3_meanKeys_93 : decode cX3_meanKeys 93 = .ok (.i2d, 1) := dk_135 (dk_at dksX3_meanKeys_3 23 rfl rfl)
theorem dX3_meanKeys_94 : decode cX3_meanKeys 94 = .ok (.ddiv, 1) := dk_111 (dk_at dksX3_meanKeys_4 0 rfl rfl)
theorem dX3_meanKeys_95 : decode cX3_meanKeys 95 = .ok (.dreturn, 1) := dk_175 (dk_at dksX3_meanKeys_4 1 rfl rfl)
abbrev cX3_coveredPart : ByteArray := prog_20_method_73_code
def yX3_coveredPart : MethodName := ⟨RX3, "coveredPart", "(II)F"⟩
def dkwX3_coveredPart_1 : List UInt8 := [19, 1, 43, 110, 167, 0, 4, 11, 174]
abbrev dktX3_coveredPart_1 : List UInt8 := dkwX3_coveredPart_1 ++ []
def dkwX3_coveredPart_0 : List UInt8 := [42, 42, 27, 182, 0, 104, 28, 184, 0, 137, 4, 182, 0, 100, 153, 0, 17, 42, 27, 28, 182, 1, 24, 134]
abbrev dktX3_coveredPart_0 : List UInt8 := dkwX3_coveredPart_0 ++ dktX3_coveredPart_1
theorem dksX3_coveredPart_0 : cX3_coveredPart.data.toList.drop 0 = dktX3_coveredPart_0 := by decide +kernel
theorem dksX3_coveredPart_1 : cX3_coveredPart.data.toList.drop 24 = dktX3_coveredPart_1 := dk_seg dksX3_coveredPart_0 24 rfl rfl
theorem dX3_coveredPart_0 : decode cX3_coveredPart 0 = .ok (.aload_n 0, 1) := dk_42 (dk_at dksX3_coveredPart_0 0 rfl rfl)
theorem dX3_coveredPart_1 : decode cX3_coveredPart 1 = .ok (.aload_n 0, 1) := dk_42 (dk_at dksX3_coveredPart_0 1 rfl rfl)
theorem dX3_coveredPart_2 : decode cX3_coveredPart 2 = .ok (.iload_n 1, 1) := dk_27 (dk_at dksX3_coveredPart_0 2 rfl rfl)
theorem dX3_coveredPart_3 : decode cX3_coveredPart 3 = .ok (.invokevirtual 104, 3) := dk_182 0 104 (dk_at dksX3_coveredPart_0 3 rfl rfl)
theorem dX3_coveredPart_6 : decode cX3_coveredPart 6 = .ok (.iload_n 2, 1) := dk_28 (dk_at dksX3_coveredPart_0 6 rfl rfl)
theorem dX3_coveredPart_7 : decode cX3_coveredPart 7 = .ok (.invokestatic 137, 3) := dk_184 0 137 (dk_at dksX3_coveredPart_0 7 rfl rfl)
theorem dX3_coveredPart_10 : decode cX3_coveredPart 10 = .ok (.iconst 1, 1) := dk_4 (dk_at dksX3_coveredPart_0 10 rfl rfl)
theorem dX3_coveredPart_11 : decode cX3_coveredPart 11 = .ok (.invokevirtual 100, 3) := dk_182 0 100 (dk_at dksX3_coveredPart_0 11 rfl rfl)
theorem dX3_coveredPart_14 : decode cX3_coveredPart 14 = .ok (.ifCond .eq 17, 3) := dk_153 0 17 (dk_at dksX3_coveredPart_0 14 rfl rfl)
theorem dX3_coveredPart_17 : decode cX3_coveredPart 17 = .ok (.aload_n 0, 1) := dk_42 (dk_at dksX3_coveredPart_0 17 rfl rfl)
theorem dX3_coveredPart_18 : decode cX3_coveredPart 18 = .ok (.iload_n 1, 1) := dk_27 (dk_at dksX3_coveredPart_0 18 rfl rfl)
theorem dX3_coveredPart_19 : decode cX3_coveredPart 19 = .ok (.iload_n 2, 1) := dk_28 (dk_at dksX3_coveredPart_0 19 rfl rfl)
theorem dX3_coveredPart_20 : decode cX3_coveredPart 20 = .ok (.invokevirtual 280, 3) := dk_182 1 24 (dk_at dksX3_coveredPart_0 20 rfl rfl)
theorem dX3_coveredPart_23 : decode cX3_coveredPart 23 = .ok (.i2f, 1) := dk_134 (dk_at dksX3_coveredPart_0 23 rfl rfl)
theorem dX3_coveredPart_24 : decode cX3_coveredPart 24 = .ok (.ldc_w 299, 3) := dk_19 1 43 (dk_at dksX3_coveredPart_1 0 rfl rfl)
theorem dX3_coveredPart_27 : decode cX3_coveredPart 27 = .ok (.fdiv, 1) := dk_110 (dk_at dksX3_coveredPart_1 3 rfl rfl)
theorem dX3_coveredPart_28 : decode cX3_coveredPart 28 = .ok (.goto 4, 3) := dk_167 0 4 (dk_at dksX3_coveredPart_1 4 rfl rfl)
theorem dX3_coveredPart_31 : decode cX3_coveredPart 31 = .ok (.fconst 0, 1) := dk_11 (dk_at dksX3_coveredPart_1 7 rfl rfl)
theorem dX3_coveredPart_32 : decode cX3_coveredPart 32 = .ok (.freturn, 1) := dk_174 (dk_at dksX3_coveredPart_1 8 rfl rfl)
theorem q68 : (Jvm.Cond.initialized "ShapelayerModel") ∈ lw_all := lw_g (lw_at lw_m1 10 rfl) rfl
theorem q718 : (Jvm.Cond.selects "ShapelayerModel" ({ cls := "java/lang/Object", name := "getClass", desc := "()Ljava/lang/Class;" } : Jvm.MethodName) ({ cls := "java/lang/Object", name := "getClass", desc := "()Ljava/lang/Class;" } : Jvm.MethodName)) ∈ lw_all := lw_g (lw_at lw_m3 180 rfl) rfl
theorem q1105 : (Jvm.Cond.selects "ShapelayerModel" ({ cls := "java/lang/Object", name := "equals", desc := "(Ljava/lang/Object;)Z" } : Jvm.MethodName) ({ cls := "java/lang/Object", name := "equals", desc := "(Ljava/lang/Object;)Z" } : Jvm.MethodName)) ∈ lw_all := lw_g (lw_at lw_m5 87 rfl) rfl
theorem q1798 : (Jvm.Cond.instantiable "ShapelayerModel" (30 : Nat)) ∈ lw_all := lw_g (lw_at lw_m8 60 rfl) rfl
theorem q1800 : (Jvm.Cond.instanceMethod ({ cls := "ShapelayerModel", name := "<init>", desc := "()V" } : Jvm.MethodName)) ∈ lw_all := lw_g (lw_at lw_m8 62 rfl) rfl
theorem q1801 : (Jvm.Cond.code ({ cls := "ShapelayerModel", name := "<init>", desc := "()V" } : Jvm.MethodName) prog_20_method_1_code (1 : Nat) (Option.none : Option Jvm.ClassFile.FieldType)) ∈ lw_all := lw_g (lw_at lw_m8 63 rfl) rfl
theorem q1802 : (Jvm.Cond.methodLink "ShapelayerModel" (3 : Nat) ({ cls := "java/lang/Object", name := "<init>", desc := "()V" } : Jvm.MethodName)) ∈ lw_all := lw_g (lw_at lw_m8 64 rfl) rfl
theorem q1803 : (Jvm.Cond.fieldLink "ShapelayerModel" (83 : Nat) "ShapelayerModel" "thrown" "I") ∈ lw_all := lw_g (lw_at lw_m8 65 rfl) rfl
theorem q1804 : (Jvm.Cond.fieldLink "ShapelayerModel" (87 : Nat) "ShapelayerModel" "compositions" "I") ∈ lw_all := lw_g (lw_at lw_m8 66 rfl) rfl
theorem q1805 : (Jvm.Cond.fieldLink "ShapelayerModel" (9 : Nat) "ShapelayerModel" "orders" "[I") ∈ lw_all := lw_g (lw_at lw_m8 67 rfl) rfl
theorem q1806 : (Jvm.Cond.fieldLink "ShapelayerModel" (13 : Nat) "ShapelayerModel" "orderCounts" "[I") ∈ lw_all := lw_g (lw_at lw_m8 68 rfl) rfl
theorem q1807 : (Jvm.Cond.fieldLink "ShapelayerModel" (16 : Nat) "ShapelayerModel" "kinds" "[I") ∈ lw_all := lw_g (lw_at lw_m8 69 rfl) rfl
theorem q1808 : (Jvm.Cond.fieldLink "ShapelayerModel" (19 : Nat) "ShapelayerModel" "homes" "[I") ∈ lw_all := lw_g (lw_at lw_m8 70 rfl) rfl
theorem q1809 : (Jvm.Cond.fieldLink "ShapelayerModel" (22 : Nat) "ShapelayerModel" "widths" "[I") ∈ lw_all := lw_g (lw_at lw_m8 71 rfl) rfl
theorem q1810 : (Jvm.Cond.fieldLink "ShapelayerModel" (25 : Nat) "ShapelayerModel" "heights" "[I") ∈ lw_all := lw_g (lw_at lw_m8 72 rfl) rfl
theorem q1811 : (Jvm.Cond.fieldLink "ShapelayerModel" (28 : Nat) "ShapelayerModel" "colours" "[I") ∈ lw_all := lw_g (lw_at lw_m8 73 rfl) rfl
theorem q1812 : (Jvm.Cond.fieldLink "ShapelayerModel" (31 : Nat) "ShapelayerModel" "parents" "[I") ∈ lw_all := lw_g (lw_at lw_m8 74 rfl) rfl
theorem q1813 : (Jvm.Cond.fieldLink "ShapelayerModel" (34 : Nat) "ShapelayerModel" "mattes" "[I") ∈ lw_all := lw_g (lw_at lw_m8 75 rfl) rfl
theorem q1814 : (Jvm.Cond.fieldLink "ShapelayerModel" (37 : Nat) "ShapelayerModel" "isInverted" "[Z") ∈ lw_all := lw_g (lw_at lw_m8 76 rfl) rfl
theorem q1815 : (Jvm.Cond.fieldLink "ShapelayerModel" (41 : Nat) "ShapelayerModel" "firsts" "[I") ∈ lw_all := lw_g (lw_at lw_m8 77 rfl) rfl
theorem q1816 : (Jvm.Cond.fieldLink "ShapelayerModel" (44 : Nat) "ShapelayerModel" "ends" "[I") ∈ lw_all := lw_g (lw_at lw_m8 78 rfl) rfl
theorem q1817 : (Jvm.Cond.fieldLink "ShapelayerModel" (47 : Nat) "ShapelayerModel" "isThere" "[Z") ∈ lw_all := lw_g (lw_at lw_m8 79 rfl) rfl
theorem q1818 : (Jvm.Cond.fieldLink "ShapelayerModel" (90 : Nat) "ShapelayerModel" "made" "I") ∈ lw_all := lw_g (lw_at lw_m8 80 rfl) rfl
theorem q1819 : (Jvm.Cond.fieldLink "ShapelayerModel" (50 : Nat) "ShapelayerModel" "pointXs" "[I") ∈ lw_all := lw_g (lw_at lw_m8 81 rfl) rfl
theorem q1820 : (Jvm.Cond.fieldLink "ShapelayerModel" (53 : Nat) "ShapelayerModel" "pointYs" "[I") ∈ lw_all := lw_g (lw_at lw_m8 82 rfl) rfl
theorem q1821 : (Jvm.Cond.fieldLink "ShapelayerModel" (56 : Nat) "ShapelayerModel" "pointCounts" "[I") ∈ lw_all := lw_g (lw_at lw_m8 83 rfl) rfl
theorem q1822 : (Jvm.Cond.fieldLink "ShapelayerModel" (59 : Nat) "ShapelayerModel" "keyCounts" "[I") ∈ lw_all := lw_g (lw_at lw_m8 84 rfl) rfl
theorem q1823 : (Jvm.Cond.fieldLink "ShapelayerModel" (62 : Nat) "ShapelayerModel" "keyTimes" "[I") ∈ lw_all := lw_g (lw_at lw_m8 85 rfl) rfl
theorem q1824 : (Jvm.Cond.fieldLink "ShapelayerModel" (65 : Nat) "ShapelayerModel" "keyNumbers" "[I") ∈ lw_all := lw_g (lw_at lw_m8 86 rfl) rfl
theorem q1825 : (Jvm.Cond.fieldLink "ShapelayerModel" (68 : Nat) "ShapelayerModel" "keyKinds" "[I") ∈ lw_all := lw_g (lw_at lw_m8 87 rfl) rfl
theorem q1826 : (Jvm.Cond.fieldLink "ShapelayerModel" (180 : Nat) "ShapelayerModel" "mappedX" "J") ∈ lw_all := lw_g (lw_at lw_m8 88 rfl) rfl
theorem q1827 : (Jvm.Cond.fieldLink "ShapelayerModel" (184 : Nat) "ShapelayerModel" "mappedY" "J") ∈ lw_all := lw_g (lw_at lw_m8 89 rfl) rfl
theorem q1828 : (Jvm.Cond.fieldLink "ShapelayerModel" (71 : Nat) "ShapelayerModel" "around" "[I") ∈ lw_all := lw_g (lw_at lw_m8 90 rfl) rfl
theorem q1829 : (Jvm.Cond.fieldLink "ShapelayerModel" (74 : Nat) "ShapelayerModel" "aroundTimes" "[I") ∈ lw_all := lw_g (lw_at lw_m8 91 rfl) rfl
theorem q1830 : (Jvm.Cond.fieldLink "ShapelayerModel" (77 : Nat) "ShapelayerModel" "pages" "[I") ∈ lw_all := lw_g (lw_at lw_m8 92 rfl) rfl
theorem q1831 : (Jvm.Cond.fieldLink "ShapelayerModel" (80 : Nat) "ShapelayerModel" "output" "[I") ∈ lw_all := lw_g (lw_at lw_m8 93 rfl) rfl
theorem q1832 : (Jvm.Cond.fieldLink "ShapelayerModel" (93 : Nat) "ShapelayerModel" "outputLength" "I") ∈ lw_all := lw_g (lw_at lw_m8 94 rfl) rfl
theorem q1833 : (Jvm.Cond.lays "ShapelayerModel" "ShapelayerModel" "thrown" "I") ∈ lw_all := lw_g (lw_at lw_m8 95 rfl) rfl
theorem q1834 : (Jvm.Cond.soleField "ShapelayerModel" "thrown") ∈ lw_all := lw_g (lw_at lw_m8 96 rfl) rfl
theorem q1835 : (Jvm.Cond.lays "ShapelayerModel" "ShapelayerModel" "compositions" "I") ∈ lw_all := lw_g (lw_at lw_m8 97 rfl) rfl
theorem q1836 : (Jvm.Cond.soleField "ShapelayerModel" "compositions") ∈ lw_all := lw_g (lw_at lw_m8 98 rfl) rfl
theorem q1837 : (Jvm.Cond.laysFinal "ShapelayerModel" "ShapelayerModel" "orders" "[I") ∈ lw_all := lw_g (lw_at lw_m8 99 rfl) rfl
theorem q1838 : (Jvm.Cond.soleField "ShapelayerModel" "orders") ∈ lw_all := lw_g (lw_at lw_m8 100 rfl) rfl
theorem q1839 : (Jvm.Cond.laysFinal "ShapelayerModel" "ShapelayerModel" "orderCounts" "[I") ∈ lw_all := lw_g (lw_at lw_m8 101 rfl) rfl
theorem q1840 : (Jvm.Cond.soleField "ShapelayerModel" "orderCounts") ∈ lw_all := lw_g (lw_at lw_m8 102 rfl) rfl
theorem q1841 : (Jvm.Cond.laysFinal "ShapelayerModel" "ShapelayerModel" "kinds" "[I") ∈ lw_all := lw_g (lw_at lw_m8 103 rfl) rfl
theorem q1842 : (Jvm.Cond.soleField "ShapelayerModel" "kinds") ∈ lw_all := lw_g (lw_at lw_m8 104 rfl) rfl
theorem q1843 : (Jvm.Cond.laysFinal "ShapelayerModel" "ShapelayerModel" "homes" "[I") ∈ lw_all := lw_g (lw_at lw_m8 105 rfl) rfl
theorem q1844 : (Jvm.Cond.soleField "ShapelayerModel" "homes") ∈ lw_all := lw_g (lw_at lw_m8 106 rfl) rfl
theorem q1845 : (Jvm.Cond.laysFinal "ShapelayerModel" "ShapelayerModel" "widths" "[I") ∈ lw_all := lw_g (lw_at lw_m8 107 rfl) rfl
theorem q1846 : (Jvm.Cond.soleField "ShapelayerModel" "widths") ∈ lw_all := lw_g (lw_at lw_m8 108 rfl) rfl
theorem q1847 : (Jvm.Cond.laysFinal "ShapelayerModel" "ShapelayerModel" "heights" "[I") ∈ lw_all := lw_g (lw_at lw_m8 109 rfl) rfl
theorem q1848 : (Jvm.Cond.soleField "ShapelayerModel" "heights") ∈ lw_all := lw_g (lw_at lw_m8 110 rfl) rfl
theorem q1849 : (Jvm.Cond.laysFinal "ShapelayerModel" "ShapelayerModel" "colours" "[I") ∈ lw_all := lw_g (lw_at lw_m8 111 rfl) rfl
theorem q1850 : (Jvm.Cond.soleField "ShapelayerModel" "colours") ∈ lw_all := lw_g (lw_at lw_m8 112 rfl) rfl
theorem q1851 : (Jvm.Cond.laysFinal "ShapelayerModel" "ShapelayerModel" "parents" "[I") ∈ lw_all := lw_g (lw_at lw_m8 113 rfl) rfl
theorem q1852 : (Jvm.Cond.soleField "ShapelayerModel" "parents") ∈ lw_all := lw_g (lw_at lw_m8 114 rfl) rfl
theorem q1853 : (Jvm.Cond.laysFinal "ShapelayerModel" "ShapelayerModel" "mattes" "[I") ∈ lw_all := lw_g (lw_at lw_m8 115 rfl) rfl
theorem q1854 : (Jvm.Cond.soleField "ShapelayerModel" "mattes") ∈ lw_all := lw_g (lw_at lw_m8 116 rfl) rfl
theorem q1855 : (Jvm.Cond.laysFinal "ShapelayerModel" "ShapelayerModel" "isInverted" "[Z") ∈ lw_all := lw_g (lw_at lw_m8 117 rfl) rfl
theorem q1856 : (Jvm.Cond.soleField "ShapelayerModel" "isInverted") ∈ lw_all := lw_g (lw_at lw_m8 118 rfl) rfl
theorem q1857 : (Jvm.Cond.laysFinal "ShapelayerModel" "ShapelayerModel" "firsts" "[I") ∈ lw_all := lw_g (lw_at lw_m8 119 rfl) rfl
theorem q1858 : (Jvm.Cond.soleField "ShapelayerModel" "firsts") ∈ lw_all := lw_g (lw_at lw_m8 120 rfl) rfl
theorem q1859 : (Jvm.Cond.laysFinal "ShapelayerModel" "ShapelayerModel" "ends" "[I") ∈ lw_all := lw_g (lw_at lw_m8 121 rfl) rfl
theorem q1860 : (Jvm.Cond.soleField "ShapelayerModel" "ends") ∈ lw_all := lw_g (lw_at lw_m8 122 rfl) rfl
theorem q1861 : (Jvm.Cond.laysFinal "ShapelayerModel" "ShapelayerModel" "isThere" "[Z") ∈ lw_all := lw_g (lw_at lw_m8 123 rfl) rfl
theorem q1862 : (Jvm.Cond.soleField "ShapelayerModel" "isThere") ∈ lw_all := lw_g (lw_at lw_m8 124 rfl) rfl
theorem q1863 : (Jvm.Cond.lays "ShapelayerModel" "ShapelayerModel" "made" "I") ∈ lw_all := lw_g (lw_at lw_m8 125 rfl) rfl
theorem q1864 : (Jvm.Cond.soleField "ShapelayerModel" "made") ∈ lw_all := lw_g (lw_at lw_m8 126 rfl) rfl
theorem q1865 : (Jvm.Cond.laysFinal "ShapelayerModel" "ShapelayerModel" "pointXs" "[I") ∈ lw_all := lw_g (lw_at lw_m8 127 rfl) rfl
theorem q1866 : (Jvm.Cond.soleField "ShapelayerModel" "pointXs") ∈ lw_all := lw_g (lw_at lw_m8 128 rfl) rfl
theorem q1867 : (Jvm.Cond.laysFinal "ShapelayerModel" "ShapelayerModel" "pointYs" "[I") ∈ lw_all := lw_g (lw_at lw_m8 129 rfl) rfl
theorem q1868 : (Jvm.Cond.soleField "ShapelayerModel" "pointYs") ∈ lw_all := lw_g (lw_at lw_m8 130 rfl) rfl
theorem q1869 : (Jvm.Cond.laysFinal "ShapelayerModel" "ShapelayerModel" "pointCounts" "[I") ∈ lw_all := lw_g (lw_at lw_m8 131 rfl) rfl
theorem q1870 : (Jvm.Cond.soleField "ShapelayerModel" "pointCounts") ∈ lw_all := lw_g (lw_at lw_m8 132 rfl) rfl
theorem q1871 : (Jvm.Cond.laysFinal "ShapelayerModel" "ShapelayerModel" "keyCounts" "[I") ∈ lw_all := lw_g (lw_at lw_m8 133 rfl) rfl
theorem q1872 : (Jvm.Cond.soleField "ShapelayerModel" "keyCounts") ∈ lw_all := lw_g (lw_at lw_m8 134 rfl) rfl
theorem q1873 : (Jvm.Cond.laysFinal "ShapelayerModel" "ShapelayerModel" "keyTimes" "[I") ∈ lw_all := lw_g (lw_at lw_m8 135 rfl) rfl
theorem q1874 : (Jvm.Cond.soleField "ShapelayerModel" "keyTimes") ∈ lw_all := lw_g (lw_at lw_m8 136 rfl) rfl
theorem q1875 : (Jvm.Cond.laysFinal "ShapelayerModel" "ShapelayerModel" "keyNumbers" "[I") ∈ lw_all := lw_g (lw_at lw_m8 137 rfl) rfl
theorem q1876 : (Jvm.Cond.soleField "ShapelayerModel" "keyNumbers") ∈ lw_all := lw_g (lw_at lw_m8 138 rfl) rfl
theorem q1877 : (Jvm.Cond.laysFinal "ShapelayerModel" "ShapelayerModel" "keyKinds" "[I") ∈ lw_all := lw_g (lw_at lw_m8 139 rfl) rfl
theorem q1878 : (Jvm.Cond.soleField "ShapelayerModel" "keyKinds") ∈ lw_all := lw_g (lw_at lw_m8 140 rfl) rfl
theorem q1879 : (Jvm.Cond.lays "ShapelayerModel" "ShapelayerModel" "mappedX" "J") ∈ lw_all := lw_g (lw_at lw_m8 141 rfl) rfl
theorem q1880 : (Jvm.Cond.soleField "ShapelayerModel" "mappedX") ∈ lw_all := lw_g (lw_at lw_m8 142 rfl) rfl
theorem q1881 : (Jvm.Cond.lays "ShapelayerModel" "ShapelayerModel" "mappedY" "J") ∈ lw_all := lw_g (lw_at lw_m8 143 rfl) rfl
theorem q1882 : (Jvm.Cond.soleField "ShapelayerModel" "mappedY") ∈ lw_all := lw_g (lw_at lw_m8 144 rfl) rfl
theorem q1883 : (Jvm.Cond.laysFinal "ShapelayerModel" "ShapelayerModel" "around" "[I") ∈ lw_all := lw_g (lw_at lw_m8 145 rfl) rfl
theorem q1884 : (Jvm.Cond.soleField "ShapelayerModel" "around") ∈ lw_all := lw_g (lw_at lw_m8 146 rfl) rfl
theorem q1885 : (Jvm.Cond.laysFinal "ShapelayerModel" "ShapelayerModel" "aroundTimes" "[I") ∈ lw_all := lw_g (lw_at lw_m8 147 rfl) rfl
theorem q1886 : (Jvm.Cond.soleField "ShapelayerModel" "aroundTimes") ∈ lw_all := lw_g (lw_at lw_m8 148 rfl) rfl
theorem q1887 : (Jvm.Cond.laysFinal "ShapelayerModel" "ShapelayerModel" "pages" "[I") ∈ lw_all := lw_g (lw_at lw_m8 149 rfl) rfl
theorem q1888 : (Jvm.Cond.soleField "ShapelayerModel" "pages") ∈ lw_all := lw_g (lw_at lw_m8 150 rfl) rfl
theorem q1889 : (Jvm.Cond.laysFinal "ShapelayerModel" "ShapelayerModel" "output" "[I") ∈ lw_all := lw_g (lw_at lw_m8 151 rfl) rfl
theorem q1890 : (Jvm.Cond.soleField "ShapelayerModel" "output") ∈ lw_all := lw_g (lw_at lw_m8 152 rfl) rfl
theorem q1891 : (Jvm.Cond.lays "ShapelayerModel" "ShapelayerModel" "outputLength" "I") ∈ lw_all := lw_g (lw_at lw_m8 153 rfl) rfl
theorem q1892 : (Jvm.Cond.soleField "ShapelayerModel" "outputLength") ∈ lw_all := lw_g (lw_at lw_m8 154 rfl) rfl
theorem q1893 : (Jvm.Cond.superclass "ShapelayerModel" "java/lang/Object") ∈ lw_all := lw_g (lw_at lw_m8 155 rfl) rfl
theorem q1896 : (Jvm.Cond.instanceMethod ({ cls := "ShapelayerModel", name := "thrown", desc := "()I" } : Jvm.MethodName)) ∈ lw_all := lw_g (lw_at lw_m8 158 rfl) rfl
theorem q1897 : (Jvm.Cond.selects "ShapelayerModel" ({ cls := "ShapelayerModel", name := "thrown", desc := "()I" } : Jvm.MethodName) ({ cls := "ShapelayerModel", name := "thrown", desc := "()I" } : Jvm.MethodName)) ∈ lw_all := lw_g (lw_at lw_m8 159 rfl) rfl
theorem q1898 : (Jvm.Cond.code ({ cls := "ShapelayerModel", name := "thrown", desc := "()I" } : Jvm.MethodName) prog_20_method_2_code (1 : Nat) (Option.some Jvm.ClassFile.FieldType.int)) ∈ lw_all := lw_g (lw_at lw_m8 160 rfl) rfl
theorem q1900 : (Jvm.Cond.instanceMethod ({ cls := "ShapelayerModel", name := "clear", desc := "()I" } : Jvm.MethodName)) ∈ lw_all := lw_g (lw_at lw_m8 162 rfl) rfl
theorem q1901 : (Jvm.Cond.selects "ShapelayerModel" ({ cls := "ShapelayerModel", name := "clear", desc := "()I" } : Jvm.MethodName) ({ cls := "ShapelayerModel", name := "clear", desc := "()I" } : Jvm.MethodName)) ∈ lw_all := lw_g (lw_at lw_m8 163 rfl) rfl
theorem q1902 : (Jvm.Cond.code ({ cls := "ShapelayerModel", name := "clear", desc := "()I" } : Jvm.MethodName) prog_20_method_5_code (2 : Nat) (Option.some Jvm.ClassFile.FieldType.int)) ∈ lw_all := lw_g (lw_at lw_m8 164 rfl) rfl
theorem q1904 : (Jvm.Cond.instanceMethod ({ cls := "ShapelayerModel", name := "addComposition", desc := "()I" } : Jvm.MethodName)) ∈ lw_all := lw_g (lw_at lw_m8 166 rfl) rfl
theorem q1905 : (Jvm.Cond.selects "ShapelayerModel" ({ cls := "ShapelayerModel", name := "addComposition", desc := "()I" } : Jvm.MethodName) ({ cls := "ShapelayerModel", name := "addComposition", desc := "()I" } : Jvm.MethodName)) ∈ lw_all := lw_g (lw_at lw_m8 167 rfl) rfl
theorem q1906 : (Jvm.Cond.code ({ cls := "ShapelayerModel", name := "addComposition", desc := "()I" } : Jvm.MethodName) prog_20_method_8_code (1 : Nat) (Option.some Jvm.ClassFile.FieldType.int)) ∈ lw_all := lw_g (lw_at lw_m8 168 rfl) rfl
theorem q1907 : (Jvm.Cond.methodLink "ShapelayerModel" (100 : Nat) ({ cls := "ShapelayerModel", name := "check", desc := "(ZZZ)Z" } : Jvm.MethodName)) ∈ lw_all := lw_g (lw_at lw_m8 169 rfl) rfl
theorem q1908 : (Jvm.Cond.privateMethod ({ cls := "ShapelayerModel", name := "check", desc := "(ZZZ)Z" } : Jvm.MethodName)) ∈ lw_tbl := lw_at lw_m8 170 rfl
theorem q1909 : (Jvm.Cond.instanceMethod ({ cls := "ShapelayerModel", name := "check", desc := "(ZZZ)Z" } : Jvm.MethodName)) ∈ lw_all := lw_g (lw_at lw_m8 171 rfl) rfl
theorem q1910 : (Jvm.Cond.code ({ cls := "ShapelayerModel", name := "check", desc := "(ZZZ)Z" } : Jvm.MethodName) prog_20_method_4_code (4 : Nat) (Option.some Jvm.ClassFile.FieldType.boolean)) ∈ lw_all := lw_g (lw_at lw_m8 172 rfl) rfl
theorem q1912 : (Jvm.Cond.instanceMethod ({ cls := "ShapelayerModel", name := "addRect", desc := "(IIII)I" } : Jvm.MethodName)) ∈ lw_all := lw_g (lw_at lw_m8 174 rfl) rfl
theorem q1913 : (Jvm.Cond.selects "ShapelayerModel" ({ cls := "ShapelayerModel", name := "addRect", desc := "(IIII)I" } : Jvm.MethodName) ({ cls := "ShapelayerModel", name := "addRect", desc := "(IIII)I" } : Jvm.MethodName)) ∈ lw_all := lw_g (lw_at lw_m8 175 rfl) rfl
theorem q1914 : (Jvm.Cond.code ({ cls := "ShapelayerModel", name := "addRect", desc := "(IIII)I" } : Jvm.MethodName) prog_20_method_11_code (6 : Nat) (Option.some Jvm.ClassFile.FieldType.int)) ∈ lw_all := lw_g (lw_at lw_m8 176 rfl) rfl
theorem q1915 : (Jvm.Cond.methodLink "ShapelayerModel" (96 : Nat) ({ cls := "ShapelayerModel", name := "isWithin", desc := "(III)Z" } : Jvm.MethodName)) ∈ lw_all := lw_g (lw_at lw_m8 177 rfl) rfl
theorem q1916 : (Jvm.Cond.static ({ cls := "ShapelayerModel", name := "isWithin", desc := "(III)Z" } : Jvm.MethodName)) ∈ lw_all := lw_g (lw_at lw_m8 178 rfl) rfl
theorem q1917 : (Jvm.Cond.code ({ cls := "ShapelayerModel", name := "isWithin", desc := "(III)Z" } : Jvm.MethodName) prog_20_method_3_code (3 : Nat) (Option.some Jvm.ClassFile.FieldType.boolean)) ∈ lw_all := lw_g (lw_at lw_m8 179 rfl) rfl
theorem q1918 : (Jvm.Cond.methodLink "ShapelayerModel" (104 : Nat) ({ cls := "ShapelayerModel", name := "isComposition", desc := "(I)Z" } : Jvm.MethodName)) ∈ lw_all := lw_g (lw_at lw_m8 180 rfl) rfl
theorem q1919 : (Jvm.Cond.privateMethod ({ cls := "ShapelayerModel", name := "isComposition", desc := "(I)Z" } : Jvm.MethodName)) ∈ lw_tbl := lw_at lw_m8 181 rfl
theorem q1920 : (Jvm.Cond.instanceMethod ({ cls := "ShapelayerModel", name := "isComposition", desc := "(I)Z" } : Jvm.MethodName)) ∈ lw_all := lw_g (lw_at lw_m8 182 rfl) rfl
theorem q1921 : (Jvm.Cond.code ({ cls := "ShapelayerModel", name := "isComposition", desc := "(I)Z" } : Jvm.MethodName) prog_20_method_6_code (2 : Nat) (Option.some Jvm.ClassFile.FieldType.boolean)) ∈ lw_all := lw_g (lw_at lw_m8 183 rfl) rfl
theorem q1922 : (Jvm.Cond.methodLink "ShapelayerModel" (108 : Nat) ({ cls := "ShapelayerModel", name := "hasRoom", desc := "()Z" } : Jvm.MethodName)) ∈ lw_all := lw_g (lw_at lw_m8 184 rfl) rfl
theorem q1923 : (Jvm.Cond.privateMethod ({ cls := "ShapelayerModel", name := "hasRoom", desc := "()Z" } : Jvm.MethodName)) ∈ lw_tbl := lw_at lw_m8 185 rfl
theorem q1924 : (Jvm.Cond.instanceMethod ({ cls := "ShapelayerModel", name := "hasRoom", desc := "()Z" } : Jvm.MethodName)) ∈ lw_all := lw_g (lw_at lw_m8 186 rfl) rfl
theorem q1925 : (Jvm.Cond.code ({ cls := "ShapelayerModel", name := "hasRoom", desc := "()Z" } : Jvm.MethodName) prog_20_method_10_code (1 : Nat) (Option.some Jvm.ClassFile.FieldType.boolean)) ∈ lw_all := lw_g (lw_at lw_m8 187 rfl) rfl
theorem q1926 : (Jvm.Cond.methodLink "ShapelayerModel" (112 : Nat) ({ cls := "ShapelayerModel", name := "add", desc := "(IIIII)I" } : Jvm.MethodName)) ∈ lw_all := lw_g (lw_at lw_m8 188 rfl) rfl
theorem q1927 : (Jvm.Cond.privateMethod ({ cls := "ShapelayerModel", name := "add", desc := "(IIIII)I" } : Jvm.MethodName)) ∈ lw_tbl := lw_at lw_m8 189 rfl
theorem q1928 : (Jvm.Cond.instanceMethod ({ cls := "ShapelayerModel", name := "add", desc := "(IIIII)I" } : Jvm.MethodName)) ∈ lw_all := lw_g (lw_at lw_m8 190 rfl) rfl
theorem q1929 : (Jvm.Cond.code ({ cls := "ShapelayerModel", name := "add", desc := "(IIIII)I" } : Jvm.MethodName) prog_20_method_9_code (8 : Nat) (Option.some Jvm.ClassFile.FieldType.int)) ∈ lw_all := lw_g (lw_at lw_m8 191 rfl) rfl
theorem q1931 : (Jvm.Cond.instanceMethod ({ cls := "ShapelayerModel", name := "addStroke", desc := "(II)I" } : Jvm.MethodName)) ∈ lw_all := lw_g (lw_at lw_m8 193 rfl) rfl
theorem q1932 : (Jvm.Cond.selects "ShapelayerModel" ({ cls := "ShapelayerModel", name := "addStroke", desc := "(II)I" } : Jvm.MethodName) ({ cls := "ShapelayerModel", name := "addStroke", desc := "(II)I" } : Jvm.MethodName)) ∈ lw_all := lw_g (lw_at lw_m8 194 rfl) rfl
theorem q1933 : (Jvm.Cond.code ({ cls := "ShapelayerModel", name := "addStroke", desc := "(II)I" } : Jvm.MethodName) prog_20_method_12_code (3 : Nat) (Option.some Jvm.ClassFile.FieldType.int)) ∈ lw_all := lw_g (lw_at lw_m8 195 rfl) rfl
theorem q1935 : (Jvm.Cond.instanceMethod ({ cls := "ShapelayerModel", name := "addPoint", desc := "(III)I" } : Jvm.MethodName)) ∈ lw_all := lw_g (lw_at lw_m8 197 rfl) rfl
theorem q1936 : (Jvm.Cond.selects "ShapelayerModel" ({ cls := "ShapelayerModel", name := "addPoint", desc := "(III)I" } : Jvm.MethodName) ({ cls := "ShapelayerModel", name := "addPoint", desc := "(III)I" } : Jvm.MethodName)) ∈ lw_all := lw_g (lw_at lw_m8 198 rfl) rfl
theorem q1937 : (Jvm.Cond.code ({ cls := "ShapelayerModel", name := "addPoint", desc := "(III)I" } : Jvm.MethodName) prog_20_method_14_code (6 : Nat) (Option.some Jvm.ClassFile.FieldType.int)) ∈ lw_all := lw_g (lw_at lw_m8 199 rfl) rfl
theorem q1938 : (Jvm.Cond.methodLink "ShapelayerModel" (116 : Nat) ({ cls := "ShapelayerModel", name := "isLayer", desc := "(I)Z" } : Jvm.MethodName)) ∈ lw_all := lw_g (lw_at lw_m8 200 rfl) rfl
theorem q1939 : (Jvm.Cond.privateMethod ({ cls := "ShapelayerModel", name := "isLayer", desc := "(I)Z" } : Jvm.MethodName)) ∈ lw_tbl := lw_at lw_m8 201 rfl
theorem q1940 : (Jvm.Cond.instanceMethod ({ cls := "ShapelayerModel", name := "isLayer", desc := "(I)Z" } : Jvm.MethodName)) ∈ lw_all := lw_g (lw_at lw_m8 202 rfl) rfl
theorem q1941 : (Jvm.Cond.code ({ cls := "ShapelayerModel", name := "isLayer", desc := "(I)Z" } : Jvm.MethodName) prog_20_method_7_code (2 : Nat) (Option.some Jvm.ClassFile.FieldType.boolean)) ∈ lw_all := lw_g (lw_at lw_m8 203 rfl) rfl
theorem q1942 : (Jvm.Cond.methodLink "ShapelayerModel" (119 : Nat) ({ cls := "ShapelayerModel", name := "canAdd", desc := "(III)Z" } : Jvm.MethodName)) ∈ lw_all := lw_g (lw_at lw_m8 204 rfl) rfl
theorem q1943 : (Jvm.Cond.privateMethod ({ cls := "ShapelayerModel", name := "canAdd", desc := "(III)Z" } : Jvm.MethodName)) ∈ lw_tbl := lw_at lw_m8 205 rfl
theorem q1944 : (Jvm.Cond.instanceMethod ({ cls := "ShapelayerModel", name := "canAdd", desc := "(III)Z" } : Jvm.MethodName)) ∈ lw_all := lw_g (lw_at lw_m8 206 rfl) rfl
theorem q1945 : (Jvm.Cond.code ({ cls := "ShapelayerModel", name := "canAdd", desc := "(III)Z" } : Jvm.MethodName) prog_20_method_13_code (5 : Nat) (Option.some Jvm.ClassFile.FieldType.boolean)) ∈ lw_all := lw_g (lw_at lw_m8 207 rfl) rfl
theorem q1947 : (Jvm.Cond.instanceMethod ({ cls := "ShapelayerModel", name := "addNested", desc := "(II)I" } : Jvm.MethodName)) ∈ lw_all := lw_g (lw_at lw_m8 209 rfl) rfl
theorem q1948 : (Jvm.Cond.selects "ShapelayerModel" ({ cls := "ShapelayerModel", name := "addNested", desc := "(II)I" } : Jvm.MethodName) ({ cls := "ShapelayerModel", name := "addNested", desc := "(II)I" } : Jvm.MethodName)) ∈ lw_all := lw_g (lw_at lw_m8 210 rfl) rfl
theorem q1949 : (Jvm.Cond.code ({ cls := "ShapelayerModel", name := "addNested", desc := "(II)I" } : Jvm.MethodName) prog_20_method_16_code (4 : Nat) (Option.some Jvm.ClassFile.FieldType.int)) ∈ lw_all := lw_g (lw_at lw_m8 211 rfl) rfl
theorem q1950 : (Jvm.Cond.methodLink "ShapelayerModel" (122 : Nat) ({ cls := "ShapelayerModel", name := "isShownIn", desc := "(II)Z" } : Jvm.MethodName)) ∈ lw_all := lw_g (lw_at lw_m8 212 rfl) rfl
theorem q1951 : (Jvm.Cond.privateMethod ({ cls := "ShapelayerModel", name := "isShownIn", desc := "(II)Z" } : Jvm.MethodName)) ∈ lw_tbl := lw_at lw_m8 213 rfl
theorem q1952 : (Jvm.Cond.instanceMethod ({ cls := "ShapelayerModel", name := "isShownIn", desc := "(II)Z" } : Jvm.MethodName)) ∈ lw_all := lw_g (lw_at lw_m8 214 rfl) rfl
theorem q1953 : (Jvm.Cond.code ({ cls := "ShapelayerModel", name := "isShownIn", desc := "(II)Z" } : Jvm.MethodName) prog_20_method_15_code (5 : Nat) (Option.some Jvm.ClassFile.FieldType.boolean)) ∈ lw_all := lw_g (lw_at lw_m8 215 rfl) rfl
theorem q1955 : (Jvm.Cond.instanceMethod ({ cls := "ShapelayerModel", name := "addNull", desc := "(I)I" } : Jvm.MethodName)) ∈ lw_all := lw_g (lw_at lw_m8 217 rfl) rfl
theorem q1956 : (Jvm.Cond.selects "ShapelayerModel" ({ cls := "ShapelayerModel", name := "addNull", desc := "(I)I" } : Jvm.MethodName) ({ cls := "ShapelayerModel", name := "addNull", desc := "(I)I" } : Jvm.MethodName)) ∈ lw_all := lw_g (lw_at lw_m8 218 rfl) rfl
theorem q1957 : (Jvm.Cond.code ({ cls := "ShapelayerModel", name := "addNull", desc := "(I)I" } : Jvm.MethodName) prog_20_method_17_code (2 : Nat) (Option.some Jvm.ClassFile.FieldType.int)) ∈ lw_all := lw_g (lw_at lw_m8 219 rfl) rfl
theorem q1959 : (Jvm.Cond.instanceMethod ({ cls := "ShapelayerModel", name := "remove", desc := "(I)I" } : Jvm.MethodName)) ∈ lw_all := lw_g (lw_at lw_m8 221 rfl) rfl
theorem q1960 : (Jvm.Cond.selects "ShapelayerModel" ({ cls := "ShapelayerModel", name := "remove", desc := "(I)I" } : Jvm.MethodName) ({ cls := "ShapelayerModel", name := "remove", desc := "(I)I" } : Jvm.MethodName)) ∈ lw_all := lw_g (lw_at lw_m8 222 rfl) rfl
theorem q1961 : (Jvm.Cond.code ({ cls := "ShapelayerModel", name := "remove", desc := "(I)I" } : Jvm.MethodName) prog_20_method_20_code (3 : Nat) (Option.some Jvm.ClassFile.FieldType.int)) ∈ lw_all := lw_g (lw_at lw_m8 223 rfl) rfl
theorem q1962 : (Jvm.Cond.methodLink "ShapelayerModel" (130 : Nat) ({ cls := "ShapelayerModel", name := "takeOut", desc := "(I)V" } : Jvm.MethodName)) ∈ lw_all := lw_g (lw_at lw_m8 224 rfl) rfl
theorem q1963 : (Jvm.Cond.privateMethod ({ cls := "ShapelayerModel", name := "takeOut", desc := "(I)V" } : Jvm.MethodName)) ∈ lw_tbl := lw_at lw_m8 225 rfl
theorem q1964 : (Jvm.Cond.instanceMethod ({ cls := "ShapelayerModel", name := "takeOut", desc := "(I)V" } : Jvm.MethodName)) ∈ lw_all := lw_g (lw_at lw_m8 226 rfl) rfl
theorem q1965 : (Jvm.Cond.code ({ cls := "ShapelayerModel", name := "takeOut", desc := "(I)V" } : Jvm.MethodName) prog_20_method_19_code (4 : Nat) (Option.none : Option Jvm.ClassFile.FieldType)) ∈ lw_all := lw_g (lw_at lw_m8 227 rfl) rfl
theorem q1966 : (Jvm.Cond.methodLink "ShapelayerModel" (126 : Nat) ({ cls := "ShapelayerModel", name := "placeOf", desc := "(I)I" } : Jvm.MethodName)) ∈ lw_all := lw_g (lw_at lw_m8 228 rfl) rfl
theorem q1967 : (Jvm.Cond.privateMethod ({ cls := "ShapelayerModel", name := "placeOf", desc := "(I)I" } : Jvm.MethodName)) ∈ lw_tbl := lw_at lw_m8 229 rfl
theorem q1968 : (Jvm.Cond.instanceMethod ({ cls := "ShapelayerModel", name := "placeOf", desc := "(I)I" } : Jvm.MethodName)) ∈ lw_all := lw_g (lw_at lw_m8 230 rfl) rfl
theorem q1969 : (Jvm.Cond.code ({ cls := "ShapelayerModel", name := "placeOf", desc := "(I)I" } : Jvm.MethodName) prog_20_method_18_code (3 : Nat) (Option.some Jvm.ClassFile.FieldType.int)) ∈ lw_all := lw_g (lw_at lw_m8 231 rfl) rfl
theorem q1971 : (Jvm.Cond.instanceMethod ({ cls := "ShapelayerModel", name := "order", desc := "(II)I" } : Jvm.MethodName)) ∈ lw_all := lw_g (lw_at lw_m8 233 rfl) rfl
theorem q1972 : (Jvm.Cond.selects "ShapelayerModel" ({ cls := "ShapelayerModel", name := "order", desc := "(II)I" } : Jvm.MethodName) ({ cls := "ShapelayerModel", name := "order", desc := "(II)I" } : Jvm.MethodName)) ∈ lw_all := lw_g (lw_at lw_m8 234 rfl) rfl
theorem q1973 : (Jvm.Cond.code ({ cls := "ShapelayerModel", name := "order", desc := "(II)I" } : Jvm.MethodName) prog_20_method_21_code (7 : Nat) (Option.some Jvm.ClassFile.FieldType.int)) ∈ lw_all := lw_g (lw_at lw_m8 235 rfl) rfl
theorem q1975 : (Jvm.Cond.instanceMethod ({ cls := "ShapelayerModel", name := "setParent", desc := "(II)I" } : Jvm.MethodName)) ∈ lw_all := lw_g (lw_at lw_m8 237 rfl) rfl
theorem q1976 : (Jvm.Cond.selects "ShapelayerModel" ({ cls := "ShapelayerModel", name := "setParent", desc := "(II)I" } : Jvm.MethodName) ({ cls := "ShapelayerModel", name := "setParent", desc := "(II)I" } : Jvm.MethodName)) ∈ lw_all := lw_g (lw_at lw_m8 238 rfl) rfl
theorem q1977 : (Jvm.Cond.code ({ cls := "ShapelayerModel", name := "setParent", desc := "(II)I" } : Jvm.MethodName) prog_20_method_23_code (6 : Nat) (Option.some Jvm.ClassFile.FieldType.int)) ∈ lw_all := lw_g (lw_at lw_m8 239 rfl) rfl
theorem q1978 : (Jvm.Cond.methodLink "ShapelayerModel" (134 : Nat) ({ cls := "ShapelayerModel", name := "isAbove", desc := "(II)Z" } : Jvm.MethodName)) ∈ lw_all := lw_g (lw_at lw_m9 0 rfl) rfl
theorem q1979 : (Jvm.Cond.privateMethod ({ cls := "ShapelayerModel", name := "isAbove", desc := "(II)Z" } : Jvm.MethodName)) ∈ lw_tbl := lw_at lw_m9 1 rfl
theorem q1980 : (Jvm.Cond.instanceMethod ({ cls := "ShapelayerModel", name := "isAbove", desc := "(II)Z" } : Jvm.MethodName)) ∈ lw_all := lw_g (lw_at lw_m9 2 rfl) rfl
theorem q1981 : (Jvm.Cond.code ({ cls := "ShapelayerModel", name := "isAbove", desc := "(II)Z" } : Jvm.MethodName) prog_20_method_22_code (4 : Nat) (Option.some Jvm.ClassFile.FieldType.boolean)) ∈ lw_all := lw_g (lw_at lw_m9 3 rfl) rfl
theorem q1983 : (Jvm.Cond.instanceMethod ({ cls := "ShapelayerModel", name := "setMatte", desc := "(IIZ)I" } : Jvm.MethodName)) ∈ lw_all := lw_g (lw_at lw_m9 5 rfl) rfl
theorem q1984 : (Jvm.Cond.selects "ShapelayerModel" ({ cls := "ShapelayerModel", name := "setMatte", desc := "(IIZ)I" } : Jvm.MethodName) ({ cls := "ShapelayerModel", name := "setMatte", desc := "(IIZ)I" } : Jvm.MethodName)) ∈ lw_all := lw_g (lw_at lw_m9 6 rfl) rfl
theorem q1985 : (Jvm.Cond.code ({ cls := "ShapelayerModel", name := "setMatte", desc := "(IIZ)I" } : Jvm.MethodName) prog_20_method_24_code (7 : Nat) (Option.some Jvm.ClassFile.FieldType.int)) ∈ lw_all := lw_g (lw_at lw_m9 7 rfl) rfl
theorem q1987 : (Jvm.Cond.instanceMethod ({ cls := "ShapelayerModel", name := "setSpan", desc := "(III)I" } : Jvm.MethodName)) ∈ lw_all := lw_g (lw_at lw_m9 9 rfl) rfl
theorem q1988 : (Jvm.Cond.selects "ShapelayerModel" ({ cls := "ShapelayerModel", name := "setSpan", desc := "(III)I" } : Jvm.MethodName) ({ cls := "ShapelayerModel", name := "setSpan", desc := "(III)I" } : Jvm.MethodName)) ∈ lw_all := lw_g (lw_at lw_m9 10 rfl) rfl
theorem q1989 : (Jvm.Cond.code ({ cls := "ShapelayerModel", name := "setSpan", desc := "(III)I" } : Jvm.MethodName) prog_20_method_26_code (5 : Nat) (Option.some Jvm.ClassFile.FieldType.int)) ∈ lw_all := lw_g (lw_at lw_m9 11 rfl) rfl
theorem q1990 : (Jvm.Cond.methodLink "ShapelayerModel" (137 : Nat) ({ cls := "ShapelayerModel", name := "isTime", desc := "(I)Z" } : Jvm.MethodName)) ∈ lw_all := lw_g (lw_at lw_m9 12 rfl) rfl
theorem q1991 : (Jvm.Cond.static ({ cls := "ShapelayerModel", name := "isTime", desc := "(I)Z" } : Jvm.MethodName)) ∈ lw_all := lw_g (lw_at lw_m9 13 rfl) rfl
theorem q1992 : (Jvm.Cond.code ({ cls := "ShapelayerModel", name := "isTime", desc := "(I)Z" } : Jvm.MethodName) prog_20_method_25_code (1 : Nat) (Option.some Jvm.ClassFile.FieldType.boolean)) ∈ lw_all := lw_g (lw_at lw_m9 14 rfl) rfl
theorem q1994 : (Jvm.Cond.instanceMethod ({ cls := "ShapelayerModel", name := "key", desc := "(IIIII)I" } : Jvm.MethodName)) ∈ lw_all := lw_g (lw_at lw_m9 16 rfl) rfl
theorem q1995 : (Jvm.Cond.selects "ShapelayerModel" ({ cls := "ShapelayerModel", name := "key", desc := "(IIIII)I" } : Jvm.MethodName) ({ cls := "ShapelayerModel", name := "key", desc := "(IIIII)I" } : Jvm.MethodName)) ∈ lw_all := lw_g (lw_at lw_m9 17 rfl) rfl
theorem q1996 : (Jvm.Cond.code ({ cls := "ShapelayerModel", name := "key", desc := "(IIIII)I" } : Jvm.MethodName) prog_20_method_31_code (11 : Nat) (Option.some Jvm.ClassFile.FieldType.int)) ∈ lw_all := lw_g (lw_at lw_m9 18 rfl) rfl
theorem q1997 : (Jvm.Cond.methodLink "ShapelayerModel" (144 : Nat) ({ cls := "ShapelayerModel", name := "isValue", desc := "(I)Z" } : Jvm.MethodName)) ∈ lw_all := lw_g (lw_at lw_m9 19 rfl) rfl
theorem q1998 : (Jvm.Cond.static ({ cls := "ShapelayerModel", name := "isValue", desc := "(I)Z" } : Jvm.MethodName)) ∈ lw_all := lw_g (lw_at lw_m9 20 rfl) rfl
theorem q1999 : (Jvm.Cond.code ({ cls := "ShapelayerModel", name := "isValue", desc := "(I)Z" } : Jvm.MethodName) prog_20_method_27_code (1 : Nat) (Option.some Jvm.ClassFile.FieldType.boolean)) ∈ lw_all := lw_g (lw_at lw_m9 21 rfl) rfl
theorem q2000 : (Jvm.Cond.constant "ShapelayerModel" (147 : Nat) (-99999 : Int32)) ∈ lw_all := lw_g (lw_at lw_m9 22 rfl) rfl
theorem q2001 : (Jvm.Cond.constant "ShapelayerModel" (148 : Nat) (99999 : Int32)) ∈ lw_all := lw_g (lw_at lw_m9 23 rfl) rfl
theorem q2002 : (Jvm.Cond.methodLink "ShapelayerModel" (149 : Nat) ({ cls := "ShapelayerModel", name := "hasKey", desc := "(II)Z" } : Jvm.MethodName)) ∈ lw_all := lw_g (lw_at lw_m9 24 rfl) rfl
theorem q2003 : (Jvm.Cond.privateMethod ({ cls := "ShapelayerModel", name := "hasKey", desc := "(II)Z" } : Jvm.MethodName)) ∈ lw_tbl := lw_at lw_m9 25 rfl
theorem q2004 : (Jvm.Cond.instanceMethod ({ cls := "ShapelayerModel", name := "hasKey", desc := "(II)Z" } : Jvm.MethodName)) ∈ lw_all := lw_g (lw_at lw_m9 26 rfl) rfl
theorem q2005 : (Jvm.Cond.code ({ cls := "ShapelayerModel", name := "hasKey", desc := "(II)Z" } : Jvm.MethodName) prog_20_method_29_code (4 : Nat) (Option.some Jvm.ClassFile.FieldType.boolean)) ∈ lw_all := lw_g (lw_at lw_m9 27 rfl) rfl
theorem q2006 : (Jvm.Cond.methodLink "ShapelayerModel" (140 : Nat) ({ cls := "ShapelayerModel", name := "keyPlace", desc := "(II)I" } : Jvm.MethodName)) ∈ lw_all := lw_g (lw_at lw_m9 28 rfl) rfl
theorem q2007 : (Jvm.Cond.privateMethod ({ cls := "ShapelayerModel", name := "keyPlace", desc := "(II)I" } : Jvm.MethodName)) ∈ lw_tbl := lw_at lw_m9 29 rfl
theorem q2008 : (Jvm.Cond.instanceMethod ({ cls := "ShapelayerModel", name := "keyPlace", desc := "(II)I" } : Jvm.MethodName)) ∈ lw_all := lw_g (lw_at lw_m9 30 rfl) rfl
theorem q2009 : (Jvm.Cond.code ({ cls := "ShapelayerModel", name := "keyPlace", desc := "(II)I" } : Jvm.MethodName) prog_20_method_28_code (4 : Nat) (Option.some Jvm.ClassFile.FieldType.int)) ∈ lw_all := lw_g (lw_at lw_m9 31 rfl) rfl
theorem q2010 : (Jvm.Cond.methodLink "ShapelayerModel" (152 : Nat) ({ cls := "ShapelayerModel", name := "copyKey", desc := "(III)V" } : Jvm.MethodName)) ∈ lw_all := lw_g (lw_at lw_m9 32 rfl) rfl
theorem q2011 : (Jvm.Cond.privateMethod ({ cls := "ShapelayerModel", name := "copyKey", desc := "(III)V" } : Jvm.MethodName)) ∈ lw_tbl := lw_at lw_m9 33 rfl
theorem q2012 : (Jvm.Cond.instanceMethod ({ cls := "ShapelayerModel", name := "copyKey", desc := "(III)V" } : Jvm.MethodName)) ∈ lw_all := lw_g (lw_at lw_m9 34 rfl) rfl
theorem q2013 : (Jvm.Cond.code ({ cls := "ShapelayerModel", name := "copyKey", desc := "(III)V" } : Jvm.MethodName) prog_20_method_30_code (4 : Nat) (Option.none : Option Jvm.ClassFile.FieldType)) ∈ lw_all := lw_g (lw_at lw_m9 35 rfl) rfl
theorem q2015 : (Jvm.Cond.instanceMethod ({ cls := "ShapelayerModel", name := "unkey", desc := "(III)I" } : Jvm.MethodName)) ∈ lw_all := lw_g (lw_at lw_m9 37 rfl) rfl
theorem q2016 : (Jvm.Cond.selects "ShapelayerModel" ({ cls := "ShapelayerModel", name := "unkey", desc := "(III)I" } : Jvm.MethodName) ({ cls := "ShapelayerModel", name := "unkey", desc := "(III)I" } : Jvm.MethodName)) ∈ lw_all := lw_g (lw_at lw_m9 38 rfl) rfl
theorem q2017 : (Jvm.Cond.code ({ cls := "ShapelayerModel", name := "unkey", desc := "(III)I" } : Jvm.MethodName) prog_20_method_32_code (9 : Nat) (Option.some Jvm.ClassFile.FieldType.int)) ∈ lw_all := lw_g (lw_at lw_m9 39 rfl) rfl
theorem q2019 : (Jvm.Cond.instanceMethod ({ cls := "ShapelayerModel", name := "value", desc := "(III)I" } : Jvm.MethodName)) ∈ lw_all := lw_g (lw_at lw_m9 41 rfl) rfl
theorem q2020 : (Jvm.Cond.selects "ShapelayerModel" ({ cls := "ShapelayerModel", name := "value", desc := "(III)I" } : Jvm.MethodName) ({ cls := "ShapelayerModel", name := "value", desc := "(III)I" } : Jvm.MethodName)) ∈ lw_all := lw_g (lw_at lw_m9 42 rfl) rfl
theorem q2021 : (Jvm.Cond.code ({ cls := "ShapelayerModel", name := "value", desc := "(III)I" } : Jvm.MethodName) prog_20_method_36_code (4 : Nat) (Option.some Jvm.ClassFile.FieldType.int)) ∈ lw_all := lw_g (lw_at lw_m9 43 rfl) rfl
theorem q2022 : (Jvm.Cond.methodLink "ShapelayerModel" (173 : Nat) ({ cls := "ShapelayerModel", name := "valueOf", desc := "(III)I" } : Jvm.MethodName)) ∈ lw_all := lw_g (lw_at lw_m9 44 rfl) rfl
theorem q2023 : (Jvm.Cond.privateMethod ({ cls := "ShapelayerModel", name := "valueOf", desc := "(III)I" } : Jvm.MethodName)) ∈ lw_tbl := lw_at lw_m9 45 rfl
theorem q2024 : (Jvm.Cond.instanceMethod ({ cls := "ShapelayerModel", name := "valueOf", desc := "(III)I" } : Jvm.MethodName)) ∈ lw_all := lw_g (lw_at lw_m9 46 rfl) rfl
theorem q2025 : (Jvm.Cond.code ({ cls := "ShapelayerModel", name := "valueOf", desc := "(III)I" } : Jvm.MethodName) prog_20_method_35_code (7 : Nat) (Option.some Jvm.ClassFile.FieldType.int)) ∈ lw_all := lw_g (lw_at lw_m9 47 rfl) rfl
theorem q2026 : (Jvm.Cond.methodLink "ShapelayerModel" (167 : Nat) ({ cls := "ShapelayerModel", name := "withoutKeys", desc := "(II)I" } : Jvm.MethodName)) ∈ lw_all := lw_g (lw_at lw_m9 48 rfl) rfl
theorem q2027 : (Jvm.Cond.static ({ cls := "ShapelayerModel", name := "withoutKeys", desc := "(II)I" } : Jvm.MethodName)) ∈ lw_all := lw_g (lw_at lw_m9 49 rfl) rfl
theorem q2028 : (Jvm.Cond.code ({ cls := "ShapelayerModel", name := "withoutKeys", desc := "(II)I" } : Jvm.MethodName) prog_20_method_33_code (2 : Nat) (Option.some Jvm.ClassFile.FieldType.int)) ∈ lw_all := lw_g (lw_at lw_m9 50 rfl) rfl
theorem q2029 : (Jvm.Cond.methodLink "ShapelayerModel" (170 : Nat) ({ cls := "ShapelayerModel", name := "between", desc := "(II)I" } : Jvm.MethodName)) ∈ lw_all := lw_g (lw_at lw_m9 51 rfl) rfl
theorem q2030 : (Jvm.Cond.privateMethod ({ cls := "ShapelayerModel", name := "between", desc := "(II)I" } : Jvm.MethodName)) ∈ lw_tbl := lw_at lw_m9 52 rfl
theorem q2031 : (Jvm.Cond.instanceMethod ({ cls := "ShapelayerModel", name := "between", desc := "(II)I" } : Jvm.MethodName)) ∈ lw_all := lw_g (lw_at lw_m9 53 rfl) rfl
theorem q2032 : (Jvm.Cond.code ({ cls := "ShapelayerModel", name := "between", desc := "(II)I" } : Jvm.MethodName) prog_20_method_34_code (9 : Nat) (Option.some Jvm.ClassFile.FieldType.int)) ∈ lw_all := lw_g (lw_at lw_m9 54 rfl) rfl
theorem q2033 : (Jvm.Cond.methodLink "ShapelayerModel" (156 : Nat) ({ cls := "java/lang/Math", name := "floorDiv", desc := "(II)I" } : Jvm.MethodName)) ∈ lw_all := lw_g (lw_at lw_m9 55 rfl) rfl
theorem q2036 : (Jvm.Cond.constantLong "ShapelayerModel" (161 : Nat) (3000 : Int64)) ∈ lw_all := lw_g (lw_at lw_m9 58 rfl) rfl
theorem q2037 : (Jvm.Cond.constantLong "ShapelayerModel" (163 : Nat) (2 : Int64)) ∈ lw_all := lw_g (lw_at lw_m9 59 rfl) rfl
theorem q2038 : (Jvm.Cond.constantLong "ShapelayerModel" (165 : Nat) (1000000 : Int64)) ∈ lw_all := lw_g (lw_at lw_m9 60 rfl) rfl
theorem q2040 : (Jvm.Cond.instanceMethod ({ cls := "ShapelayerModel", name := "map", desc := "(IIIIZ)J" } : Jvm.MethodName)) ∈ lw_all := lw_g (lw_at lw_m9 62 rfl) rfl
theorem q2041 : (Jvm.Cond.selects "ShapelayerModel" ({ cls := "ShapelayerModel", name := "map", desc := "(IIIIZ)J" } : Jvm.MethodName) ({ cls := "ShapelayerModel", name := "map", desc := "(IIIIZ)J" } : Jvm.MethodName)) ∈ lw_all := lw_g (lw_at lw_m9 63 rfl) rfl
theorem q2042 : (Jvm.Cond.code ({ cls := "ShapelayerModel", name := "map", desc := "(IIIIZ)J" } : Jvm.MethodName) prog_20_method_40_code (7 : Nat) (Option.some Jvm.ClassFile.FieldType.long)) ∈ lw_all := lw_g (lw_at lw_m9 64 rfl) rfl
theorem q2043 : (Jvm.Cond.methodLink "ShapelayerModel" (196 : Nat) ({ cls := "ShapelayerModel", name := "begin", desc := "(JJ)V" } : Jvm.MethodName)) ∈ lw_all := lw_g (lw_at lw_m9 65 rfl) rfl
theorem q2044 : (Jvm.Cond.privateMethod ({ cls := "ShapelayerModel", name := "begin", desc := "(JJ)V" } : Jvm.MethodName)) ∈ lw_tbl := lw_at lw_m9 66 rfl
theorem q2045 : (Jvm.Cond.instanceMethod ({ cls := "ShapelayerModel", name := "begin", desc := "(JJ)V" } : Jvm.MethodName)) ∈ lw_all := lw_g (lw_at lw_m9 67 rfl) rfl
theorem q2046 : (Jvm.Cond.code ({ cls := "ShapelayerModel", name := "begin", desc := "(JJ)V" } : Jvm.MethodName) prog_20_method_39_code (5 : Nat) (Option.none : Option Jvm.ClassFile.FieldType)) ∈ lw_all := lw_g (lw_at lw_m9 68 rfl) rfl
theorem q2047 : (Jvm.Cond.methodLink "ShapelayerModel" (200 : Nat) ({ cls := "ShapelayerModel", name := "mapUp", desc := "(II)V" } : Jvm.MethodName)) ∈ lw_all := lw_g (lw_at lw_m9 69 rfl) rfl
theorem q2048 : (Jvm.Cond.privateMethod ({ cls := "ShapelayerModel", name := "mapUp", desc := "(II)V" } : Jvm.MethodName)) ∈ lw_tbl := lw_at lw_m9 70 rfl
theorem q2049 : (Jvm.Cond.instanceMethod ({ cls := "ShapelayerModel", name := "mapUp", desc := "(II)V" } : Jvm.MethodName)) ∈ lw_all := lw_g (lw_at lw_m9 71 rfl) rfl
theorem q2050 : (Jvm.Cond.code ({ cls := "ShapelayerModel", name := "mapUp", desc := "(II)V" } : Jvm.MethodName) prog_20_method_38_code (4 : Nat) (Option.none : Option Jvm.ClassFile.FieldType)) ∈ lw_all := lw_g (lw_at lw_m9 72 rfl) rfl
theorem q2051 : (Jvm.Cond.methodLink "ShapelayerModel" (192 : Nat) ({ cls := "ShapelayerModel", name := "mapBy", desc := "(II)V" } : Jvm.MethodName)) ∈ lw_all := lw_g (lw_at lw_m9 73 rfl) rfl
theorem q2052 : (Jvm.Cond.privateMethod ({ cls := "ShapelayerModel", name := "mapBy", desc := "(II)V" } : Jvm.MethodName)) ∈ lw_tbl := lw_at lw_m9 74 rfl
theorem q2053 : (Jvm.Cond.instanceMethod ({ cls := "ShapelayerModel", name := "mapBy", desc := "(II)V" } : Jvm.MethodName)) ∈ lw_all := lw_g (lw_at lw_m9 75 rfl) rfl
theorem q2054 : (Jvm.Cond.code ({ cls := "ShapelayerModel", name := "mapBy", desc := "(II)V" } : Jvm.MethodName) prog_20_method_37_code (7 : Nat) (Option.none : Option Jvm.ClassFile.FieldType)) ∈ lw_all := lw_g (lw_at lw_m9 76 rfl) rfl
theorem q2055 : (Jvm.Cond.methodLink "ShapelayerModel" (177 : Nat) ({ cls := "java/lang/Math", name := "floorMod", desc := "(II)I" } : Jvm.MethodName)) ∈ lw_all := lw_g (lw_at lw_m9 77 rfl) rfl
theorem q2056 : (Jvm.Cond.constantLong "ShapelayerModel" (187 : Nat) (1000 : Int64)) ∈ lw_all := lw_g (lw_at lw_m9 78 rfl) rfl
theorem q2057 : (Jvm.Cond.methodLink "ShapelayerModel" (189 : Nat) ({ cls := "java/lang/Math", name := "floorDiv", desc := "(JJ)J" } : Jvm.MethodName)) ∈ lw_all := lw_g (lw_at lw_m9 79 rfl) rfl
theorem q2059 : (Jvm.Cond.instanceMethod ({ cls := "ShapelayerModel", name := "left", desc := "(II)I" } : Jvm.MethodName)) ∈ lw_all := lw_g (lw_at lw_m9 81 rfl) rfl
theorem q2060 : (Jvm.Cond.selects "ShapelayerModel" ({ cls := "ShapelayerModel", name := "left", desc := "(II)I" } : Jvm.MethodName) ({ cls := "ShapelayerModel", name := "left", desc := "(II)I" } : Jvm.MethodName)) ∈ lw_all := lw_g (lw_at lw_m9 82 rfl) rfl
theorem q2061 : (Jvm.Cond.code ({ cls := "ShapelayerModel", name := "left", desc := "(II)I" } : Jvm.MethodName) prog_20_method_45_code (3 : Nat) (Option.some Jvm.ClassFile.FieldType.int)) ∈ lw_all := lw_g (lw_at lw_m9 83 rfl) rfl
theorem q2062 : (Jvm.Cond.methodLink "ShapelayerModel" (218 : Nat) ({ cls := "ShapelayerModel", name := "trimmed", desc := "(III)I" } : Jvm.MethodName)) ∈ lw_all := lw_g (lw_at lw_m9 84 rfl) rfl
theorem q2063 : (Jvm.Cond.privateMethod ({ cls := "ShapelayerModel", name := "trimmed", desc := "(III)I" } : Jvm.MethodName)) ∈ lw_tbl := lw_at lw_m9 85 rfl
theorem q2064 : (Jvm.Cond.instanceMethod ({ cls := "ShapelayerModel", name := "trimmed", desc := "(III)I" } : Jvm.MethodName)) ∈ lw_all := lw_g (lw_at lw_m9 86 rfl) rfl
theorem q2065 : (Jvm.Cond.code ({ cls := "ShapelayerModel", name := "trimmed", desc := "(III)I" } : Jvm.MethodName) prog_20_method_44_code (7 : Nat) (Option.some Jvm.ClassFile.FieldType.int)) ∈ lw_all := lw_g (lw_at lw_m9 87 rfl) rfl
theorem q2066 : (Jvm.Cond.methodLink "ShapelayerModel" (209 : Nat) ({ cls := "ShapelayerModel", name := "lengthOf", desc := "(I)I" } : Jvm.MethodName)) ∈ lw_all := lw_g (lw_at lw_m9 88 rfl) rfl
theorem q2067 : (Jvm.Cond.privateMethod ({ cls := "ShapelayerModel", name := "lengthOf", desc := "(I)I" } : Jvm.MethodName)) ∈ lw_tbl := lw_at lw_m9 89 rfl
theorem q2068 : (Jvm.Cond.instanceMethod ({ cls := "ShapelayerModel", name := "lengthOf", desc := "(I)I" } : Jvm.MethodName)) ∈ lw_all := lw_g (lw_at lw_m9 90 rfl) rfl
theorem q2069 : (Jvm.Cond.code ({ cls := "ShapelayerModel", name := "lengthOf", desc := "(I)I" } : Jvm.MethodName) prog_20_method_43_code (4 : Nat) (Option.some Jvm.ClassFile.FieldType.int)) ∈ lw_all := lw_g (lw_at lw_m9 91 rfl) rfl
theorem q2070 : (Jvm.Cond.methodLink "ShapelayerModel" (206 : Nat) ({ cls := "ShapelayerModel", name := "partLength", desc := "(II)I" } : Jvm.MethodName)) ∈ lw_all := lw_g (lw_at lw_m9 92 rfl) rfl
theorem q2071 : (Jvm.Cond.privateMethod ({ cls := "ShapelayerModel", name := "partLength", desc := "(II)I" } : Jvm.MethodName)) ∈ lw_tbl := lw_at lw_m9 93 rfl
theorem q2072 : (Jvm.Cond.instanceMethod ({ cls := "ShapelayerModel", name := "partLength", desc := "(II)I" } : Jvm.MethodName)) ∈ lw_all := lw_g (lw_at lw_m9 94 rfl) rfl
theorem q2073 : (Jvm.Cond.code ({ cls := "ShapelayerModel", name := "partLength", desc := "(II)I" } : Jvm.MethodName) prog_20_method_42_code (4 : Nat) (Option.some Jvm.ClassFile.FieldType.int)) ∈ lw_all := lw_g (lw_at lw_m9 95 rfl) rfl
theorem q2074 : (Jvm.Cond.methodLink "ShapelayerModel" (203 : Nat) ({ cls := "java/lang/Math", name := "abs", desc := "(I)I" } : Jvm.MethodName)) ∈ lw_all := lw_g (lw_at lw_m9 96 rfl) rfl
theorem q2075 : (Jvm.Cond.methodLink "ShapelayerModel" (212 : Nat) ({ cls := "java/lang/Math", name := "min", desc := "(JJ)J" } : Jvm.MethodName)) ∈ lw_all := lw_g (lw_at lw_m9 97 rfl) rfl
theorem q2076 : (Jvm.Cond.methodLink "ShapelayerModel" (215 : Nat) ({ cls := "java/lang/Math", name := "max", desc := "(JJ)J" } : Jvm.MethodName)) ∈ lw_all := lw_g (lw_at lw_m9 98 rfl) rfl
theorem q2077 : (Jvm.Cond.methodLink "ShapelayerModel" (221 : Nat) ({ cls := "java/lang/Math", name := "max", desc := "(II)I" } : Jvm.MethodName)) ∈ lw_all := lw_g (lw_at lw_m9 99 rfl) rfl
theorem q2079 : (Jvm.Cond.instanceMethod ({ cls := "ShapelayerModel", name := "cell", desc := "(IIII)I" } : Jvm.MethodName)) ∈ lw_all := lw_g (lw_at lw_m9 101 rfl) rfl
theorem q2080 : (Jvm.Cond.selects "ShapelayerModel" ({ cls := "ShapelayerModel", name := "cell", desc := "(IIII)I" } : Jvm.MethodName) ({ cls := "ShapelayerModel", name := "cell", desc := "(IIII)I" } : Jvm.MethodName)) ∈ lw_all := lw_g (lw_at lw_m9 102 rfl) rfl
theorem q2081 : (Jvm.Cond.code ({ cls := "ShapelayerModel", name := "cell", desc := "(IIII)I" } : Jvm.MethodName) prog_20_method_59_code (6 : Nat) (Option.some Jvm.ClassFile.FieldType.int)) ∈ lw_all := lw_g (lw_at lw_m9 103 rfl) rfl
theorem q2082 : (Jvm.Cond.methodLink "ShapelayerModel" (253 : Nat) ({ cls := "ShapelayerModel", name := "draw", desc := "(IIII)V" } : Jvm.MethodName)) ∈ lw_all := lw_g (lw_at lw_m9 104 rfl) rfl
theorem q2083 : (Jvm.Cond.privateMethod ({ cls := "ShapelayerModel", name := "draw", desc := "(IIII)V" } : Jvm.MethodName)) ∈ lw_tbl := lw_at lw_m9 105 rfl
theorem q2084 : (Jvm.Cond.instanceMethod ({ cls := "ShapelayerModel", name := "draw", desc := "(IIII)V" } : Jvm.MethodName)) ∈ lw_all := lw_g (lw_at lw_m9 106 rfl) rfl
theorem q2085 : (Jvm.Cond.code ({ cls := "ShapelayerModel", name := "draw", desc := "(IIII)V" } : Jvm.MethodName) prog_20_method_57_code (7 : Nat) (Option.none : Option Jvm.ClassFile.FieldType)) ∈ lw_all := lw_g (lw_at lw_m9 107 rfl) rfl
theorem q2086 : (Jvm.Cond.methodLink "ShapelayerModel" (256 : Nat) ({ cls := "ShapelayerModel", name := "wipe", desc := "(I)V" } : Jvm.MethodName)) ∈ lw_all := lw_g (lw_at lw_m9 108 rfl) rfl
theorem q2087 : (Jvm.Cond.privateMethod ({ cls := "ShapelayerModel", name := "wipe", desc := "(I)V" } : Jvm.MethodName)) ∈ lw_tbl := lw_at lw_m9 109 rfl
theorem q2088 : (Jvm.Cond.instanceMethod ({ cls := "ShapelayerModel", name := "wipe", desc := "(I)V" } : Jvm.MethodName)) ∈ lw_all := lw_g (lw_at lw_m9 110 rfl) rfl
theorem q2089 : (Jvm.Cond.code ({ cls := "ShapelayerModel", name := "wipe", desc := "(I)V" } : Jvm.MethodName) prog_20_method_46_code (3 : Nat) (Option.none : Option Jvm.ClassFile.FieldType)) ∈ lw_all := lw_g (lw_at lw_m9 111 rfl) rfl
theorem q2090 : (Jvm.Cond.methodLink "ShapelayerModel" (271 : Nat) ({ cls := "ShapelayerModel", name := "isMatte", desc := "(I)Z" } : Jvm.MethodName)) ∈ lw_all := lw_g (lw_at lw_m9 112 rfl) rfl
theorem q2091 : (Jvm.Cond.privateMethod ({ cls := "ShapelayerModel", name := "isMatte", desc := "(I)Z" } : Jvm.MethodName)) ∈ lw_tbl := lw_at lw_m9 113 rfl
theorem q2092 : (Jvm.Cond.instanceMethod ({ cls := "ShapelayerModel", name := "isMatte", desc := "(I)Z" } : Jvm.MethodName)) ∈ lw_all := lw_g (lw_at lw_m9 114 rfl) rfl
theorem q2093 : (Jvm.Cond.code ({ cls := "ShapelayerModel", name := "isMatte", desc := "(I)Z" } : Jvm.MethodName) prog_20_method_56_code (3 : Nat) (Option.some Jvm.ClassFile.FieldType.boolean)) ∈ lw_all := lw_g (lw_at lw_m9 115 rfl) rfl
theorem q2094 : (Jvm.Cond.methodLink "ShapelayerModel" (259 : Nat) ({ cls := "ShapelayerModel", name := "isShowing", desc := "(II)Z" } : Jvm.MethodName)) ∈ lw_all := lw_g (lw_at lw_m9 116 rfl) rfl
theorem q2095 : (Jvm.Cond.privateMethod ({ cls := "ShapelayerModel", name := "isShowing", desc := "(II)Z" } : Jvm.MethodName)) ∈ lw_tbl := lw_at lw_m9 117 rfl
theorem q2096 : (Jvm.Cond.instanceMethod ({ cls := "ShapelayerModel", name := "isShowing", desc := "(II)Z" } : Jvm.MethodName)) ∈ lw_all := lw_g (lw_at lw_m9 118 rfl) rfl
theorem q2097 : (Jvm.Cond.code ({ cls := "ShapelayerModel", name := "isShowing", desc := "(II)Z" } : Jvm.MethodName) prog_20_method_54_code (3 : Nat) (Option.some Jvm.ClassFile.FieldType.boolean)) ∈ lw_all := lw_g (lw_at lw_m9 119 rfl) rfl
theorem q2098 : (Jvm.Cond.methodLink "ShapelayerModel" (274 : Nat) ({ cls := "ShapelayerModel", name := "drawLayer", desc := "(IIII)V" } : Jvm.MethodName)) ∈ lw_all := lw_g (lw_at lw_m9 120 rfl) rfl
theorem q2099 : (Jvm.Cond.privateMethod ({ cls := "ShapelayerModel", name := "drawLayer", desc := "(IIII)V" } : Jvm.MethodName)) ∈ lw_tbl := lw_at lw_m9 121 rfl
theorem q2100 : (Jvm.Cond.instanceMethod ({ cls := "ShapelayerModel", name := "drawLayer", desc := "(IIII)V" } : Jvm.MethodName)) ∈ lw_all := lw_g (lw_at lw_m9 122 rfl) rfl
theorem q2101 : (Jvm.Cond.code ({ cls := "ShapelayerModel", name := "drawLayer", desc := "(IIII)V" } : Jvm.MethodName) prog_20_method_58_code (10 : Nat) (Option.none : Option Jvm.ClassFile.FieldType)) ∈ lw_all := lw_g (lw_at lw_m9 123 rfl) rfl
theorem q2102 : (Jvm.Cond.methodLink "ShapelayerModel" (277 : Nat) ({ cls := "ShapelayerModel", name := "paintLayer", desc := "(IIII)V" } : Jvm.MethodName)) ∈ lw_all := lw_g (lw_at lw_m9 124 rfl) rfl
theorem q2103 : (Jvm.Cond.privateMethod ({ cls := "ShapelayerModel", name := "paintLayer", desc := "(IIII)V" } : Jvm.MethodName)) ∈ lw_tbl := lw_at lw_m9 125 rfl
theorem q2104 : (Jvm.Cond.instanceMethod ({ cls := "ShapelayerModel", name := "paintLayer", desc := "(IIII)V" } : Jvm.MethodName)) ∈ lw_all := lw_g (lw_at lw_m9 126 rfl) rfl
theorem q2105 : (Jvm.Cond.code ({ cls := "ShapelayerModel", name := "paintLayer", desc := "(IIII)V" } : Jvm.MethodName) prog_20_method_55_code (5 : Nat) (Option.none : Option Jvm.ClassFile.FieldType)) ∈ lw_all := lw_g (lw_at lw_m9 127 rfl) rfl
theorem q2106 : (Jvm.Cond.methodLink "ShapelayerModel" (262 : Nat) ({ cls := "ShapelayerModel", name := "paintRect", desc := "(IIII)V" } : Jvm.MethodName)) ∈ lw_all := lw_g (lw_at lw_m9 128 rfl) rfl
theorem q2107 : (Jvm.Cond.privateMethod ({ cls := "ShapelayerModel", name := "paintRect", desc := "(IIII)V" } : Jvm.MethodName)) ∈ lw_tbl := lw_at lw_m9 129 rfl
theorem q2108 : (Jvm.Cond.instanceMethod ({ cls := "ShapelayerModel", name := "paintRect", desc := "(IIII)V" } : Jvm.MethodName)) ∈ lw_all := lw_g (lw_at lw_m9 130 rfl) rfl
theorem q2109 : (Jvm.Cond.code ({ cls := "ShapelayerModel", name := "paintRect", desc := "(IIII)V" } : Jvm.MethodName) prog_20_method_49_code (15 : Nat) (Option.none : Option Jvm.ClassFile.FieldType)) ∈ lw_all := lw_g (lw_at lw_m9 131 rfl) rfl
theorem q2110 : (Jvm.Cond.methodLink "ShapelayerModel" (227 : Nat) ({ cls := "ShapelayerModel", name := "mapOut", desc := "(III)V" } : Jvm.MethodName)) ∈ lw_all := lw_g (lw_at lw_m9 132 rfl) rfl
theorem q2111 : (Jvm.Cond.privateMethod ({ cls := "ShapelayerModel", name := "mapOut", desc := "(III)V" } : Jvm.MethodName)) ∈ lw_tbl := lw_at lw_m9 133 rfl
theorem q2112 : (Jvm.Cond.instanceMethod ({ cls := "ShapelayerModel", name := "mapOut", desc := "(III)V" } : Jvm.MethodName)) ∈ lw_all := lw_g (lw_at lw_m9 134 rfl) rfl
theorem q2113 : (Jvm.Cond.code ({ cls := "ShapelayerModel", name := "mapOut", desc := "(III)V" } : Jvm.MethodName) prog_20_method_41_code (5 : Nat) (Option.none : Option Jvm.ClassFile.FieldType)) ∈ lw_all := lw_g (lw_at lw_m9 135 rfl) rfl
theorem q2114 : (Jvm.Cond.constantLong "ShapelayerModel" (230 : Nat) (500 : Int64)) ∈ lw_all := lw_g (lw_at lw_m9 136 rfl) rfl
theorem q2115 : (Jvm.Cond.methodLink "ShapelayerModel" (232 : Nat) ({ cls := "ShapelayerModel", name := "paint", desc := "(IIII)V" } : Jvm.MethodName)) ∈ lw_all := lw_g (lw_at lw_m9 137 rfl) rfl
theorem q2116 : (Jvm.Cond.privateMethod ({ cls := "ShapelayerModel", name := "paint", desc := "(IIII)V" } : Jvm.MethodName)) ∈ lw_tbl := lw_at lw_m9 138 rfl
theorem q2117 : (Jvm.Cond.instanceMethod ({ cls := "ShapelayerModel", name := "paint", desc := "(IIII)V" } : Jvm.MethodName)) ∈ lw_all := lw_g (lw_at lw_m9 139 rfl) rfl
theorem q2118 : (Jvm.Cond.code ({ cls := "ShapelayerModel", name := "paint", desc := "(IIII)V" } : Jvm.MethodName) prog_20_method_48_code (5 : Nat) (Option.none : Option Jvm.ClassFile.FieldType)) ∈ lw_all := lw_g (lw_at lw_m9 140 rfl) rfl
theorem q2119 : (Jvm.Cond.methodLink "ShapelayerModel" (265 : Nat) ({ cls := "ShapelayerModel", name := "paintStroke", desc := "(IIII)V" } : Jvm.MethodName)) ∈ lw_all := lw_g (lw_at lw_m9 141 rfl) rfl
theorem q2120 : (Jvm.Cond.privateMethod ({ cls := "ShapelayerModel", name := "paintStroke", desc := "(IIII)V" } : Jvm.MethodName)) ∈ lw_tbl := lw_at lw_m9 142 rfl
theorem q2121 : (Jvm.Cond.instanceMethod ({ cls := "ShapelayerModel", name := "paintStroke", desc := "(IIII)V" } : Jvm.MethodName)) ∈ lw_all := lw_g (lw_at lw_m9 143 rfl) rfl
theorem q2122 : (Jvm.Cond.code ({ cls := "ShapelayerModel", name := "paintStroke", desc := "(IIII)V" } : Jvm.MethodName) prog_20_method_51_code (14 : Nat) (Option.none : Option Jvm.ClassFile.FieldType)) ∈ lw_all := lw_g (lw_at lw_m9 144 rfl) rfl
theorem q2123 : (Jvm.Cond.methodLink "ShapelayerModel" (241 : Nat) ({ cls := "java/lang/Math", name := "min", desc := "(II)I" } : Jvm.MethodName)) ∈ lw_all := lw_g (lw_at lw_m9 145 rfl) rfl
theorem q2124 : (Jvm.Cond.methodLink "ShapelayerModel" (243 : Nat) ({ cls := "ShapelayerModel", name := "beginAlong", desc := "(III)V" } : Jvm.MethodName)) ∈ lw_all := lw_g (lw_at lw_m9 146 rfl) rfl
theorem q2125 : (Jvm.Cond.privateMethod ({ cls := "ShapelayerModel", name := "beginAlong", desc := "(III)V" } : Jvm.MethodName)) ∈ lw_tbl := lw_at lw_m9 147 rfl
theorem q2126 : (Jvm.Cond.instanceMethod ({ cls := "ShapelayerModel", name := "beginAlong", desc := "(III)V" } : Jvm.MethodName)) ∈ lw_all := lw_g (lw_at lw_m9 148 rfl) rfl
theorem q2127 : (Jvm.Cond.code ({ cls := "ShapelayerModel", name := "beginAlong", desc := "(III)V" } : Jvm.MethodName) prog_20_method_50_code (7 : Nat) (Option.none : Option Jvm.ClassFile.FieldType)) ∈ lw_all := lw_g (lw_at lw_m9 149 rfl) rfl
theorem q2128 : (Jvm.Cond.methodLink "ShapelayerModel" (236 : Nat) ({ cls := "java/lang/Integer", name := "signum", desc := "(I)I" } : Jvm.MethodName)) ∈ lw_all := lw_g (lw_at lw_m9 150 rfl) rfl
theorem q2129 : (Jvm.Cond.methodLink "ShapelayerModel" (246 : Nat) ({ cls := "ShapelayerModel", name := "cellOf", desc := "(J)I" } : Jvm.MethodName)) ∈ lw_all := lw_g (lw_at lw_m9 151 rfl) rfl
theorem q2130 : (Jvm.Cond.static ({ cls := "ShapelayerModel", name := "cellOf", desc := "(J)I" } : Jvm.MethodName)) ∈ lw_all := lw_g (lw_at lw_m9 152 rfl) rfl
theorem q2131 : (Jvm.Cond.code ({ cls := "ShapelayerModel", name := "cellOf", desc := "(J)I" } : Jvm.MethodName) prog_20_method_47_code (4 : Nat) (Option.some Jvm.ClassFile.FieldType.int)) ∈ lw_all := lw_g (lw_at lw_m9 153 rfl) rfl
theorem q2132 : (Jvm.Cond.constantLong "ShapelayerModel" (223 : Nat) (-1 : Int64)) ∈ lw_all := lw_g (lw_at lw_m9 154 rfl) rfl
theorem q2133 : (Jvm.Cond.constantLong "ShapelayerModel" (225 : Nat) (28 : Int64)) ∈ lw_all := lw_g (lw_at lw_m9 155 rfl) rfl
theorem q2134 : (Jvm.Cond.methodLink "ShapelayerModel" (250 : Nat) ({ cls := "ShapelayerModel", name := "paintBox", desc := "(IIII)V" } : Jvm.MethodName)) ∈ lw_all := lw_g (lw_at lw_m9 156 rfl) rfl
theorem q2135 : (Jvm.Cond.privateMethod ({ cls := "ShapelayerModel", name := "paintBox", desc := "(IIII)V" } : Jvm.MethodName)) ∈ lw_tbl := lw_at lw_m9 157 rfl
theorem q2136 : (Jvm.Cond.instanceMethod ({ cls := "ShapelayerModel", name := "paintBox", desc := "(IIII)V" } : Jvm.MethodName)) ∈ lw_all := lw_g (lw_at lw_m9 158 rfl) rfl
theorem q2137 : (Jvm.Cond.code ({ cls := "ShapelayerModel", name := "paintBox", desc := "(IIII)V" } : Jvm.MethodName) prog_20_method_52_code (9 : Nat) (Option.none : Option Jvm.ClassFile.FieldType)) ∈ lw_all := lw_g (lw_at lw_m9 159 rfl) rfl
theorem q2138 : (Jvm.Cond.methodLink "ShapelayerModel" (268 : Nat) ({ cls := "ShapelayerModel", name := "paintNested", desc := "(IIII)V" } : Jvm.MethodName)) ∈ lw_all := lw_g (lw_at lw_m9 160 rfl) rfl
theorem q2139 : (Jvm.Cond.privateMethod ({ cls := "ShapelayerModel", name := "paintNested", desc := "(IIII)V" } : Jvm.MethodName)) ∈ lw_tbl := lw_at lw_m9 161 rfl
theorem q2140 : (Jvm.Cond.instanceMethod ({ cls := "ShapelayerModel", name := "paintNested", desc := "(IIII)V" } : Jvm.MethodName)) ∈ lw_all := lw_g (lw_at lw_m9 162 rfl) rfl
theorem q2141 : (Jvm.Cond.code ({ cls := "ShapelayerModel", name := "paintNested", desc := "(IIII)V" } : Jvm.MethodName) prog_20_method_53_code (7 : Nat) (Option.none : Option Jvm.ClassFile.FieldType)) ∈ lw_all := lw_g (lw_at lw_m9 163 rfl) rfl
theorem q2143 : (Jvm.Cond.instanceMethod ({ cls := "ShapelayerModel", name := "covered", desc := "(II)I" } : Jvm.MethodName)) ∈ lw_all := lw_g (lw_at lw_m9 165 rfl) rfl
theorem q2144 : (Jvm.Cond.selects "ShapelayerModel" ({ cls := "ShapelayerModel", name := "covered", desc := "(II)I" } : Jvm.MethodName) ({ cls := "ShapelayerModel", name := "covered", desc := "(II)I" } : Jvm.MethodName)) ∈ lw_all := lw_g (lw_at lw_m9 166 rfl) rfl
theorem q2145 : (Jvm.Cond.code ({ cls := "ShapelayerModel", name := "covered", desc := "(II)I" } : Jvm.MethodName) prog_20_method_61_code (3 : Nat) (Option.some Jvm.ClassFile.FieldType.int)) ∈ lw_all := lw_g (lw_at lw_m9 167 rfl) rfl
theorem q2146 : (Jvm.Cond.methodLink "ShapelayerModel" (280 : Nat) ({ cls := "ShapelayerModel", name := "countCovered", desc := "(II)I" } : Jvm.MethodName)) ∈ lw_all := lw_g (lw_at lw_m9 168 rfl) rfl
theorem q2147 : (Jvm.Cond.privateMethod ({ cls := "ShapelayerModel", name := "countCovered", desc := "(II)I" } : Jvm.MethodName)) ∈ lw_tbl := lw_at lw_m9 169 rfl
theorem q2148 : (Jvm.Cond.instanceMethod ({ cls := "ShapelayerModel", name := "countCovered", desc := "(II)I" } : Jvm.MethodName)) ∈ lw_all := lw_g (lw_at lw_m9 170 rfl) rfl
theorem q2149 : (Jvm.Cond.code ({ cls := "ShapelayerModel", name := "countCovered", desc := "(II)I" } : Jvm.MethodName) prog_20_method_60_code (5 : Nat) (Option.some Jvm.ClassFile.FieldType.int)) ∈ lw_all := lw_g (lw_at lw_m9 171 rfl) rfl
theorem q2151 : (Jvm.Cond.instanceMethod ({ cls := "ShapelayerModel", name := "checksum", desc := "(II)I" } : Jvm.MethodName)) ∈ lw_all := lw_g (lw_at lw_m9 173 rfl) rfl
theorem q2152 : (Jvm.Cond.selects "ShapelayerModel" ({ cls := "ShapelayerModel", name := "checksum", desc := "(II)I" } : Jvm.MethodName) ({ cls := "ShapelayerModel", name := "checksum", desc := "(II)I" } : Jvm.MethodName)) ∈ lw_all := lw_g (lw_at lw_m9 174 rfl) rfl
theorem q2153 : (Jvm.Cond.code ({ cls := "ShapelayerModel", name := "checksum", desc := "(II)I" } : Jvm.MethodName) prog_20_method_62_code (5 : Nat) (Option.some Jvm.ClassFile.FieldType.int)) ∈ lw_all := lw_g (lw_at lw_m9 175 rfl) rfl
theorem q2155 : (Jvm.Cond.instanceMethod ({ cls := "ShapelayerModel", name := "playErrors", desc := "(III)I" } : Jvm.MethodName)) ∈ lw_all := lw_g (lw_at lw_m9 177 rfl) rfl
theorem q2156 : (Jvm.Cond.selects "ShapelayerModel" ({ cls := "ShapelayerModel", name := "playErrors", desc := "(III)I" } : Jvm.MethodName) ({ cls := "ShapelayerModel", name := "playErrors", desc := "(III)I" } : Jvm.MethodName)) ∈ lw_all := lw_g (lw_at lw_m9 178 rfl) rfl
theorem q2157 : (Jvm.Cond.code ({ cls := "ShapelayerModel", name := "playErrors", desc := "(III)I" } : Jvm.MethodName) prog_20_method_63_code (5 : Nat) (Option.some Jvm.ClassFile.FieldType.int)) ∈ lw_all := lw_g (lw_at lw_m9 179 rfl) rfl
theorem q2159 : (Jvm.Cond.instanceMethod ({ cls := "ShapelayerModel", name := "writeRow", desc := "(III)I" } : Jvm.MethodName)) ∈ lw_all := lw_g (lw_at lw_m9 181 rfl) rfl
theorem q2160 : (Jvm.Cond.selects "ShapelayerModel" ({ cls := "ShapelayerModel", name := "writeRow", desc := "(III)I" } : Jvm.MethodName) ({ cls := "ShapelayerModel", name := "writeRow", desc := "(III)I" } : Jvm.MethodName)) ∈ lw_all := lw_g (lw_at lw_m9 182 rfl) rfl
theorem q2161 : (Jvm.Cond.code ({ cls := "ShapelayerModel", name := "writeRow", desc := "(III)I" } : Jvm.MethodName) prog_20_method_67_code (6 : Nat) (Option.some Jvm.ClassFile.FieldType.int)) ∈ lw_all := lw_g (lw_at lw_m9 183 rfl) rfl
theorem q2162 : (Jvm.Cond.methodLink "ShapelayerModel" (283 : Nat) ({ cls := "ShapelayerModel", name := "put", desc := "(I)V" } : Jvm.MethodName)) ∈ lw_all := lw_g (lw_at lw_m9 184 rfl) rfl
theorem q2163 : (Jvm.Cond.privateMethod ({ cls := "ShapelayerModel", name := "put", desc := "(I)V" } : Jvm.MethodName)) ∈ lw_tbl := lw_at lw_m9 185 rfl
theorem q2164 : (Jvm.Cond.instanceMethod ({ cls := "ShapelayerModel", name := "put", desc := "(I)V" } : Jvm.MethodName)) ∈ lw_all := lw_g (lw_at lw_m9 186 rfl) rfl
theorem q2165 : (Jvm.Cond.code ({ cls := "ShapelayerModel", name := "put", desc := "(I)V" } : Jvm.MethodName) prog_20_method_64_code (2 : Nat) (Option.none : Option Jvm.ClassFile.FieldType)) ∈ lw_all := lw_g (lw_at lw_m9 187 rfl) rfl
theorem q2167 : (Jvm.Cond.instanceMethod ({ cls := "ShapelayerModel", name := "write", desc := "(I)I" } : Jvm.MethodName)) ∈ lw_all := lw_g (lw_at lw_m9 189 rfl) rfl
theorem q2168 : (Jvm.Cond.selects "ShapelayerModel" ({ cls := "ShapelayerModel", name := "write", desc := "(I)I" } : Jvm.MethodName) ({ cls := "ShapelayerModel", name := "write", desc := "(I)I" } : Jvm.MethodName)) ∈ lw_all := lw_g (lw_at lw_m9 190 rfl) rfl
theorem q2169 : (Jvm.Cond.code ({ cls := "ShapelayerModel", name := "write", desc := "(I)I" } : Jvm.MethodName) prog_20_method_70_code (2 : Nat) (Option.some Jvm.ClassFile.FieldType.int)) ∈ lw_all := lw_g (lw_at lw_m9 191 rfl) rfl
theorem q2170 : (Jvm.Cond.methodLink "ShapelayerModel" (293 : Nat) ({ cls := "ShapelayerModel", name := "putKind", desc := "(I)V" } : Jvm.MethodName)) ∈ lw_all := lw_g (lw_at lw_m9 192 rfl) rfl
theorem q2171 : (Jvm.Cond.privateMethod ({ cls := "ShapelayerModel", name := "putKind", desc := "(I)V" } : Jvm.MethodName)) ∈ lw_tbl := lw_at lw_m9 193 rfl
theorem q2172 : (Jvm.Cond.instanceMethod ({ cls := "ShapelayerModel", name := "putKind", desc := "(I)V" } : Jvm.MethodName)) ∈ lw_all := lw_g (lw_at lw_m9 194 rfl) rfl
theorem q2173 : (Jvm.Cond.code ({ cls := "ShapelayerModel", name := "putKind", desc := "(I)V" } : Jvm.MethodName) prog_20_method_68_code (2 : Nat) (Option.none : Option Jvm.ClassFile.FieldType)) ∈ lw_all := lw_g (lw_at lw_m9 195 rfl) rfl
theorem q2174 : (Jvm.Cond.methodLink "ShapelayerModel" (286 : Nat) ({ cls := "ShapelayerModel", name := "putWord", desc := "(IIIIII)V" } : Jvm.MethodName)) ∈ lw_all := lw_g (lw_at lw_m9 196 rfl) rfl
theorem q2175 : (Jvm.Cond.privateMethod ({ cls := "ShapelayerModel", name := "putWord", desc := "(IIIIII)V" } : Jvm.MethodName)) ∈ lw_tbl := lw_at lw_m9 197 rfl
theorem q2176 : (Jvm.Cond.instanceMethod ({ cls := "ShapelayerModel", name := "putWord", desc := "(IIIIII)V" } : Jvm.MethodName)) ∈ lw_all := lw_g (lw_at lw_m9 198 rfl) rfl
theorem q2177 : (Jvm.Cond.code ({ cls := "ShapelayerModel", name := "putWord", desc := "(IIIIII)V" } : Jvm.MethodName) prog_20_method_66_code (9 : Nat) (Option.none : Option Jvm.ClassFile.FieldType)) ∈ lw_all := lw_g (lw_at lw_m9 199 rfl) rfl
theorem q2178 : (Jvm.Cond.methodLink "ShapelayerModel" (290 : Nat) ({ cls := "ShapelayerModel", name := "putNumber", desc := "(I)V" } : Jvm.MethodName)) ∈ lw_all := lw_g (lw_at lw_m9 200 rfl) rfl
theorem q2179 : (Jvm.Cond.privateMethod ({ cls := "ShapelayerModel", name := "putNumber", desc := "(I)V" } : Jvm.MethodName)) ∈ lw_tbl := lw_at lw_m9 201 rfl
theorem q2180 : (Jvm.Cond.instanceMethod ({ cls := "ShapelayerModel", name := "putNumber", desc := "(I)V" } : Jvm.MethodName)) ∈ lw_all := lw_g (lw_at lw_m9 202 rfl) rfl
theorem q2181 : (Jvm.Cond.code ({ cls := "ShapelayerModel", name := "putNumber", desc := "(I)V" } : Jvm.MethodName) prog_20_method_65_code (2 : Nat) (Option.none : Option Jvm.ClassFile.FieldType)) ∈ lw_all := lw_g (lw_at lw_m9 203 rfl) rfl
theorem q2182 : (Jvm.Cond.methodLink "ShapelayerModel" (296 : Nat) ({ cls := "ShapelayerModel", name := "putSizes", desc := "(I)V" } : Jvm.MethodName)) ∈ lw_all := lw_g (lw_at lw_m9 204 rfl) rfl
theorem q2183 : (Jvm.Cond.privateMethod ({ cls := "ShapelayerModel", name := "putSizes", desc := "(I)V" } : Jvm.MethodName)) ∈ lw_tbl := lw_at lw_m9 205 rfl
theorem q2184 : (Jvm.Cond.instanceMethod ({ cls := "ShapelayerModel", name := "putSizes", desc := "(I)V" } : Jvm.MethodName)) ∈ lw_all := lw_g (lw_at lw_m9 206 rfl) rfl
theorem q2185 : (Jvm.Cond.code ({ cls := "ShapelayerModel", name := "putSizes", desc := "(I)V" } : Jvm.MethodName) prog_20_method_69_code (2 : Nat) (Option.none : Option Jvm.ClassFile.FieldType)) ∈ lw_all := lw_g (lw_at lw_m9 207 rfl) rfl
theorem q2187 : (Jvm.Cond.instanceMethod ({ cls := "ShapelayerModel", name := "outputByte", desc := "(I)I" } : Jvm.MethodName)) ∈ lw_all := lw_g (lw_at lw_m9 209 rfl) rfl
theorem q2188 : (Jvm.Cond.selects "ShapelayerModel" ({ cls := "ShapelayerModel", name := "outputByte", desc := "(I)I" } : Jvm.MethodName) ({ cls := "ShapelayerModel", name := "outputByte", desc := "(I)I" } : Jvm.MethodName)) ∈ lw_all := lw_g (lw_at lw_m9 210 rfl) rfl
theorem q2189 : (Jvm.Cond.code ({ cls := "ShapelayerModel", name := "outputByte", desc := "(I)I" } : Jvm.MethodName) prog_20_method_71_code (2 : Nat) (Option.some Jvm.ClassFile.FieldType.int)) ∈ lw_all := lw_g (lw_at lw_m9 211 rfl) rfl
theorem q2191 : (Jvm.Cond.instanceMethod ({ cls := "ShapelayerModel", name := "meanKeys", desc := "()D" } : Jvm.MethodName)) ∈ lw_all := lw_g (lw_at lw_m9 213 rfl) rfl
theorem q2192 : (Jvm.Cond.selects "ShapelayerModel" ({ cls := "ShapelayerModel", name := "meanKeys", desc := "()D" } : Jvm.MethodName) ({ cls := "ShapelayerModel", name := "meanKeys", desc := "()D" } : Jvm.MethodName)) ∈ lw_all := lw_g (lw_at lw_m9 214 rfl) rfl
theorem q2193 : (Jvm.Cond.code ({ cls := "ShapelayerModel", name := "meanKeys", desc := "()D" } : Jvm.MethodName) prog_20_method_72_code (5 : Nat) (Option.some Jvm.ClassFile.FieldType.double)) ∈ lw_all := lw_g (lw_at lw_m9 215 rfl) rfl
theorem q2195 : (Jvm.Cond.instanceMethod ({ cls := "ShapelayerModel", name := "coveredPart", desc := "(II)F" } : Jvm.MethodName)) ∈ lw_all := lw_g (lw_at lw_m9 217 rfl) rfl
theorem q2196 : (Jvm.Cond.selects "ShapelayerModel" ({ cls := "ShapelayerModel", name := "coveredPart", desc := "(II)F" } : Jvm.MethodName) ({ cls := "ShapelayerModel", name := "coveredPart", desc := "(II)F" } : Jvm.MethodName)) ∈ lw_all := lw_g (lw_at lw_m9 218 rfl) rfl
theorem q2197 : (Jvm.Cond.code ({ cls := "ShapelayerModel", name := "coveredPart", desc := "(II)F" } : Jvm.MethodName) prog_20_method_73_code (3 : Nat) (Option.some Jvm.ClassFile.FieldType.float)) ∈ lw_all := lw_g (lw_at lw_m9 219 rfl) rfl
theorem q2198 : (Jvm.Cond.constantFloat "ShapelayerModel" (299 : Nat) (1128267776 : UInt32)) ∈ lw_all := lw_g (lw_at lw_m9 220 rfl) rfl
theorem q2231 : (Jvm.Cond.castable "ShapelayerModel" "java/lang/Object") ∈ lw_tbl := lw_at lw_m10 13 rfl
theorem in_X3 : ∀ w ∈ wsX30, w ∈ lw_all := lw_in wsX30 [1833, 1835, 1837, 1839, 1841, 1843, 1845, 1847, 1849, 1851, 1853, 1855, 1857, 1859, 1861, 1863, 1865, 1867, 1869, 1871, 1873, 1875, 1877, 1879, 1881, 1883, 1885, 1887, 1889, 1891] (by decide +kernel) (by decide +kernel)
