/-! java/lang/Math -/
set_option maxRecDepth 100000
def RJ13 : String := "java/lang/Math"
abbrev cJ13_max : ByteArray := prog_35_method_65_code
def yJ13_max : MethodName := ⟨RJ13, "max", "(II)I"⟩
def dkwJ13_max_0 : List UInt8 := [26, 27, 161, 0, 7, 26, 167, 0, 4, 27, 172]
abbrev dktJ13_max_0 : List UInt8 := dkwJ13_max_0 ++ []
theorem dksJ13_max_0 : cJ13_max.data.toList.drop 0 = dktJ13_max_0 := by decide +kernel
theorem dJ13_max_0 : decode cJ13_max 0 = .ok (.iload_n 0, 1) := dk_26 (dk_at dksJ13_max_0 0 rfl rfl)
theorem dJ13_max_1 : decode cJ13_max 1 = .ok (.iload_n 1, 1) := dk_27 (dk_at dksJ13_max_0 1 rfl rfl)
theorem dJ13_max_2 : decode cJ13_max 2 = .ok (.if_icmp .lt 7, 3) := dk_161 0 7 (dk_at dksJ13_max_0 2 rfl rfl)
theorem dJ13_max_5 : decode cJ13_max 5 = .ok (.iload_n 0, 1) := dk_26 (dk_at dksJ13_max_0 5 rfl rfl)
theorem dJ13_max_6 : decode cJ13_max 6 = .ok (.goto 4, 3) := dk_167 0 4 (dk_at dksJ13_max_0 6 rfl rfl)
theorem dJ13_max_9 : decode cJ13_max 9 = .ok (.iload_n 1, 1) := dk_27 (dk_at dksJ13_max_0 9 rfl rfl)
theorem dJ13_max_10 : decode cJ13_max 10 = .ok (.ireturn, 1) := dk_172 (dk_at dksJ13_max_0 10 rfl rfl)
abbrev cJ13_min : ByteArray := prog_35_method_69_code
def yJ13_min : MethodName := ⟨RJ13, "min", "(II)I"⟩
def dkwJ13_min_0 : List UInt8 := [26, 27, 163, 0, 7, 26, 167, 0, 4, 27, 172]
abbrev dktJ13_min_0 : List UInt8 := dkwJ13_min_0 ++ []
theorem dksJ13_min_0 : cJ13_min.data.toList.drop 0 = dktJ13_min_0 := by decide +kernel
theorem dJ13_min_0 : decode cJ13_min 0 = .ok (.iload_n 0, 1) := dk_26 (dk_at dksJ13_min_0 0 rfl rfl)
theorem dJ13_min_1 : decode cJ13_min 1 = .ok (.iload_n 1, 1) := dk_27 (dk_at dksJ13_min_0 1 rfl rfl)
theorem dJ13_min_2 : decode cJ13_min 2 = .ok (.if_icmp .gt 7, 3) := dk_163 0 7 (dk_at dksJ13_min_0 2 rfl rfl)
theorem dJ13_min_5 : decode cJ13_min 5 = .ok (.iload_n 0, 1) := dk_26 (dk_at dksJ13_min_0 5 rfl rfl)
theorem dJ13_min_6 : decode cJ13_min 6 = .ok (.goto 4, 3) := dk_167 0 4 (dk_at dksJ13_min_0 6 rfl rfl)
theorem dJ13_min_9 : decode cJ13_min 9 = .ok (.iload_n 1, 1) := dk_27 (dk_at dksJ13_min_0 9 rfl rfl)
theorem dJ13_min_10 : decode cJ13_min 10 = .ok (.ireturn, 1) := dk_172 (dk_at dksJ13_min_0 10 rfl rfl)
abbrev cJ13_abs : ByteArray := prog_35_method_59_code
def yJ13_abs : MethodName := ⟨RJ13, "abs", "(I)I"⟩
def dkwJ13_abs_0 : List UInt8 := [26, 156, 0, 8, 26, 116, 167, 0, 4, 26, 172]
abbrev dktJ13_abs_0 : List UInt8 := dkwJ13_abs_0 ++ []
theorem dksJ13_abs_0 : cJ13_abs.data.toList.drop 0 = dktJ13_abs_0 := by decide +kernel
theorem dJ13_abs_0 : decode cJ13_abs 0 = .ok (.iload_n 0, 1) := dk_26 (dk_at dksJ13_abs_0 0 rfl rfl)
theorem dJ13_abs_1 : decode cJ13_abs 1 = .ok (.ifCond .ge 8, 3) := dk_156 0 8 (dk_at dksJ13_abs_0 1 rfl rfl)
theorem dJ13_abs_4 : decode cJ13_abs 4 = .ok (.iload_n 0, 1) := dk_26 (dk_at dksJ13_abs_0 4 rfl rfl)
theorem dJ13_abs_5 : decode cJ13_abs 5 = .ok (.ineg, 1) := dk_116 (dk_at dksJ13_abs_0 5 rfl rfl)
theorem dJ13_abs_6 : decode cJ13_abs 6 = .ok (.goto 4, 3) := dk_167 0 4 (dk_at dksJ13_abs_0 6 rfl rfl)
theorem dJ13_abs_9 : decode cJ13_abs 9 = .ok (.iload_n 0, 1) := dk_26 (dk_at dksJ13_abs_0 9 rfl rfl)
theorem dJ13_abs_10 : decode cJ13_abs 10 = .ok (.ireturn, 1) := dk_172 (dk_at dksJ13_abs_0 10 rfl rfl)
abbrev cJ13_floorDiv : ByteArray := prog_35_method_49_code
def yJ13_floorDiv : MethodName := ⟨RJ13, "floorDiv", "(JJ)J"⟩
def dkwJ13_floorDiv_1 : List UInt8 := [10, 101, 173, 22, 4, 173]
abbrev dktJ13_floorDiv_1 : List UInt8 := dkwJ13_floorDiv_1 ++ []
def dkwJ13_floorDiv_0 : List UInt8 := [30, 32, 109, 55, 4, 30, 32, 131, 9, 148, 156, 0, 17, 22, 4, 32, 105, 30, 148, 153, 0, 8, 22, 4]
abbrev dktJ13_floorDiv_0 : List UInt8 := dkwJ13_floorDiv_0 ++ dktJ13_floorDiv_1
theorem dksJ13_floorDiv_0 : cJ13_floorDiv.data.toList.drop 0 = dktJ13_floorDiv_0 := by decide +kernel
theorem dksJ13_floorDiv_1 : cJ13_floorDiv.data.toList.drop 24 = dktJ13_floorDiv_1 := dk_seg dksJ13_floorDiv_0 24 rfl rfl
theorem dJ13_floorDiv_0 : decode cJ13_floorDiv 0 = .ok (.lload_n 0, 1) := dk_30 (dk_at dksJ13_floorDiv_0 0 rfl rfl)
theorem dJ13_floorDiv_1 : decode cJ13_floorDiv 1 = .ok (.lload_n 2, 1) := dk_32 (dk_at dksJ13_floorDiv_0 1 rfl rfl)
theorem dJ13_floorDiv_2 : decode cJ13_floorDiv 2 = .ok (.ldiv, 1) := dk_109 (dk_at dksJ13_floorDiv_0 2 rfl rfl)
theorem dJ13_floorDiv_3 : decode cJ13_floorDiv 3 = .ok (.lstore 4, 2) := dk_55 4 (dk_at dksJ13_floorDiv_0 3 rfl rfl)
theorem dJ13_floorDiv_5 : decode cJ13_floorDiv 5 = .ok (.lload_n 0, 1) := dk_30 (dk_at dksJ13_floorDiv_0 5 rfl rfl)
theorem dJ13_floorDiv_6 : decode cJ13_floorDiv 6 = .ok (.lload_n 2, 1) := dk_32 (dk_at dksJ13_floorDiv_0 6 rfl rfl)
theorem dJ13_floorDiv_7 : decode cJ13_floorDiv 7 = .ok (.lxor, 1) := dk_131 (dk_at dksJ13_floorDiv_0 7 rfl rfl)
theorem dJ13_floorDiv_8 : decode cJ13_floorDiv 8 = .ok (.lconst 0, 1) := dk_9 (dk_at dksJ13_floorDiv_0 8 rfl rfl)
theorem dJ13_floorDiv_9 : decode cJ13_floorDiv 9 = .ok (.lcmp, 1) := dk_148 (dk_at dksJ13_floorDiv_0 9 rfl rfl)
theorem dJ13_floorDiv_10 : decode cJ13_floorDiv 10 = .ok (.ifCond .ge 17, 3) := dk_156 0 17 (dk_at dksJ13_floorDiv_0 10 rfl rfl)
theorem dJ13_floorDiv_13 : decode cJ13_floorDiv 13 = .ok (.lload 4, 2) := dk_22 4 (dk_at dksJ13_floorDiv_0 13 rfl rfl)
theorem dJ13_floorDiv_15 : decode cJ13_floorDiv 15 = .ok (.lload_n 2, 1) := dk_32 (dk_at dksJ13_floorDiv_0 15 rfl rfl)
theorem dJ13_floorDiv_16 : decode cJ13_floorDiv 16 = .ok (.lmul, 1) := dk_105 (dk_at dksJ13_floorDiv_0 16 rfl rfl)
theorem dJ13_floorDiv_17 : decode cJ13_floorDiv 17 = .ok (.lload_n 0, 1) := dk_30 (dk_at dksJ13_floorDiv_0 17 rfl rfl)
theorem dJ13_floorDiv_18 : decode cJ13_floorDiv 18 = .ok (.lcmp, 1) := dk_148 (dk_at dksJ13_floorDiv_0 18 rfl rfl)
theorem dJ13_floorDiv_19 : decode cJ13_floorDiv 19 = .ok (.ifCond .eq 8, 3) := dk_153 0 8 (dk_at dksJ13_floorDiv_0 19 rfl rfl)
theorem dJ13_floorDiv_22 : decode cJ13_floorDiv 22 = .ok (.lload 4, 2) := dk_22 4 (dk_at dksJ13_floorDiv_0 22 rfl rfl)
theorem dJ13_floorDiv_24 : decode cJ13_floorDiv 24 = .ok (.lconst 1, 1) := dk_10 (dk_at dksJ13_floorDiv_1 0 rfl rfl)
theorem dJ13_floorDiv_25 : decode cJ13_floorDiv 25 = .ok (.lsub, 1) := dk_101 (dk_at dksJ13_floorDiv_1 1 rfl rfl)
theorem dJ13_floorDiv_26 : decode cJ13_floorDiv 26 = .ok (.lreturn, 1) := dk_173 (dk_at dksJ13_floorDiv_1 2 rfl rfl)
theorem dJ13_floorDiv_27 : decode cJ13_floorDiv 27 = .ok (.lload 4, 2) := dk_22 4 (dk_at dksJ13_floorDiv_1 3 rfl rfl)
theorem dJ13_floorDiv_29 : decode cJ13_floorDiv 29 = .ok (.lreturn, 1) := dk_173 (dk_at dksJ13_floorDiv_1 5 rfl rfl)
abbrev cJ13_floorMod : ByteArray := prog_35_method_50_code
def yJ13_floorMod : MethodName := ⟨RJ13, "floorMod", "(II)I"⟩
def dkwJ13_floorMod_0 : List UInt8 := [26, 27, 112, 61, 26, 27, 130, 156, 0, 11, 28, 153, 0, 7, 28, 27, 96, 172, 28, 172]
abbrev dktJ13_floorMod_0 : List UInt8 := dkwJ13_floorMod_0 ++ []
theorem dksJ13_floorMod_0 : cJ13_floorMod.data.toList.drop 0 = dktJ13_floorMod_0 := by decide +kernel
theorem dJ13_floorMod_0 : decode cJ13_floorMod 0 = .ok (.iload_n 0, 1) := dk_26 (dk_at dksJ13_floorMod_0 0 rfl rfl)
theorem dJ13_floorMod_1 : decode cJ13_floorMod 1 = .ok (.iload_n 1, 1) := dk_27 (dk_at dksJ13_floorMod_0 1 rfl rfl)
theorem dJ13_floorMod_2 : decode cJ13_floorMod 2 = .ok (.irem, 1) := dk_112 (dk_at dksJ13_floorMod_0 2 rfl rfl)
theorem dJ13_floorMod_3 : decode cJ13_floorMod 3 = .ok (.istore_n 2, 1) := dk_61 (dk_at dksJ13_floorMod_0 3 rfl rfl)
theorem dJ13_floorMod_4 : decode cJ13_floorMod 4 = .ok (.iload_n 0, 1) := dk_26 (dk_at dksJ13_floorMod_0 4 rfl rfl)
theorem dJ13_floorMod_5 : decode cJ13_floorMod 5 = .ok (.iload_n 1, 1) := dk_27 (dk_at dksJ13_floorMod_0 5 rfl rfl)
theorem dJ13_floorMod_6 : decode cJ13_floorMod 6 = .ok (.ixor, 1) := dk_130 (dk_at dksJ13_floorMod_0 6 rfl rfl)
theorem dJ13_floorMod_7 : decode cJ13_floorMod 7 = .ok (.ifCond .ge 11, 3) := dk_156 0 11 (dk_at dksJ13_floorMod_0 7 rfl rfl)
theorem dJ13_floorMod_10 : decode cJ13_floorMod 10 = .ok (.iload_n 2, 1) := dk_28 (dk_at dksJ13_floorMod_0 10 rfl rfl)
theorem dJ13_floorMod_11 : decode cJ13_floorMod 11 = .ok (.ifCond .eq 7, 3) := dk_153 0 7 (dk_at dksJ13_floorMod_0 11 rfl rfl)
theorem dJ13_floorMod_14 : decode cJ13_floorMod 14 = .ok (.iload_n 2, 1) := dk_28 (dk_at dksJ13_floorMod_0 14 rfl rfl)
theorem dJ13_floorMod_15 : decode cJ13_floorMod 15 = .ok (.iload_n 1, 1) := dk_27 (dk_at dksJ13_floorMod_0 15 rfl rfl)
theorem dJ13_floorMod_16 : decode cJ13_floorMod 16 = .ok (.iadd, 1) := dk_96 (dk_at dksJ13_floorMod_0 16 rfl rfl)
theorem dJ13_floorMod_17 : decode cJ13_floorMod 17 = .ok (.ireturn, 1) := dk_172 (dk_at dksJ13_floorMod_0 17 rfl rfl)
theorem dJ13_floorMod_18 : decode cJ13_floorMod 18 = .ok (.iload_n 2, 1) := dk_28 (dk_at dksJ13_floorMod_0 18 rfl rfl)
theorem dJ13_floorMod_19 : decode cJ13_floorMod 19 = .ok (.ireturn, 1) := dk_172 (dk_at dksJ13_floorMod_0 19 rfl rfl)
abbrev cJ13_min_2 : ByteArray := prog_35_method_70_code
def yJ13_min_2 : MethodName := ⟨RJ13, "min", "(JJ)J"⟩
def dkwJ13_min_2_0 : List UInt8 := [30, 32, 148, 157, 0, 7, 30, 167, 0, 4, 32, 173]
abbrev dktJ13_min_2_0 : List UInt8 := dkwJ13_min_2_0 ++ []
theorem dksJ13_min_2_0 : cJ13_min_2.data.toList.drop 0 = dktJ13_min_2_0 := by decide +kernel
theorem dJ13_min_2_0 : decode cJ13_min_2 0 = .ok (.lload_n 0, 1) := dk_30 (dk_at dksJ13_min_2_0 0 rfl rfl)
theorem dJ13_min_2_1 : decode cJ13_min_2 1 = .ok (.lload_n 2, 1) := dk_32 (dk_at dksJ13_min_2_0 1 rfl rfl)
theorem dJ13_min_2_2 : decode cJ13_min_2 2 = .ok (.lcmp, 1) := dk_148 (dk_at dksJ13_min_2_0 2 rfl rfl)
theorem dJ13_min_2_3 : decode cJ13_min_2 3 = .ok (.ifCond .gt 7, 3) := dk_157 0 7 (dk_at dksJ13_min_2_0 3 rfl rfl)
theorem dJ13_min_2_6 : decode cJ13_min_2 6 = .ok (.lload_n 0, 1) := dk_30 (dk_at dksJ13_min_2_0 6 rfl rfl)
theorem dJ13_min_2_7 : decode cJ13_min_2 7 = .ok (.goto 4, 3) := dk_167 0 4 (dk_at dksJ13_min_2_0 7 rfl rfl)
theorem dJ13_min_2_10 : decode cJ13_min_2 10 = .ok (.lload_n 2, 1) := dk_32 (dk_at dksJ13_min_2_0 10 rfl rfl)
theorem dJ13_min_2_11 : decode cJ13_min_2 11 = .ok (.lreturn, 1) := dk_173 (dk_at dksJ13_min_2_0 11 rfl rfl)
abbrev cJ13_max_2 : ByteArray := prog_35_method_66_code
def yJ13_max_2 : MethodName := ⟨RJ13, "max", "(JJ)J"⟩
def dkwJ13_max_2_0 : List UInt8 := [30, 32, 148, 155, 0, 7, 30, 167, 0, 4, 32, 173]
abbrev dktJ13_max_2_0 : List UInt8 := dkwJ13_max_2_0 ++ []
theorem dksJ13_max_2_0 : cJ13_max_2.data.toList.drop 0 = dktJ13_max_2_0 := by decide +kernel
theorem dJ13_max_2_0 : decode cJ13_max_2 0 = .ok (.lload_n 0, 1) := dk_30 (dk_at dksJ13_max_2_0 0 rfl rfl)
theorem dJ13_max_2_1 : decode cJ13_max_2 1 = .ok (.lload_n 2, 1) := dk_32 (dk_at dksJ13_max_2_0 1 rfl rfl)
theorem dJ13_max_2_2 : decode cJ13_max_2 2 = .ok (.lcmp, 1) := dk_148 (dk_at dksJ13_max_2_0 2 rfl rfl)
theorem dJ13_max_2_3 : decode cJ13_max_2 3 = .ok (.ifCond .lt 7, 3) := dk_155 0 7 (dk_at dksJ13_max_2_0 3 rfl rfl)
theorem dJ13_max_2_6 : decode cJ13_max_2 6 = .ok (.lload_n 0, 1) := dk_30 (dk_at dksJ13_max_2_0 6 rfl rfl)
theorem dJ13_max_2_7 : decode cJ13_max_2 7 = .ok (.goto 4, 3) := dk_167 0 4 (dk_at dksJ13_max_2_0 7 rfl rfl)
theorem dJ13_max_2_10 : decode cJ13_max_2 10 = .ok (.lload_n 2, 1) := dk_32 (dk_at dksJ13_max_2_0 10 rfl rfl)
theorem dJ13_max_2_11 : decode cJ13_max_2 11 = .ok (.lreturn, 1) := dk_173 (dk_at dksJ13_max_2_0 11 rfl rfl)
abbrev cJ13_floorDiv_2 : ByteArray := prog_35_method_47_code
def yJ13_floorDiv_2 : MethodName := ⟨RJ13, "floorDiv", "(II)I"⟩
def dkwJ13_floorDiv_2_0 : List UInt8 := [26, 27, 108, 61, 26, 27, 130, 156, 0, 14, 28, 27, 104, 26, 159, 0, 7, 28, 4, 100, 172, 28, 172]
abbrev dktJ13_floorDiv_2_0 : List UInt8 := dkwJ13_floorDiv_2_0 ++ []
theorem dksJ13_floorDiv_2_0 : cJ13_floorDiv_2.data.toList.drop 0 = dktJ13_floorDiv_2_0 := by decide +kernel
theorem dJ13_floorDiv_2_0 : decode cJ13_floorDiv_2 0 = .ok (.iload_n 0, 1) := dk_26 (dk_at dksJ13_floorDiv_2_0 0 rfl rfl)
theorem dJ13_floorDiv_2_1 : decode cJ13_floorDiv_2 1 = .ok (.iload_n 1, 1) := dk_27 (dk_at dksJ13_floorDiv_2_0 1 rfl rfl)
theorem dJ13_floorDiv_2_2 : decode cJ13_floorDiv_2 2 = .ok (.idiv, 1) := dk_108 (dk_at dksJ13_floorDiv_2_0 2 rfl rfl)
theorem dJ13_floorDiv_2_3 : decode cJ13_floorDiv_2 3 = .ok (.istore_n 2, 1) := dk_61 (dk_at dksJ13_floorDiv_2_0 3 rfl rfl)
theorem dJ13_floorDiv_2_4 : decode cJ13_floorDiv_2 4 = .ok (.iload_n 0, 1) := dk_26 (dk_at dksJ13_floorDiv_2_0 4 rfl rfl)
theorem dJ13_floorDiv_2_5 : decode cJ13_floorDiv_2 5 = .ok (.iload_n 1, 1) := dk_27 (dk_at dksJ13_floorDiv_2_0 5 rfl rfl)
theorem dJ13_floorDiv_2_6 : decode cJ13_floorDiv_2 6 = .ok (.ixor, 1) := dk_130 (dk_at dksJ13_floorDiv_2_0 6 rfl rfl)
theorem dJ13_floorDiv_2_7 : decode cJ13_floorDiv_2 7 = .ok (.ifCond .ge 14, 3) := dk_156 0 14 (dk_at dksJ13_floorDiv_2_0 7 rfl rfl)
theorem dJ13_floorDiv_2_10 : decode cJ13_floorDiv_2 10 = .ok (.iload_n 2, 1) := dk_28 (dk_at dksJ13_floorDiv_2_0 10 rfl rfl)
theorem dJ13_floorDiv_2_11 : decode cJ13_floorDiv_2 11 = .ok (.iload_n 1, 1) := dk_27 (dk_at dksJ13_floorDiv_2_0 11 rfl rfl)
theorem dJ13_floorDiv_2_12 : decode cJ13_floorDiv_2 12 = .ok (.imul, 1) := dk_104 (dk_at dksJ13_floorDiv_2_0 12 rfl rfl)
theorem dJ13_floorDiv_2_13 : decode cJ13_floorDiv_2 13 = .ok (.iload_n 0, 1) := dk_26 (dk_at dksJ13_floorDiv_2_0 13 rfl rfl)
theorem dJ13_floorDiv_2_14 : decode cJ13_floorDiv_2 14 = .ok (.if_icmp .eq 7, 3) := dk_159 0 7 (dk_at dksJ13_floorDiv_2_0 14 rfl rfl)
theorem dJ13_floorDiv_2_17 : decode cJ13_floorDiv_2 17 = .ok (.iload_n 2, 1) := dk_28 (dk_at dksJ13_floorDiv_2_0 17 rfl rfl)
theorem dJ13_floorDiv_2_18 : decode cJ13_floorDiv_2 18 = .ok (.iconst 1, 1) := dk_4 (dk_at dksJ13_floorDiv_2_0 18 rfl rfl)
theorem dJ13_floorDiv_2_19 : decode cJ13_floorDiv_2 19 = .ok (.isub, 1) := dk_100 (dk_at dksJ13_floorDiv_2_0 19 rfl rfl)
theorem dJ13_floorDiv_2_20 : decode cJ13_floorDiv_2 20 = .ok (.ireturn, 1) := dk_172 (dk_at dksJ13_floorDiv_2_0 20 rfl rfl)
theorem dJ13_floorDiv_2_21 : decode cJ13_floorDiv_2 21 = .ok (.iload_n 2, 1) := dk_28 (dk_at dksJ13_floorDiv_2_0 21 rfl rfl)
theorem dJ13_floorDiv_2_22 : decode cJ13_floorDiv_2 22 = .ok (.ireturn, 1) := dk_172 (dk_at dksJ13_floorDiv_2_0 22 rfl rfl)
theorem q75 : (Jvm.Cond.initialized "java/lang/Math") ∈ lw_all := lw_g (lw_at lw_m1 17 rfl) rfl
theorem q281 : (Jvm.Cond.static ({ cls := "java/lang/Math", name := "max", desc := "(II)I" } : Jvm.MethodName)) ∈ lw_all := lw_g (lw_at lw_m1 223 rfl) rfl
theorem q282 : (Jvm.Cond.code ({ cls := "java/lang/Math", name := "max", desc := "(II)I" } : Jvm.MethodName) prog_35_method_65_code (2 : Nat) (Option.some Jvm.ClassFile.FieldType.int)) ∈ lw_all := lw_g (lw_at lw_m1 224 rfl) rfl
theorem q299 : (Jvm.Cond.static ({ cls := "java/lang/Math", name := "min", desc := "(II)I" } : Jvm.MethodName)) ∈ lw_all := lw_g (lw_at lw_m2 1 rfl) rfl
theorem q300 : (Jvm.Cond.code ({ cls := "java/lang/Math", name := "min", desc := "(II)I" } : Jvm.MethodName) prog_35_method_69_code (2 : Nat) (Option.some Jvm.ClassFile.FieldType.int)) ∈ lw_all := lw_g (lw_at lw_m2 2 rfl) rfl
theorem q952 : (Jvm.Cond.static ({ cls := "java/lang/Math", name := "abs", desc := "(I)I" } : Jvm.MethodName)) ∈ lw_all := lw_g (lw_at lw_m4 174 rfl) rfl
theorem q953 : (Jvm.Cond.code ({ cls := "java/lang/Math", name := "abs", desc := "(I)I" } : Jvm.MethodName) prog_35_method_59_code (1 : Nat) (Option.some Jvm.ClassFile.FieldType.int)) ∈ lw_all := lw_g (lw_at lw_m4 175 rfl) rfl
theorem q1359 : (Jvm.Cond.static ({ cls := "java/lang/Math", name := "floorDiv", desc := "(JJ)J" } : Jvm.MethodName)) ∈ lw_all := lw_g (lw_at lw_m6 101 rfl) rfl
theorem q1360 : (Jvm.Cond.code ({ cls := "java/lang/Math", name := "floorDiv", desc := "(JJ)J" } : Jvm.MethodName) prog_35_method_49_code (6 : Nat) (Option.some Jvm.ClassFile.FieldType.long)) ∈ lw_all := lw_g (lw_at lw_m6 102 rfl) rfl
theorem q1392 : (Jvm.Cond.static ({ cls := "java/lang/Math", name := "floorMod", desc := "(II)I" } : Jvm.MethodName)) ∈ lw_all := lw_g (lw_at lw_m6 134 rfl) rfl
theorem q1393 : (Jvm.Cond.code ({ cls := "java/lang/Math", name := "floorMod", desc := "(II)I" } : Jvm.MethodName) prog_35_method_50_code (3 : Nat) (Option.some Jvm.ClassFile.FieldType.int)) ∈ lw_all := lw_g (lw_at lw_m6 135 rfl) rfl
theorem q1417 : (Jvm.Cond.static ({ cls := "java/lang/Math", name := "min", desc := "(JJ)J" } : Jvm.MethodName)) ∈ lw_all := lw_g (lw_at lw_m6 159 rfl) rfl
theorem q1418 : (Jvm.Cond.code ({ cls := "java/lang/Math", name := "min", desc := "(JJ)J" } : Jvm.MethodName) prog_35_method_70_code (4 : Nat) (Option.some Jvm.ClassFile.FieldType.long)) ∈ lw_all := lw_g (lw_at lw_m6 160 rfl) rfl
theorem q1420 : (Jvm.Cond.static ({ cls := "java/lang/Math", name := "max", desc := "(JJ)J" } : Jvm.MethodName)) ∈ lw_all := lw_g (lw_at lw_m6 162 rfl) rfl
theorem q1421 : (Jvm.Cond.code ({ cls := "java/lang/Math", name := "max", desc := "(JJ)J" } : Jvm.MethodName) prog_35_method_66_code (4 : Nat) (Option.some Jvm.ClassFile.FieldType.long)) ∈ lw_all := lw_g (lw_at lw_m6 163 rfl) rfl
theorem q2034 : (Jvm.Cond.static ({ cls := "java/lang/Math", name := "floorDiv", desc := "(II)I" } : Jvm.MethodName)) ∈ lw_all := lw_g (lw_at lw_m9 56 rfl) rfl
theorem q2035 : (Jvm.Cond.code ({ cls := "java/lang/Math", name := "floorDiv", desc := "(II)I" } : Jvm.MethodName) prog_35_method_47_code (3 : Nat) (Option.some Jvm.ClassFile.FieldType.int)) ∈ lw_all := lw_g (lw_at lw_m9 57 rfl) rfl
