/-! THE CLASSES of the system whose objects the heap's picture holds, and their fields (printed) -/
set_option maxRecDepth 100000
def xCl : List vw_C := [(RX1, TX1, 6), (RX2, TX2, 5), (RX4, TX4, 2), (RX7, TX7, 11), (RX9, TX9, 11), (RX11, TX11, 9), (RX12, TX12, 8), (RX8, TX8, 2), (RX13, TX13, 3), (RX15, (fun _ => ("", "", "", false)), 0), (RX16, (fun _ => ("", "", "", false)), 0), (RX17, (fun _ => ("", "", "", false)), 0), (RX10, TX10, 2), (RX18, TX18, 3), (RX19, TX19, 3), (RJ2, TJ2, 3), (RJ4, TJ4, 4), (RJ5, TJ5, 4), (RX3, TX3, 30)]
theorem xCl_in : ∀ (ci : Nat) (r : vw_C), xCl[ci]? = some r → ∀ w ∈ u_ws r.1 r.2.1 r.2.2, w ∈ lw_all := by
  intro ci r h
  rcases ci with _ | ci
  · cases h; exact in_X1
  rcases ci with _ | ci
  · cases h; exact in_X2
  rcases ci with _ | ci
  · cases h; exact in_X4
  rcases ci with _ | ci
  · cases h; exact in_X7
  rcases ci with _ | ci
  · cases h; exact in_X9
  rcases ci with _ | ci
  · cases h; exact in_X11
  rcases ci with _ | ci
  · cases h; exact in_X12
  rcases ci with _ | ci
  · cases h; exact in_X8
  rcases ci with _ | ci
  · cases h; exact in_X13
  rcases ci with _ | ci
  · cases h; exact fun w h => absurd h (by simp [u_ws])
  rcases ci with _ | ci
  · cases h; exact fun w h => absurd h (by simp [u_ws])
  rcases ci with _ | ci
  · cases h; exact fun w h => absurd h (by simp [u_ws])
  rcases ci with _ | ci
  · cases h; exact in_X10
  rcases ci with _ | ci
  · cases h; exact in_X18
  rcases ci with _ | ci
  · cases h; exact in_X19
  rcases ci with _ | ci
  · cases h; exact in_J2
  rcases ci with _ | ci
  · cases h; exact in_J4
  rcases ci with _ | ci
  · cases h; exact in_J5
  rcases ci with _ | ci
  · cases h; exact in_X3
  · simp [xCl] at h
theorem xCl_ty : ∀ (ci : Nat) (r : vw_C), xCl[ci]? = some r → (∃ ty : Nat → FieldType, ∀ k, k < r.2.2 → parseFieldDescriptor (r.2.1 k).2.2.1 = some (ty k)) ∧ ∀ a, a < r.2.2 → ∀ b, b < r.2.2 → a ≠ b → (r.2.1 a).2.1 ≠ (r.2.1 b).2.1 := by
  intro ci r h
  rcases ci with _ | ci
  · cases h; exact ⟨⟨tyX1, tyX1_ok⟩, nmX1⟩
  rcases ci with _ | ci
  · cases h; exact ⟨⟨tyX2, tyX2_ok⟩, nmX2⟩
  rcases ci with _ | ci
  · cases h; exact ⟨⟨tyX4, tyX4_ok⟩, nmX4⟩
  rcases ci with _ | ci
  · cases h; exact ⟨⟨tyX7, tyX7_ok⟩, nmX7⟩
  rcases ci with _ | ci
  · cases h; exact ⟨⟨tyX9, tyX9_ok⟩, nmX9⟩
  rcases ci with _ | ci
  · cases h; exact ⟨⟨tyX11, tyX11_ok⟩, nmX11⟩
  rcases ci with _ | ci
  · cases h; exact ⟨⟨tyX12, tyX12_ok⟩, nmX12⟩
  rcases ci with _ | ci
  · cases h; exact ⟨⟨tyX8, tyX8_ok⟩, nmX8⟩
  rcases ci with _ | ci
  · cases h; exact ⟨⟨tyX13, tyX13_ok⟩, nmX13⟩
  rcases ci with _ | ci
  · cases h; exact ⟨⟨fun _ => .int, fun k h => absurd h (Nat.not_lt_zero _)⟩, fun a h => absurd h (Nat.not_lt_zero _)⟩
  rcases ci with _ | ci
  · cases h; exact ⟨⟨fun _ => .int, fun k h => absurd h (Nat.not_lt_zero _)⟩, fun a h => absurd h (Nat.not_lt_zero _)⟩
  rcases ci with _ | ci
  · cases h; exact ⟨⟨fun _ => .int, fun k h => absurd h (Nat.not_lt_zero _)⟩, fun a h => absurd h (Nat.not_lt_zero _)⟩
  rcases ci with _ | ci
  · cases h; exact ⟨⟨tyX10, tyX10_ok⟩, nmX10⟩
  rcases ci with _ | ci
  · cases h; exact ⟨⟨tyX18, tyX18_ok⟩, nmX18⟩
  rcases ci with _ | ci
  · cases h; exact ⟨⟨tyX19, tyX19_ok⟩, nmX19⟩
  rcases ci with _ | ci
  · cases h; exact ⟨⟨tyJ2, tyJ2_ok⟩, nmJ2⟩
  rcases ci with _ | ci
  · cases h; exact ⟨⟨tyJ4, tyJ4_ok⟩, nmJ4⟩
  rcases ci with _ | ci
  · cases h; exact ⟨⟨tyJ5, tyJ5_ok⟩, nmJ5⟩
  rcases ci with _ | ci
  · cases h; exact ⟨⟨tyX3, tyX3_ok⟩, nmX3⟩
  · simp [xCl] at h
/-- a field: the classes that have it, its place there -/
def xFt : List (List Nat × Nat) := [([0], 0), ([0], 1), ([0], 2), ([0], 3), ([0], 4), ([0], 5), ([1], 0), ([1], 1), ([1], 2), ([1], 3), ([1], 4), ([2], 0), ([2], 1), ([3, 4, 5, 6], 0), ([3, 4, 5, 6], 1), ([3, 4, 5, 6], 2), ([3, 4, 5, 6], 3), ([3, 4, 5, 6], 4), ([3, 4, 5, 6], 5), ([3, 4, 5, 6], 6), ([3, 4, 5, 6], 7), ([3, 4], 8), ([3], 9), ([3], 10), ([4], 9), ([4], 10), ([5], 8), ([7], 0), ([7], 1), ([8], 0), ([8], 1), ([8], 2), ([12], 0), ([12], 1), ([13], 0), ([13], 1), ([13], 2), ([14], 0), ([14], 1), ([14], 2), ([15], 0), ([15], 1), ([15], 2), ([16], 0), ([16], 1), ([16], 2), ([16], 3), ([17, 81], 0), ([17, 81], 1), ([17], 2), ([17], 3), ([18], 0), ([18], 1), ([18], 2), ([18], 3), ([18], 4), ([18], 5), ([18], 6), ([18], 7), ([18], 8), ([18], 9), ([18], 10), ([18], 11), ([18], 12), ([18], 13), ([18], 14), ([18], 15), ([18], 16), ([18], 17), ([18], 18), ([18], 19), ([18], 20), ([18], 21), ([18], 22), ([18], 23), ([18], 24), ([18], 25), ([18], 26), ([18], 27), ([18], 28), ([18], 29)]
def xFc (F : Nat) : List Nat := (xFt.getD F ([], 0)).1
def xFp (F : Nat) : Nat := (xFt.getD F ([], 0)).2
def xFb (F : Nat) (ow nm ds : String) (fin : Bool) : Bool := (xFc F).all (fun ci => match xCl[ci % 64]? with | some r => decide (xFp F < r.2.2) && decide (r.2.1 (xFp F) = (ow, nm, ds, fin)) | none => false)
theorem xFb_0 : xFb 0 "Shapelayer" "compositions" "Ljava/util/List;" true = true := by decide +kernel
theorem xFb_1 : xFb 1 "Shapelayer" "made" "[LShapelayer$Layer;" false = true := by decide +kernel
theorem xFb_2 : xFb 2 "Shapelayer" "madeCount" "I" false = true := by decide +kernel
theorem xFb_3 : xFb 3 "Shapelayer" "kept" "Ljava/util/List;" true = true := by decide +kernel
theorem xFb_4 : xFb 4 "Shapelayer" "output" "Ljava/lang/StringBuilder;" true = true := by decide +kernel
theorem xFb_5 : xFb 5 "Shapelayer" "drawing" "LShapelayer$Raster;" true = true := by decide +kernel
theorem xFb_6 : xFb 6 "Shapelayer$Raster" "cells" "[B" true = true := by decide +kernel
theorem xFb_7 : xFb 7 "Shapelayer$Raster" "one" "[J" true = true := by decide +kernel
theorem xFb_8 : xFb 8 "Shapelayer$Raster" "other" "[J" true = true := by decide +kernel
theorem xFb_9 : xFb 9 "Shapelayer$Raster" "own" "LShapelayer$Raster;" false = true := by decide +kernel
theorem xFb_10 : xFb 10 "Shapelayer$Raster" "mask" "LShapelayer$Raster;" false = true := by decide +kernel
theorem xFb_11 : xFb 11 "Shapelayer$Composition" "number" "I" true = true := by decide +kernel
theorem xFb_12 : xFb 12 "Shapelayer$Composition" "layers" "Ljava/util/List;" true = true := by decide +kernel
theorem xFb_13 : xFb 13 "Shapelayer$Layer" "number" "I" true = true := by decide +kernel
theorem xFb_14 : xFb 14 "Shapelayer$Layer" "owner" "LShapelayer$Composition;" true = true := by decide +kernel
theorem xFb_15 : xFb 15 "Shapelayer$Layer" "values" "[LShapelayer$Keyed;" true = true := by decide +kernel
theorem xFb_16 : xFb 16 "Shapelayer$Layer" "parent" "LShapelayer$Layer;" false = true := by decide +kernel
theorem xFb_17 : xFb 17 "Shapelayer$Layer" "matte" "LShapelayer$Layer;" false = true := by decide +kernel
theorem xFb_18 : xFb 18 "Shapelayer$Layer" "isInverted" "Z" false = true := by decide +kernel
theorem xFb_19 : xFb 19 "Shapelayer$Layer" "from" "I" false = true := by decide +kernel
theorem xFb_20 : xFb 20 "Shapelayer$Layer" "end" "I" false = true := by decide +kernel
theorem xFb_21 : xFb 21 "Shapelayer$Coloured" "colour" "I" true = true := by decide +kernel
theorem xFb_22 : xFb 22 "Shapelayer$Rect" "width" "I" true = true := by decide +kernel
theorem xFb_23 : xFb 23 "Shapelayer$Rect" "height" "I" true = true := by decide +kernel
theorem xFb_24 : xFb 24 "Shapelayer$Stroke" "points" "Ljava/util/List;" true = true := by decide +kernel
theorem xFb_25 : xFb 25 "Shapelayer$Stroke" "length" "J" false = true := by decide +kernel
theorem xFb_26 : xFb 26 "Shapelayer$Nested" "shown" "LShapelayer$Composition;" true = true := by decide +kernel
theorem xFb_27 : xFb 27 "Shapelayer$Keyed" "first" "I" true = true := by decide +kernel
theorem xFb_28 : xFb 28 "Shapelayer$Keyed" "keys" "Ljava/util/List;" true = true := by decide +kernel
theorem xFb_29 : xFb 29 "Shapelayer$Key" "time" "I" true = true := by decide +kernel
theorem xFb_30 : xFb 30 "Shapelayer$Key" "number" "I" true = true := by decide +kernel
theorem xFb_31 : xFb 31 "Shapelayer$Key" "easing" "LShapelayer$Easing;" true = true := by decide +kernel
theorem xFb_32 : xFb 32 "Shapelayer$Composition$1" "left" "I" false = true := by decide +kernel
theorem xFb_33 : xFb 33 "Shapelayer$Composition$1" "this$0" "LShapelayer$Composition;" true = true := by decide +kernel
theorem xFb_34 : xFb 34 "Shapelayer$Frame" "composition" "LShapelayer$Composition;" true = true := by decide +kernel
theorem xFb_35 : xFb 35 "Shapelayer$Frame" "time" "I" true = true := by decide +kernel
theorem xFb_36 : xFb 36 "Shapelayer$Frame" "raster" "LShapelayer$Raster;" true = true := by decide +kernel
theorem xFb_37 : xFb 37 "Shapelayer$Outer" "layer" "LShapelayer$Layer;" true = true := by decide +kernel
theorem xFb_38 : xFb 38 "Shapelayer$Outer" "time" "I" true = true := by decide +kernel
theorem xFb_39 : xFb 39 "Shapelayer$Outer" "next" "LShapelayer$Outer;" true = true := by decide +kernel
theorem xFb_40 : xFb 40 "java/util/AbstractList" "modCount" "I" false = true := by decide +kernel
theorem xFb_41 : xFb 41 "java/util/ArrayList" "elementData" "[Ljava/lang/Object;" false = true := by decide +kernel
theorem xFb_42 : xFb 42 "java/util/ArrayList" "size" "I" false = true := by decide +kernel
theorem xFb_43 : xFb 43 "java/lang/AbstractStringBuilder" "value" "[B" false = true := by decide +kernel
theorem xFb_44 : xFb 44 "java/lang/AbstractStringBuilder" "coder" "B" false = true := by decide +kernel
theorem xFb_45 : xFb 45 "java/lang/AbstractStringBuilder" "maybeLatin1" "Z" false = true := by decide +kernel
theorem xFb_46 : xFb 46 "java/lang/AbstractStringBuilder" "count" "I" false = true := by decide +kernel
theorem xFb_47 : xFb 47 "java/lang/String" "value" "[B" true = true := by decide +kernel
theorem xFb_48 : xFb 48 "java/lang/String" "coder" "B" true = true := by decide +kernel
theorem xFb_49 : xFb 49 "java/lang/String" "hash" "I" false = true := by decide +kernel
theorem xFb_50 : xFb 50 "java/lang/String" "hashIsZero" "Z" false = true := by decide +kernel
theorem xFb_51 : xFb 51 "ShapelayerModel" "thrown" "I" false = true := by decide +kernel
theorem xFb_52 : xFb 52 "ShapelayerModel" "compositions" "I" false = true := by decide +kernel
theorem xFb_53 : xFb 53 "ShapelayerModel" "orders" "[I" true = true := by decide +kernel
theorem xFb_54 : xFb 54 "ShapelayerModel" "orderCounts" "[I" true = true := by decide +kernel
theorem xFb_55 : xFb 55 "ShapelayerModel" "kinds" "[I" true = true := by decide +kernel
theorem xFb_56 : xFb 56 "ShapelayerModel" "homes" "[I" true = true := by decide +kernel
theorem xFb_57 : xFb 57 "ShapelayerModel" "widths" "[I" true = true := by decide +kernel
theorem xFb_58 : xFb 58 "ShapelayerModel" "heights" "[I" true = true := by decide +kernel
theorem xFb_59 : xFb 59 "ShapelayerModel" "colours" "[I" true = true := by decide +kernel
theorem xFb_60 : xFb 60 "ShapelayerModel" "parents" "[I" true = true := by decide +kernel
theorem xFb_61 : xFb 61 "ShapelayerModel" "mattes" "[I" true = true := by decide +kernel
theorem xFb_62 : xFb 62 "ShapelayerModel" "isInverted" "[Z" true = true := by decide +kernel
theorem xFb_63 : xFb 63 "ShapelayerModel" "firsts" "[I" true = true := by decide +kernel
theorem xFb_64 : xFb 64 "ShapelayerModel" "ends" "[I" true = true := by decide +kernel
theorem xFb_65 : xFb 65 "ShapelayerModel" "isThere" "[Z" true = true := by decide +kernel
theorem xFb_66 : xFb 66 "ShapelayerModel" "made" "I" false = true := by decide +kernel
theorem xFb_67 : xFb 67 "ShapelayerModel" "pointXs" "[I" true = true := by decide +kernel
theorem xFb_68 : xFb 68 "ShapelayerModel" "pointYs" "[I" true = true := by decide +kernel
theorem xFb_69 : xFb 69 "ShapelayerModel" "pointCounts" "[I" true = true := by decide +kernel
theorem xFb_70 : xFb 70 "ShapelayerModel" "keyCounts" "[I" true = true := by decide +kernel
theorem xFb_71 : xFb 71 "ShapelayerModel" "keyTimes" "[I" true = true := by decide +kernel
theorem xFb_72 : xFb 72 "ShapelayerModel" "keyNumbers" "[I" true = true := by decide +kernel
theorem xFb_73 : xFb 73 "ShapelayerModel" "keyKinds" "[I" true = true := by decide +kernel
theorem xFb_74 : xFb 74 "ShapelayerModel" "mappedX" "J" false = true := by decide +kernel
theorem xFb_75 : xFb 75 "ShapelayerModel" "mappedY" "J" false = true := by decide +kernel
theorem xFb_76 : xFb 76 "ShapelayerModel" "around" "[I" true = true := by decide +kernel
theorem xFb_77 : xFb 77 "ShapelayerModel" "aroundTimes" "[I" true = true := by decide +kernel
theorem xFb_78 : xFb 78 "ShapelayerModel" "pages" "[I" true = true := by decide +kernel
theorem xFb_79 : xFb 79 "ShapelayerModel" "output" "[I" true = true := by decide +kernel
theorem xFb_80 : xFb 80 "ShapelayerModel" "outputLength" "I" false = true := by decide +kernel
theorem xFd_0 : parseFieldDescriptor "Ljava/util/List;" = some (.object "java/util/List") := by decide +kernel
theorem xFd_1 : parseFieldDescriptor "[LShapelayer$Layer;" = some (.array (.object "Shapelayer$Layer")) := by decide +kernel
theorem xFd_2 : parseFieldDescriptor "I" = some .int := by decide +kernel
theorem xFd_3 : parseFieldDescriptor "Ljava/util/List;" = some (.object "java/util/List") := by decide +kernel
theorem xFd_4 : parseFieldDescriptor "Ljava/lang/StringBuilder;" = some (.object "java/lang/StringBuilder") := by decide +kernel
theorem xFd_5 : parseFieldDescriptor "LShapelayer$Raster;" = some (.object "Shapelayer$Raster") := by decide +kernel
theorem xFd_6 : parseFieldDescriptor "[B" = some (.array .byte) := by decide +kernel
theorem xFd_7 : parseFieldDescriptor "[J" = some (.array .long) := by decide +kernel
theorem xFd_8 : parseFieldDescriptor "[J" = some (.array .long) := by decide +kernel
theorem xFd_9 : parseFieldDescriptor "LShapelayer$Raster;" = some (.object "Shapelayer$Raster") := by decide +kernel
theorem xFd_10 : parseFieldDescriptor "LShapelayer$Raster;" = some (.object "Shapelayer$Raster") := by decide +kernel
theorem xFd_11 : parseFieldDescriptor "I" = some .int := by decide +kernel
theorem xFd_12 : parseFieldDescriptor "Ljava/util/List;" = some (.object "java/util/List") := by decide +kernel
theorem xFd_13 : parseFieldDescriptor "I" = some .int := by decide +kernel
theorem xFd_14 : parseFieldDescriptor "LShapelayer$Composition;" = some (.object "Shapelayer$Composition") := by decide +kernel
theorem xFd_15 : parseFieldDescriptor "[LShapelayer$Keyed;" = some (.array (.object "Shapelayer$Keyed")) := by decide +kernel
theorem xFd_16 : parseFieldDescriptor "LShapelayer$Layer;" = some (.object "Shapelayer$Layer") := by decide +kernel
theorem xFd_17 : parseFieldDescriptor "LShapelayer$Layer;" = some (.object "Shapelayer$Layer") := by decide +kernel
theorem xFd_18 : parseFieldDescriptor "Z" = some .boolean := by decide +kernel
theorem xFd_19 : parseFieldDescriptor "I" = some .int := by decide +kernel
theorem xFd_20 : parseFieldDescriptor "I" = some .int := by decide +kernel
theorem xFd_21 : parseFieldDescriptor "I" = some .int := by decide +kernel
theorem xFd_22 : parseFieldDescriptor "I" = some .int := by decide +kernel
theorem xFd_23 : parseFieldDescriptor "I" = some .int := by decide +kernel
theorem xFd_24 : parseFieldDescriptor "Ljava/util/List;" = some (.object "java/util/List") := by decide +kernel
theorem xFd_25 : parseFieldDescriptor "J" = some .long := by decide +kernel
theorem xFd_26 : parseFieldDescriptor "LShapelayer$Composition;" = some (.object "Shapelayer$Composition") := by decide +kernel
theorem xFd_27 : parseFieldDescriptor "I" = some .int := by decide +kernel
theorem xFd_28 : parseFieldDescriptor "Ljava/util/List;" = some (.object "java/util/List") := by decide +kernel
theorem xFd_29 : parseFieldDescriptor "I" = some .int := by decide +kernel
theorem xFd_30 : parseFieldDescriptor "I" = some .int := by decide +kernel
theorem xFd_31 : parseFieldDescriptor "LShapelayer$Easing;" = some (.object "Shapelayer$Easing") := by decide +kernel
theorem xFd_32 : parseFieldDescriptor "I" = some .int := by decide +kernel
theorem xFd_33 : parseFieldDescriptor "LShapelayer$Composition;" = some (.object "Shapelayer$Composition") := by decide +kernel
theorem xFd_34 : parseFieldDescriptor "LShapelayer$Composition;" = some (.object "Shapelayer$Composition") := by decide +kernel
theorem xFd_35 : parseFieldDescriptor "I" = some .int := by decide +kernel
theorem xFd_36 : parseFieldDescriptor "LShapelayer$Raster;" = some (.object "Shapelayer$Raster") := by decide +kernel
theorem xFd_37 : parseFieldDescriptor "LShapelayer$Layer;" = some (.object "Shapelayer$Layer") := by decide +kernel
theorem xFd_38 : parseFieldDescriptor "I" = some .int := by decide +kernel
theorem xFd_39 : parseFieldDescriptor "LShapelayer$Outer;" = some (.object "Shapelayer$Outer") := by decide +kernel
theorem xFd_40 : parseFieldDescriptor "I" = some .int := by decide +kernel
theorem xFd_41 : parseFieldDescriptor "[Ljava/lang/Object;" = some (.array (.object "java/lang/Object")) := by decide +kernel
theorem xFd_42 : parseFieldDescriptor "I" = some .int := by decide +kernel
theorem xFd_43 : parseFieldDescriptor "[B" = some (.array .byte) := by decide +kernel
theorem xFd_44 : parseFieldDescriptor "B" = some .byte := by decide +kernel
theorem xFd_45 : parseFieldDescriptor "Z" = some .boolean := by decide +kernel
theorem xFd_46 : parseFieldDescriptor "I" = some .int := by decide +kernel
theorem xFd_47 : parseFieldDescriptor "[B" = some (.array .byte) := by decide +kernel
theorem xFd_48 : parseFieldDescriptor "B" = some .byte := by decide +kernel
theorem xFd_49 : parseFieldDescriptor "I" = some .int := by decide +kernel
theorem xFd_50 : parseFieldDescriptor "Z" = some .boolean := by decide +kernel
theorem xFd_51 : parseFieldDescriptor "I" = some .int := by decide +kernel
theorem xFd_52 : parseFieldDescriptor "I" = some .int := by decide +kernel
theorem xFd_53 : parseFieldDescriptor "[I" = some (.array .int) := by decide +kernel
theorem xFd_54 : parseFieldDescriptor "[I" = some (.array .int) := by decide +kernel
theorem xFd_55 : parseFieldDescriptor "[I" = some (.array .int) := by decide +kernel
theorem xFd_56 : parseFieldDescriptor "[I" = some (.array .int) := by decide +kernel
theorem xFd_57 : parseFieldDescriptor "[I" = some (.array .int) := by decide +kernel
theorem xFd_58 : parseFieldDescriptor "[I" = some (.array .int) := by decide +kernel
theorem xFd_59 : parseFieldDescriptor "[I" = some (.array .int) := by decide +kernel
theorem xFd_60 : parseFieldDescriptor "[I" = some (.array .int) := by decide +kernel
theorem xFd_61 : parseFieldDescriptor "[I" = some (.array .int) := by decide +kernel
theorem xFd_62 : parseFieldDescriptor "[Z" = some (.array .boolean) := by decide +kernel
theorem xFd_63 : parseFieldDescriptor "[I" = some (.array .int) := by decide +kernel
theorem xFd_64 : parseFieldDescriptor "[I" = some (.array .int) := by decide +kernel
theorem xFd_65 : parseFieldDescriptor "[Z" = some (.array .boolean) := by decide +kernel
theorem xFd_66 : parseFieldDescriptor "I" = some .int := by decide +kernel
theorem xFd_67 : parseFieldDescriptor "[I" = some (.array .int) := by decide +kernel
theorem xFd_68 : parseFieldDescriptor "[I" = some (.array .int) := by decide +kernel
theorem xFd_69 : parseFieldDescriptor "[I" = some (.array .int) := by decide +kernel
theorem xFd_70 : parseFieldDescriptor "[I" = some (.array .int) := by decide +kernel
theorem xFd_71 : parseFieldDescriptor "[I" = some (.array .int) := by decide +kernel
theorem xFd_72 : parseFieldDescriptor "[I" = some (.array .int) := by decide +kernel
theorem xFd_73 : parseFieldDescriptor "[I" = some (.array .int) := by decide +kernel
theorem xFd_74 : parseFieldDescriptor "J" = some .long := by decide +kernel
theorem xFd_75 : parseFieldDescriptor "J" = some .long := by decide +kernel
theorem xFd_76 : parseFieldDescriptor "[I" = some (.array .int) := by decide +kernel
theorem xFd_77 : parseFieldDescriptor "[I" = some (.array .int) := by decide +kernel
theorem xFd_78 : parseFieldDescriptor "[I" = some (.array .int) := by decide +kernel
theorem xFd_79 : parseFieldDescriptor "[I" = some (.array .int) := by decide +kernel
theorem xFd_80 : parseFieldDescriptor "I" = some .int := by decide +kernel
abbrev xdf_X1 : List Value := [.null, .null, .int 0, .null, .null, .null]
theorem xdf_X1_ok : ∀ j, j < 6 → defaultValue (tyX1 j) = vp_V xdf_X1 j := by
  intro j hj
  rcases j with _ | _ | _ | _ | _ | _ | j
  · rfl
  · rfl
  · rfl
  · rfl
  · rfl
  · rfl
  · omega
abbrev xdf_X2 : List Value := [.null, .null, .null, .null, .null]
theorem xdf_X2_ok : ∀ j, j < 5 → defaultValue (tyX2 j) = vp_V xdf_X2 j := by
  intro j hj
  rcases j with _ | _ | _ | _ | _ | j
  · rfl
  · rfl
  · rfl
  · rfl
  · rfl
  · omega
abbrev xdf_X4 : List Value := [.int 0, .null]
theorem xdf_X4_ok : ∀ j, j < 2 → defaultValue (tyX4 j) = vp_V xdf_X4 j := by
  intro j hj
  rcases j with _ | _ | j
  · rfl
  · rfl
  · omega
abbrev xdf_X7 : List Value := [.int 0, .null, .null, .null, .null, .int 0, .int 0, .int 0, .int 0, .int 0, .int 0]
theorem xdf_X7_ok : ∀ j, j < 11 → defaultValue (tyX7 j) = vp_V xdf_X7 j := by
  intro j hj
  rcases j with _ | _ | _ | _ | _ | _ | _ | _ | _ | _ | _ | j
  · rfl
  · rfl
  · rfl
  · rfl
  · rfl
  · rfl
  · rfl
  · rfl
  · rfl
  · rfl
  · rfl
  · omega
abbrev xdf_X9 : List Value := [.int 0, .null, .null, .null, .null, .int 0, .int 0, .int 0, .int 0, .null, .long 0]
theorem xdf_X9_ok : ∀ j, j < 11 → defaultValue (tyX9 j) = vp_V xdf_X9 j := by
  intro j hj
  rcases j with _ | _ | _ | _ | _ | _ | _ | _ | _ | _ | _ | j
  · rfl
  · rfl
  · rfl
  · rfl
  · rfl
  · rfl
  · rfl
  · rfl
  · rfl
  · rfl
  · rfl
  · omega
abbrev xdf_X11 : List Value := [.int 0, .null, .null, .null, .null, .int 0, .int 0, .int 0, .null]
theorem xdf_X11_ok : ∀ j, j < 9 → defaultValue (tyX11 j) = vp_V xdf_X11 j := by
  intro j hj
  rcases j with _ | _ | _ | _ | _ | _ | _ | _ | _ | j
  · rfl
  · rfl
  · rfl
  · rfl
  · rfl
  · rfl
  · rfl
  · rfl
  · rfl
  · omega
abbrev xdf_X12 : List Value := [.int 0, .null, .null, .null, .null, .int 0, .int 0, .int 0]
theorem xdf_X12_ok : ∀ j, j < 8 → defaultValue (tyX12 j) = vp_V xdf_X12 j := by
  intro j hj
  rcases j with _ | _ | _ | _ | _ | _ | _ | _ | j
  · rfl
  · rfl
  · rfl
  · rfl
  · rfl
  · rfl
  · rfl
  · rfl
  · omega
abbrev xdf_X8 : List Value := [.int 0, .null]
theorem xdf_X8_ok : ∀ j, j < 2 → defaultValue (tyX8 j) = vp_V xdf_X8 j := by
  intro j hj
  rcases j with _ | _ | j
  · rfl
  · rfl
  · omega
abbrev xdf_X13 : List Value := [.int 0, .int 0, .null]
theorem xdf_X13_ok : ∀ j, j < 3 → defaultValue (tyX13 j) = vp_V xdf_X13 j := by
  intro j hj
  rcases j with _ | _ | _ | j
  · rfl
  · rfl
  · rfl
  · omega
abbrev xdf_X15 : List Value := []
theorem xdf_X15_ok : ∀ j, j < 0 → defaultValue ((fun _ => .int : Nat → FieldType) j) = vp_V xdf_X15 j := fun j h => absurd h (Nat.not_lt_zero j)
theorem tyX15_ok : ∀ k, k < 0 → parseFieldDescriptor ((fun _ => ("", "", "", false) : u_T) k).2.2.1 = some ((fun _ => .int : Nat → FieldType) k) := fun k h => absurd h (Nat.not_lt_zero k)
abbrev xdf_X16 : List Value := []
theorem xdf_X16_ok : ∀ j, j < 0 → defaultValue ((fun _ => .int : Nat → FieldType) j) = vp_V xdf_X16 j := fun j h => absurd h (Nat.not_lt_zero j)
theorem tyX16_ok : ∀ k, k < 0 → parseFieldDescriptor ((fun _ => ("", "", "", false) : u_T) k).2.2.1 = some ((fun _ => .int : Nat → FieldType) k) := fun k h => absurd h (Nat.not_lt_zero k)
abbrev xdf_X17 : List Value := []
theorem xdf_X17_ok : ∀ j, j < 0 → defaultValue ((fun _ => .int : Nat → FieldType) j) = vp_V xdf_X17 j := fun j h => absurd h (Nat.not_lt_zero j)
theorem tyX17_ok : ∀ k, k < 0 → parseFieldDescriptor ((fun _ => ("", "", "", false) : u_T) k).2.2.1 = some ((fun _ => .int : Nat → FieldType) k) := fun k h => absurd h (Nat.not_lt_zero k)
abbrev xdf_X10 : List Value := [.int 0, .null]
theorem xdf_X10_ok : ∀ j, j < 2 → defaultValue (tyX10 j) = vp_V xdf_X10 j := by
  intro j hj
  rcases j with _ | _ | j
  · rfl
  · rfl
  · omega
abbrev xdf_X18 : List Value := [.null, .int 0, .null]
theorem xdf_X18_ok : ∀ j, j < 3 → defaultValue (tyX18 j) = vp_V xdf_X18 j := by
  intro j hj
  rcases j with _ | _ | _ | j
  · rfl
  · rfl
  · rfl
  · omega
abbrev xdf_X19 : List Value := [.null, .int 0, .null]
theorem xdf_X19_ok : ∀ j, j < 3 → defaultValue (tyX19 j) = vp_V xdf_X19 j := by
  intro j hj
  rcases j with _ | _ | _ | j
  · rfl
  · rfl
  · rfl
  · omega
abbrev xdf_J2 : List Value := [.int 0, .null, .int 0]
theorem xdf_J2_ok : ∀ j, j < 3 → defaultValue (tyJ2 j) = vp_V xdf_J2 j := by
  intro j hj
  rcases j with _ | _ | _ | j
  · rfl
  · rfl
  · rfl
  · omega
abbrev xdf_J4 : List Value := [.null, .int 0, .int 0, .int 0]
theorem xdf_J4_ok : ∀ j, j < 4 → defaultValue (tyJ4 j) = vp_V xdf_J4 j := by
  intro j hj
  rcases j with _ | _ | _ | _ | j
  · rfl
  · rfl
  · rfl
  · rfl
  · omega
abbrev xdf_J5 : List Value := [.null, .int 0, .int 0, .int 0]
theorem xdf_J5_ok : ∀ j, j < 4 → defaultValue (tyJ5 j) = vp_V xdf_J5 j := by
  intro j hj
  rcases j with _ | _ | _ | _ | j
  · rfl
  · rfl
  · rfl
  · rfl
  · omega
abbrev xdf_X3 : List Value := [.int 0, .int 0, .null, .null, .null, .null, .null, .null, .null, .null, .null, .null, .null, .null, .null, .int 0, .null, .null, .null, .null, .null, .null, .null, .long 0, .long 0, .null, .null, .null, .null, .int 0]
theorem xdf_X3_ok : ∀ j, j < 30 → defaultValue (tyX3 j) = vp_V xdf_X3 j := by
  intro j hj
  rcases j with _ | _ | _ | _ | _ | _ | _ | _ | _ | _ | _ | _ | _ | _ | _ | _ | _ | _ | _ | _ | _ | _ | _ | _ | _ | _ | _ | _ | _ | _ | j
  · rfl
  · rfl
  · rfl
  · rfl
  · rfl
  · rfl
  · rfl
  · rfl
  · rfl
  · rfl
  · rfl
  · rfl
  · rfl
  · rfl
  · rfl
  · rfl
  · rfl
  · rfl
  · rfl
  · rfl
  · rfl
  · rfl
  · rfl
  · rfl
  · rfl
  · rfl
  · rfl
  · rfl
  · rfl
  · rfl
  · omega

