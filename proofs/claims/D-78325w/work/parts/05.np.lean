/-! LabelPlacer -/
set_option maxRecDepth 100000
def RX0 : String := "LabelPlacer"
def TX0 : u_T := fun k => match k with
  | 0 => ("LabelPlacer", "points", "Ljava/util/ArrayList;", true)
  | 1 => ("LabelPlacer", "window", "LLabelPlacer$Box;", false)
  | 2 => ("LabelPlacer", "places", "Ljava/util/LinkedHashMap;", false)
  | 3 => ("LabelPlacer", "keys", "[LLabelPlacer$Key;", true)
  | 4 => ("LabelPlacer", "leaders", "Ljava/util/ArrayList;", false)
  | 5 => ("LabelPlacer", "tape", "LLabelPlacer$Tape;", true)
  | _ => ("LabelPlacer", "hash", "J", false)
def tyX0 : Nat → FieldType := fun k => match k with
  | 0 => .object "java/util/ArrayList"
  | 1 => .object "LabelPlacer$Box"
  | 2 => .object "java/util/LinkedHashMap"
  | 3 => .array (.object "LabelPlacer$Key")
  | 4 => .object "java/util/ArrayList"
  | 5 => .object "LabelPlacer$Tape"
  | _ => .long
abbrev wsX00 : List Cond := u_ws RX0 TX0 7
theorem nmX0 : ∀ a, a < 7 → ∀ b, b < 7 → a ≠ b → (TX0 a).2.1 ≠ (TX0 b).2.1 := by decide +kernel
theorem tyX0_ok : ∀ k, k < 7 → parseFieldDescriptor (TX0 k).2.2.1 = some (tyX0 k) := by decide +kernel
abbrev cX0_init : ByteArray := prog_1_method_2_code
def yX0_init : MethodName := ⟨RX0, "<init>", "()V"⟩
def dkwX0_init_4 : List UInt8 := [83, 132, 1, 1, 167, 255, 223, 177]
abbrev dktX0_init_4 : List UInt8 := dkwX0_init_4 ++ []
def dkwX0_init_3 : List UInt8 := [190, 162, 0, 30, 42, 180, 0, 27, 27, 187, 0, 25, 89, 27, 16, 8, 108, 27, 16, 8, 112, 183, 0, 41]
abbrev dktX0_init_3 : List UInt8 := dkwX0_init_3 ++ dktX0_init_4
def dkwX0_init_2 : List UInt8 := [183, 0, 9, 181, 0, 31, 42, 187, 0, 34, 89, 183, 0, 36, 181, 0, 37, 3, 60, 27, 42, 180, 0, 27]
abbrev dktX0_init_2 : List UInt8 := dkwX0_init_2 ++ dktX0_init_3
def dkwX0_init_1 : List UInt8 := [16, 40, 183, 0, 18, 181, 0, 21, 42, 17, 0, 160, 189, 0, 25, 181, 0, 27, 42, 187, 0, 7, 89]
abbrev dktX0_init_1 : List UInt8 := dkwX0_init_1 ++ dktX0_init_2
def dkwX0_init_0 : List UInt8 := [42, 183, 0, 1, 42, 187, 0, 7, 89, 183, 0, 9, 181, 0, 10, 42, 187, 0, 16, 89, 3, 3, 16, 60]
abbrev dktX0_init_0 : List UInt8 := dkwX0_init_0 ++ dktX0_init_1
theorem dksX0_init_0 : cX0_init.data.toList.drop 0 = dktX0_init_0 := by decide +kernel
theorem dksX0_init_1 : cX0_init.data.toList.drop 24 = dktX0_init_1 := dk_seg dksX0_init_0 24 rfl rfl
theorem dksX0_init_2 : cX0_init.data.toList.drop 47 = dktX0_init_2 := dk_seg dksX0_init_1 23 rfl rfl
theorem dksX0_init_3 : cX0_init.data.toList.drop 71 = dktX0_init_3 := dk_seg dksX0_init_2 24 rfl rfl
theorem dksX0_init_4 : cX0_init.data.toList.drop 95 = dktX0_init_4 := dk_seg dksX0_init_3 24 rfl rfl
theorem dX0_init_0 : decode cX0_init 0 = .ok (.aload_n 0, 1) := dk_42 (dk_at dksX0_init_0 0 rfl rfl)
theorem dX0_init_1 : decode cX0_init 1 = .ok (.invokespecial 1, 3) := dk_183 0 1 (dk_at dksX0_init_0 1 rfl rfl)
theorem dX0_init_4 : decode cX0_init 4 = .ok (.aload_n 0, 1) := dk_42 (dk_at dksX0_init_0 4 rfl rfl)
theorem dX0_init_5 : decode cX0_init 5 = .ok (.new 7, 3) := dk_187 0 7 (dk_at dksX0_init_0 5 rfl rfl)
theorem dX0_init_8 : decode cX0_init 8 = .ok (.dup, 1) := dk_89 (dk_at dksX0_init_0 8 rfl rfl)
theorem dX0_init_9 : decode cX0_init 9 = .ok (.invokespecial 9, 3) := dk_183 0 9 (dk_at dksX0_init_0 9 rfl rfl)
theorem dX0_init_12 : decode cX0_init 12 = .ok (.putfield 10, 3) := dk_181 0 10 (dk_at dksX0_init_0 12 rfl rfl)
theorem dX0_init_15 : decode cX0_init 15 = .ok (.aload_n 0, 1) := dk_42 (dk_at dksX0_init_0 15 rfl rfl)
theorem dX0_init_16 : decode cX0_init 16 = .ok (.new 16, 3) := dk_187 0 16 (dk_at dksX0_init_0 16 rfl rfl)
theorem dX0_init_19 : decode cX0_init 19 = .ok (.dup, 1) := dk_89 (dk_at dksX0_init_0 19 rfl rfl)
theorem dX0_init_20 : decode cX0_init 20 = .ok (.iconst 0, 1) := dk_3 (dk_at dksX0_init_0 20 rfl rfl)
theorem dX0_init_21 : decode cX0_init 21 = .ok (.iconst 0, 1) := dk_3 (dk_at dksX0_init_0 21 rfl rfl)
theorem dX0_init_22 : decode cX0_init 22 = .ok (.bipush 60, 2) := dk_16 60 (dk_at dksX0_init_0 22 rfl rfl)
theorem dX0_init_24 : decode cX0_init 24 = .ok (.bipush 40, 2) := dk_16 40 (dk_at dksX0_init_1 0 rfl rfl)
theorem dX0_init_26 : decode cX0_init 26 = .ok (.invokespecial 18, 3) := dk_183 0 18 (dk_at dksX0_init_1 2 rfl rfl)
theorem dX0_init_29 : decode cX0_init 29 = .ok (.putfield 21, 3) := dk_181 0 21 (dk_at dksX0_init_1 5 rfl rfl)
theorem dX0_init_32 : decode cX0_init 32 = .ok (.aload_n 0, 1) := dk_42 (dk_at dksX0_init_1 8 rfl rfl)
theorem dX0_init_33 : decode cX0_init 33 = .ok (.sipush 160, 3) := dk_17 0 160 (dk_at dksX0_init_1 9 rfl rfl)
theorem dX0_init_36 : decode cX0_init 36 = .ok (.anewarray 25, 3) := dk_189 0 25 (dk_at dksX0_init_1 12 rfl rfl)
theorem dX0_init_39 : decode cX0_init 39 = .ok (.putfield 27, 3) := dk_181 0 27 (dk_at dksX0_init_1 15 rfl rfl)
theorem dX0_init_42 : decode cX0_init 42 = .ok (.aload_n 0, 1) := dk_42 (dk_at dksX0_init_1 18 rfl rfl)
theorem dX0_init_43 : decode cX0_init 43 = .ok (.new 7, 3) := dk_187 0 7 (dk_at dksX0_init_1 19 rfl rfl)
theorem dX0_init_46 : decode cX0_init 46 = .ok (.dup, 1) := dk_89 (dk_at dksX0_init_1 22 rfl rfl)
theorem dX0_init_47 : decode cX0_init 47 = .ok (.invokespecial 9, 3) := dk_183 0 9 (dk_at dksX0_init_2 0 rfl rfl)
theorem dX0_init_50 : decode cX0_init 50 = .ok (.putfield 31, 3) := dk_181 0 31 (dk_at dksX0_init_2 3 rfl rfl)
theorem dX0_init_53 : decode cX0_init 53 = .ok (.aload_n 0, 1) := dk_42 (dk_at dksX0_init_2 6 rfl rfl)
theorem dX0_init_54 : decode cX0_init 54 = .ok (.new 34, 3) := dk_187 0 34 (dk_at dksX0_init_2 7 rfl rfl)
theorem dX0_init_57 : decode cX0_init 57 = .ok (.dup, 1) := dk_89 (dk_at dksX0_init_2 10 rfl rfl)
theorem dX0_init_58 : decode cX0_init 58 = .ok (.invokespecial 36, 3) := dk_183 0 36 (dk_at dksX0_init_2 11 rfl rfl)
theorem dX0_init_61 : decode cX0_init 61 = .ok (.putfield 37, 3) := dk_181 0 37 (dk_at dksX0_init_2 14 rfl rfl)
theorem dX0_init_64 : decode cX0_init 64 = .ok (.iconst 0, 1) := dk_3 (dk_at dksX0_init_2 17 rfl rfl)
theorem dX0_init_65 : decode cX0_init 65 = .ok (.istore_n 1, 1) := dk_60 (dk_at dksX0_init_2 18 rfl rfl)
theorem dX0_init_66 : decode cX0_init 66 = .ok (.iload_n 1, 1) := dk_27 (dk_at dksX0_init_2 19 rfl rfl)
theorem dX0_init_67 : decode cX0_init 67 = .ok (.aload_n 0, 1) := dk_42 (dk_at dksX0_init_2 20 rfl rfl)
theorem dX0_init_68 : decode cX0_init 68 = .ok (.getfield 27, 3) := dk_180 0 27 (dk_at dksX0_init_2 21 rfl rfl)
theorem dX0_init_71 : decode cX0_init 71 = .ok (.arraylength, 1) := dk_190 (dk_at dksX0_init_3 0 rfl rfl)
theorem dX0_init_72 : decode cX0_init 72 = .ok (.if_icmp .ge 30, 3) := dk_162 0 30 (dk_at dksX0_init_3 1 rfl rfl)
theorem dX0_init_75 : decode cX0_init 75 = .ok (.aload_n 0, 1) := dk_42 (dk_at dksX0_init_3 4 rfl rfl)
theorem dX0_init_76 : decode cX0_init 76 = .ok (.getfield 27, 3) := dk_180 0 27 (dk_at dksX0_init_3 5 rfl rfl)
theorem dX0_init_79 : decode cX0_init 79 = .ok (.iload_n 1, 1) := dk_27 (dk_at dksX0_init_3 8 rfl rfl)
theorem dX0_init_80 : decode cX0_init 80 = .ok (.new 25, 3) := dk_187 0 25 (dk_at dksX0_init_3 9 rfl rfl)
theorem dX0_init_83 : decode cX0_init 83 = .ok (.dup, 1) := dk_89 (dk_at dksX0_init_3 12 rfl rfl)
theorem dX0_init_84 : decode cX0_init 84 = .ok (.iload_n 1, 1) := dk_27 (dk_at dksX0_init_3 13 rfl rfl)
theorem dX0_init_85 : decode cX0_init 85 = .ok (.bipush 8, 2) := dk_16 8 (dk_at dksX0_init_3 14 rfl rfl)
theorem dX0_init_87 : decode cX0_init 87 = .ok (.idiv, 1) := dk_108 (dk_at dksX0_init_3 16 rfl rfl)
theorem dX0_init_88 : decode cX0_init 88 = .ok (.iload_n 1, 1) := dk_27 (dk_at dksX0_init_3 17 rfl rfl)
theorem dX0_init_89 : decode cX0_init 89 = .ok (.bipush 8, 2) := dk_16 8 (dk_at dksX0_init_3 18 rfl rfl)
theorem dX0_init_91 : decode cX0_init 91 = .ok (.irem, 1) := dk_112 (dk_at dksX0_init_3 20 rfl rfl)
theorem dX0_init_92 : decode cX0_init 92 = .ok (.invokespecial 41, 3) := dk_183 0 41 (dk_at dksX0_init_3 21 rfl rfl)
theorem dX0_init_95 : decode cX0_init 95 = .ok (.aastore, 1) := dk_83 (dk_at dksX0_init_4 0 rfl rfl)
theorem dX0_init_96 : decode cX0_init 96 = .ok (.iinc 1 1, 3) := dk_132 1 1 (dk_at dksX0_init_4 1 rfl rfl)
theorem dX0_init_99 : decode cX0_init 99 = .ok (.goto (-33), 3) := dk_167 255 223 (dk_at dksX0_init_4 4 rfl rfl)
theorem dX0_init_102 : decode cX0_init 102 = .ok (.return_, 1) := dk_177 (dk_at dksX0_init_4 7 rfl rfl)
abbrev cX0_addPoint : ByteArray := prog_1_method_13_code
def yX0_addPoint : MethodName := ⟨RX0, "addPoint", "(IIIIII)I"⟩
def dkwX0_addPoint_9 : List UInt8 := [4, 100, 172]
abbrev dktX0_addPoint_9 : List UInt8 := dkwX0_addPoint_9 ++ []
def dkwX0_addPoint_8 : List UInt8 := [182, 0, 144, 42, 180, 0, 10, 25, 8, 182, 0, 147, 87, 42, 182, 0, 148, 42, 180, 0, 10, 182, 0, 44]
abbrev dktX0_addPoint_8 : List UInt8 := dkwX0_addPoint_8 ++ dktX0_addPoint_9
def dkwX0_addPoint_7 : List UInt8 := [182, 0, 144, 25, 8, 6, 21, 4, 182, 0, 144, 25, 8, 7, 21, 5, 182, 0, 144, 25, 8, 8, 21, 6]
abbrev dktX0_addPoint_7 : List UInt8 := dkwX0_addPoint_7 ++ dktX0_addPoint_8
def dkwX0_addPoint_6 : List UInt8 := [16, 20, 160, 0, 6, 16, 252, 172, 187, 0, 56, 89, 27, 28, 183, 0, 143, 58, 8, 25, 8, 5, 29]
abbrev dktX0_addPoint_6 : List UInt8 := dkwX0_addPoint_6 ++ dktX0_addPoint_7
def dkwX0_addPoint_5 : List UInt8 := [180, 0, 62, 28, 160, 0, 6, 16, 253, 172, 132, 8, 1, 167, 255, 200, 42, 180, 0, 10, 182, 0, 44]
abbrev dktX0_addPoint_5 : List UInt8 := dkwX0_addPoint_5 ++ dktX0_addPoint_6
def dkwX0_addPoint_4 : List UInt8 := [192, 0, 56, 180, 0, 58, 27, 160, 0, 25, 42, 180, 0, 10, 21, 8, 182, 0, 52, 192, 0, 56]
abbrev dktX0_addPoint_4 : List UInt8 := dkwX0_addPoint_4 ++ dktX0_addPoint_5
def dkwX0_addPoint_3 : List UInt8 := [3, 54, 8, 21, 8, 42, 180, 0, 10, 182, 0, 44, 162, 0, 50, 42, 180, 0, 10, 21, 8, 182, 0, 52]
abbrev dktX0_addPoint_3 : List UInt8 := dkwX0_addPoint_3 ++ dktX0_addPoint_4
def dkwX0_addPoint_2 : List UInt8 := [8, 21, 6, 184, 0, 140, 153, 0, 7, 4, 167, 0, 4, 3, 54, 7, 21, 7, 154, 0, 6, 16, 254, 172]
abbrev dktX0_addPoint_2 : List UInt8 := dkwX0_addPoint_2 ++ dktX0_addPoint_3
def dkwX0_addPoint_1 : List UInt8 := [184, 0, 140, 153, 0, 34, 6, 21, 4, 184, 0, 140, 153, 0, 25, 7, 21, 5, 184, 0, 140, 153, 0, 16]
abbrev dktX0_addPoint_1 : List UInt8 := dkwX0_addPoint_1 ++ dktX0_addPoint_2
def dkwX0_addPoint_0 : List UInt8 := [27, 3, 17, 0, 199, 184, 0, 48, 153, 0, 53, 28, 3, 17, 0, 199, 184, 0, 48, 153, 0, 42, 5, 29]
abbrev dktX0_addPoint_0 : List UInt8 := dkwX0_addPoint_0 ++ dktX0_addPoint_1
theorem dksX0_addPoint_0 : cX0_addPoint.data.toList.drop 0 = dktX0_addPoint_0 := by decide +kernel
theorem dksX0_addPoint_1 : cX0_addPoint.data.toList.drop 24 = dktX0_addPoint_1 := dk_seg dksX0_addPoint_0 24 rfl rfl
theorem dksX0_addPoint_2 : cX0_addPoint.data.toList.drop 48 = dktX0_addPoint_2 := dk_seg dksX0_addPoint_1 24 rfl rfl
theorem dksX0_addPoint_3 : cX0_addPoint.data.toList.drop 72 = dktX0_addPoint_3 := dk_seg dksX0_addPoint_2 24 rfl rfl
theorem dksX0_addPoint_4 : cX0_addPoint.data.toList.drop 96 = dktX0_addPoint_4 := dk_seg dksX0_addPoint_3 24 rfl rfl
theorem dksX0_addPoint_5 : cX0_addPoint.data.toList.drop 118 = dktX0_addPoint_5 := dk_seg dksX0_addPoint_4 22 rfl rfl
theorem dksX0_addPoint_6 : cX0_addPoint.data.toList.drop 141 = dktX0_addPoint_6 := dk_seg dksX0_addPoint_5 23 rfl rfl
theorem dksX0_addPoint_7 : cX0_addPoint.data.toList.drop 164 = dktX0_addPoint_7 := dk_seg dksX0_addPoint_6 23 rfl rfl
theorem dksX0_addPoint_8 : cX0_addPoint.data.toList.drop 188 = dktX0_addPoint_8 := dk_seg dksX0_addPoint_7 24 rfl rfl
theorem dksX0_addPoint_9 : cX0_addPoint.data.toList.drop 212 = dktX0_addPoint_9 := dk_seg dksX0_addPoint_8 24 rfl rfl
theorem dX0_addPoint_0 : decode cX0_addPoint 0 = .ok (.iload_n 1, 1) := dk_27 (dk_at dksX0_addPoint_0 0 rfl rfl)
theorem dX0_addPoint_1 : decode cX0_addPoint 1 = .ok (.iconst 0, 1) := dk_3 (dk_at dksX0_addPoint_0 1 rfl rfl)
theorem dX0_addPoint_2 : decode cX0_addPoint 2 = .ok (.sipush 199, 3) := dk_17 0 199 (dk_at dksX0_addPoint_0 2 rfl rfl)
theorem dX0_addPoint_5 : decode cX0_addPoint 5 = .ok (.invokestatic 48, 3) := dk_184 0 48 (dk_at dksX0_addPoint_0 5 rfl rfl)
theorem dX0_addPoint_8 : decode cX0_addPoint 8 = .ok (.ifCond .eq 53, 3) := dk_153 0 53 (dk_at dksX0_addPoint_0 8 rfl rfl)
theorem dX0_addPoint_11 : decode cX0_addPoint 11 = .ok (.iload_n 2, 1) := dk_28 (dk_at dksX0_addPoint_0 11 rfl rfl)
theorem dX0_addPoint_12 : decode cX0_addPoint 12 = .ok (.iconst 0, 1) := dk_3 (dk_at dksX0_addPoint_0 12 rfl rfl)
theorem dX0_addPoint_13 : decode cX0_addPoint 13 = .ok (.sipush 199, 3) := dk_17 0 199 (dk_at dksX0_addPoint_0 13 rfl rfl)
theorem dX0_addPoint_16 : decode cX0_addPoint 16 = .ok (.invokestatic 48, 3) := dk_184 0 48 (dk_at dksX0_addPoint_0 16 rfl rfl)
theorem dX0_addPoint_19 : decode cX0_addPoint 19 = .ok (.ifCond .eq 42, 3) := dk_153 0 42 (dk_at dksX0_addPoint_0 19 rfl rfl)
theorem dX0_addPoint_22 : decode cX0_addPoint 22 = .ok (.iconst 2, 1) := dk_5 (dk_at dksX0_addPoint_0 22 rfl rfl)
theorem dX0_addPoint_23 : decode cX0_addPoint 23 = .ok (.iload_n 3, 1) := dk_29 (dk_at dksX0_addPoint_0 23 rfl rfl)
theorem dX0_addPoint_24 : decode cX0_addPoint 24 = .ok (.invokestatic 140, 3) := dk_184 0 140 (dk_at dksX0_addPoint_1 0 rfl rfl)
theorem dX0_addPoint_27 : decode cX0_addPoint 27 = .ok (.ifCond .eq 34, 3) := dk_153 0 34 (dk_at dksX0_addPoint_1 3 rfl rfl)
theorem dX0_addPoint_30 : decode cX0_addPoint 30 = .ok (.iconst 3, 1) := dk_6 (dk_at dksX0_addPoint_1 6 rfl rfl)
theorem dX0_addPoint_31 : decode cX0_addPoint 31 = .ok (.iload 4, 2) := dk_21 4 (dk_at dksX0_addPoint_1 7 rfl rfl)
theorem dX0_addPoint_33 : decode cX0_addPoint 33 = .ok (.invokestatic 140, 3) := dk_184 0 140 (dk_at dksX0_addPoint_1 9 rfl rfl)
theorem dX0_addPoint_36 : decode cX0_addPoint 36 = .ok (.ifCond .eq 25, 3) := dk_153 0 25 (dk_at dksX0_addPoint_1 12 rfl rfl)
theorem dX0_addPoint_39 : decode cX0_addPoint 39 = .ok (.iconst 4, 1) := dk_7 (dk_at dksX0_addPoint_1 15 rfl rfl)
theorem dX0_addPoint_40 : decode cX0_addPoint 40 = .ok (.iload 5, 2) := dk_21 5 (dk_at dksX0_addPoint_1 16 rfl rfl)
theorem dX0_addPoint_42 : decode cX0_addPoint 42 = .ok (.invokestatic 140, 3) := dk_184 0 140 (dk_at dksX0_addPoint_1 18 rfl rfl)
theorem dX0_addPoint_45 : decode cX0_addPoint 45 = .ok (.ifCond .eq 16, 3) := dk_153 0 16 (dk_at dksX0_addPoint_1 21 rfl rfl)
theorem dX0_addPoint_48 : decode cX0_addPoint 48 = .ok (.iconst 5, 1) := dk_8 (dk_at dksX0_addPoint_2 0 rfl rfl)
theorem dX0_addPoint_49 : decode cX0_addPoint 49 = .ok (.iload 6, 2) := dk_21 6 (dk_at dksX0_addPoint_2 1 rfl rfl)
theorem dX0_addPoint_51 : decode cX0_addPoint 51 = .ok (.invokestatic 140, 3) := dk_184 0 140 (dk_at dksX0_addPoint_2 3 rfl rfl)
theorem dX0_addPoint_54 : decode cX0_addPoint 54 = .ok (.ifCond .eq 7, 3) := dk_153 0 7 (dk_at dksX0_addPoint_2 6 rfl rfl)
theorem dX0_addPoint_57 : decode cX0_addPoint 57 = .ok (.iconst 1, 1) := dk_4 (dk_at dksX0_addPoint_2 9 rfl rfl)
theorem dX0_addPoint_58 : decode cX0_addPoint 58 = .ok (.goto 4, 3) := dk_167 0 4 (dk_at dksX0_addPoint_2 10 rfl rfl)
theorem dX0_addPoint_61 : decode cX0_addPoint 61 = .ok (.iconst 0, 1) := dk_3 (dk_at dksX0_addPoint_2 13 rfl rfl)
theorem dX0_addPoint_62 : decode cX0_addPoint 62 = .ok (.istore 7, 2) := dk_54 7 (dk_at dksX0_addPoint_2 14 rfl rfl)
theorem dX0_addPoint_64 : decode cX0_addPoint 64 = .ok (.iload 7, 2) := dk_21 7 (dk_at dksX0_addPoint_2 16 rfl rfl)
theorem dX0_addPoint_66 : decode cX0_addPoint 66 = .ok (.ifCond .ne 6, 3) := dk_154 0 6 (dk_at dksX0_addPoint_2 18 rfl rfl)
theorem dX0_addPoint_69 : decode cX0_addPoint 69 = .ok (.bipush (-2), 2) := dk_16 254 (dk_at dksX0_addPoint_2 21 rfl rfl)
theorem dX0_addPoint_71 : decode cX0_addPoint 71 = .ok (.ireturn, 1) := dk_172 (dk_at dksX0_addPoint_2 23 rfl rfl)
theorem dX0_addPoint_72 : decode cX0_addPoint 72 = .ok (.iconst 0, 1) := dk_3 (dk_at dksX0_addPoint_3 0 rfl rfl)
theorem dX0_addPoint_73 : decode cX0_addPoint 73 = .ok (.istore 8, 2) := dk_54 8 (dk_at dksX0_addPoint_3 1 rfl rfl)
theorem dX0_addPoint_75 : decode cX0_addPoint 75 = .ok (.iload 8, 2) := dk_21 8 (dk_at dksX0_addPoint_3 3 rfl rfl)
theorem dX0_addPoint_77 : decode cX0_addPoint 77 = .ok (.aload_n 0, 1) := dk_42 (dk_at dksX0_addPoint_3 5 rfl rfl)
theorem dX0_addPoint_78 : decode cX0_addPoint 78 = .ok (.getfield 10, 3) := dk_180 0 10 (dk_at dksX0_addPoint_3 6 rfl rfl)
theorem dX0_addPoint_81 : decode cX0_addPoint 81 = .ok (.invokevirtual 44, 3) := dk_182 0 44 (dk_at dksX0_addPoint_3 9 rfl rfl)
theorem dX0_addPoint_84 : decode cX0_addPoint 84 = .ok (.if_icmp .ge 50, 3) := dk_162 0 50 (dk_at dksX0_addPoint_3 12 rfl rfl)
theorem dX0_addPoint_87 : decode cX0_addPoint 87 = .ok (.aload_n 0, 1) := dk_42 (dk_at dksX0_addPoint_3 15 rfl rfl)
theorem dX0_addPoint_88 : decode cX0_addPoint 88 = .ok (.getfield 10, 3) := dk_180 0 10 (dk_at dksX0_addPoint_3 16 rfl rfl)
theorem dX0_addPoint_91 : decode cX0_addPoint 91 = .ok (.iload 8, 2) := dk_21 8 (dk_at dksX0_addPoint_3 19 rfl rfl)
theorem dX0_addPoint_93 : decode cX0_addPoint 93 = .ok (.invokevirtual 52, 3) := dk_182 0 52 (dk_at dksX0_addPoint_3 21 rfl rfl)
theorem dX0_addPoint_96 : decode cX0_addPoint 96 = .ok (.checkcast 56, 3) := dk_192 0 56 (dk_at dksX0_addPoint_4 0 rfl rfl)
theorem dX0_addPoint_99 : decode cX0_addPoint 99 = .ok (.getfield 58, 3) := dk_180 0 58 (dk_at dksX0_addPoint_4 3 rfl rfl)
theorem dX0_addPoint_102 : decode cX0_addPoint 102 = .ok (.iload_n 1, 1) := dk_27 (dk_at dksX0_addPoint_4 6 rfl rfl)
theorem dX0_addPoint_103 : decode cX0_addPoint 103 = .ok (.if_icmp .ne 25, 3) := dk_160 0 25 (dk_at dksX0_addPoint_4 7 rfl rfl)
theorem dX0_addPoint_106 : decode cX0_addPoint 106 = .ok (.aload_n 0, 1) := dk_42 (dk_at dksX0_addPoint_4 10 rfl rfl)
theorem dX0_addPoint_107 : decode cX0_addPoint 107 = .ok (.getfield 10, 3) := dk_180 0 10 (dk_at dksX0_addPoint_4 11 rfl rfl)
theorem dX0_addPoint_110 : decode cX0_addPoint 110 = .ok (.iload 8, 2) := dk_21 8 (dk_at dksX0_addPoint_4 14 rfl rfl)
theorem dX0_addPoint_112 : decode cX0_addPoint 112 = .ok (.invokevirtual 52, 3) := dk_182 0 52 (dk_at dksX0_addPoint_4 16 rfl rfl)
theorem dX0_addPoint_115 : decode cX0_addPoint 115 = .ok (.checkcast 56, 3) := dk_192 0 56 (dk_at dksX0_addPoint_4 19 rfl rfl)
theorem dX0_addPoint_118 : decode cX0_addPoint 118 = .ok (.getfield 62, 3) := dk_180 0 62 (dk_at dksX0_addPoint_5 0 rfl rfl)
theorem dX0_addPoint_121 : decode cX0_addPoint 121 = .ok (.iload_n 2, 1) := dk_28 (dk_at dksX0_addPoint_5 3 rfl rfl)
theorem dX0_addPoint_122 : decode cX0_addPoint 122 = .ok (.if_icmp .ne 6, 3) := dk_160 0 6 (dk_at dksX0_addPoint_5 4 rfl rfl)
theorem dX0_addPoint_125 : decode cX0_addPoint 125 = .ok (.bipush (-3), 2) := dk_16 253 (dk_at dksX0_addPoint_5 7 rfl rfl)
theorem dX0_addPoint_127 : decode cX0_addPoint 127 = .ok (.ireturn, 1) := dk_172 (dk_at dksX0_addPoint_5 9 rfl rfl)
theorem dX0_addPoint_128 : decode cX0_addPoint 128 = .ok (.iinc 8 1, 3) := dk_132 8 1 (dk_at dksX0_addPoint_5 10 rfl rfl)
theorem dX0_addPoint_131 : decode cX0_addPoint 131 = .ok (.goto (-56), 3) := dk_167 255 200 (dk_at dksX0_addPoint_5 13 rfl rfl)
theorem dX0_addPoint_134 : decode cX0_addPoint 134 = .ok (.aload_n 0, 1) := dk_42 (dk_at dksX0_addPoint_5 16 rfl rfl)
theorem dX0_addPoint_135 : decode cX0_addPoint 135 = .ok (.getfield 10, 3) := dk_180 0 10 (dk_at dksX0_addPoint_5 17 rfl rfl)
theorem dX0_addPoint_138 : decode cX0_addPoint 138 = .ok (.invokevirtual 44, 3) := dk_182 0 44 (dk_at dksX0_addPoint_5 20 rfl rfl)
theorem dX0_addPoint_141 : decode cX0_addPoint 141 = .ok (.bipush 20, 2) := dk_16 20 (dk_at dksX0_addPoint_6 0 rfl rfl)
theorem dX0_addPoint_143 : decode cX0_addPoint 143 = .ok (.if_icmp .ne 6, 3) := dk_160 0 6 (dk_at dksX0_addPoint_6 2 rfl rfl)
theorem dX0_addPoint_146 : decode cX0_addPoint 146 = .ok (.bipush (-4), 2) := dk_16 252 (dk_at dksX0_addPoint_6 5 rfl rfl)
theorem dX0_addPoint_148 : decode cX0_addPoint 148 = .ok (.ireturn, 1) := dk_172 (dk_at dksX0_addPoint_6 7 rfl rfl)
theorem dX0_addPoint_149 : decode cX0_addPoint 149 = .ok (.new 56, 3) := dk_187 0 56 (dk_at dksX0_addPoint_6 8 rfl rfl)
theorem dX0_addPoint_152 : decode cX0_addPoint 152 = .ok (.dup, 1) := dk_89 (dk_at dksX0_addPoint_6 11 rfl rfl)
theorem dX0_addPoint_153 : decode cX0_addPoint 153 = .ok (.iload_n 1, 1) := dk_27 (dk_at dksX0_addPoint_6 12 rfl rfl)
theorem dX0_addPoint_154 : decode cX0_addPoint 154 = .ok (.iload_n 2, 1) := dk_28 (dk_at dksX0_addPoint_6 13 rfl rfl)
theorem dX0_addPoint_155 : decode cX0_addPoint 155 = .ok (.invokespecial 143, 3) := dk_183 0 143 (dk_at dksX0_addPoint_6 14 rfl rfl)
theorem dX0_addPoint_158 : decode cX0_addPoint 158 = .ok (.astore 8, 2) := dk_58 8 (dk_at dksX0_addPoint_6 17 rfl rfl)
theorem dX0_addPoint_160 : decode cX0_addPoint 160 = .ok (.aload 8, 2) := dk_25 8 (dk_at dksX0_addPoint_6 19 rfl rfl)
theorem dX0_addPoint_162 : decode cX0_addPoint 162 = .ok (.iconst 2, 1) := dk_5 (dk_at dksX0_addPoint_6 21 rfl rfl)
theorem dX0_addPoint_163 : decode cX0_addPoint 163 = .ok (.iload_n 3, 1) := dk_29 (dk_at dksX0_addPoint_6 22 rfl rfl)
theorem dX0_addPoint_164 : decode cX0_addPoint 164 = .ok (.invokevirtual 144, 3) := dk_182 0 144 (dk_at dksX0_addPoint_7 0 rfl rfl)
theorem dX0_addPoint_167 : decode cX0_addPoint 167 = .ok (.aload 8, 2) := dk_25 8 (dk_at dksX0_addPoint_7 3 rfl rfl)
theorem dX0_addPoint_169 : decode cX0_addPoint 169 = .ok (.iconst 3, 1) := dk_6 (dk_at dksX0_addPoint_7 5 rfl rfl)
theorem dX0_addPoint_170 : decode cX0_addPoint 170 = .ok (.iload 4, 2) := dk_21 4 (dk_at dksX0_addPoint_7 6 rfl rfl)
theorem dX0_addPoint_172 : decode cX0_addPoint 172 = .ok (.invokevirtual 144, 3) := dk_182 0 144 (dk_at dksX0_addPoint_7 8 rfl rfl)
theorem dX0_addPoint_175 : decode cX0_addPoint 175 = .ok (.aload 8, 2) := dk_25 8 (dk_at dksX0_addPoint_7 11 rfl rfl)
theorem dX0_addPoint_177 : decode cX0_addPoint 177 = .ok (.iconst 4, 1) := dk_7 (dk_at dksX0_addPoint_7 13 rfl rfl)
theorem dX0_addPoint_178 : decode cX0_addPoint 178 = .ok (.iload 5, 2) := dk_21 5 (dk_at dksX0_addPoint_7 14 rfl rfl)
theorem dX0_addPoint_180 : decode cX0_addPoint 180 = .ok (.invokevirtual 144, 3) := dk_182 0 144 (dk_at dksX0_addPoint_7 16 rfl rfl)
theorem dX0_addPoint_183 : decode cX0_addPoint 183 = .ok (.aload 8, 2) := dk_25 8 (dk_at dksX0_addPoint_7 19 rfl rfl)
theorem dX0_addPoint_185 : decode cX0_addPoint 185 = .ok (.iconst 5, 1) := dk_8 (dk_at dksX0_addPoint_7 21 rfl rfl)
theorem dX0_addPoint_186 : decode cX0_addPoint 186 = .ok (.iload 6, 2) := dk_21 6 (dk_at dksX0_addPoint_7 22 rfl rfl)
theorem dX0_addPoint_188 : decode cX0_addPoint 188 = .ok (.invokevirtual 144, 3) := dk_182 0 144 (dk_at dksX0_addPoint_8 0 rfl rfl)
theorem dX0_addPoint_191 : decode cX0_addPoint 191 = .ok (.aload_n 0, 1) := dk_42 (dk_at dksX0_addPoint_8 3 rfl rfl)
theorem dX0_addPoint_192 : decode cX0_addPoint 192 = .ok (.getfield 10, 3) := dk_180 0 10 (dk_at dksX0_addPoint_8 4 rfl rfl)
theorem dX0_addPoint_195 : decode cX0_addPoint 195 = .ok (.aload 8, 2) := dk_25 8 (dk_at dksX0_addPoint_8 7 rfl rfl)
theorem dX0_addPoint_197 : decode cX0_addPoint 197 = .ok (.invokevirtual 147, 3) := dk_182 0 147 (dk_at dksX0_addPoint_8 9 rfl rfl)
theorem dX0_addPoint_200 : decode cX0_addPoint 200 = .ok (.pop, 1) := dk_87 (dk_at dksX0_addPoint_8 12 rfl rfl)
theorem dX0_addPoint_201 : decode cX0_addPoint 201 = .ok (.aload_n 0, 1) := dk_42 (dk_at dksX0_addPoint_8 13 rfl rfl)
theorem dX0_addPoint_202 : decode cX0_addPoint 202 = .ok (.invokevirtual 148, 3) := dk_182 0 148 (dk_at dksX0_addPoint_8 14 rfl rfl)
theorem dX0_addPoint_205 : decode cX0_addPoint 205 = .ok (.aload_n 0, 1) := dk_42 (dk_at dksX0_addPoint_8 17 rfl rfl)
theorem dX0_addPoint_206 : decode cX0_addPoint 206 = .ok (.getfield 10, 3) := dk_180 0 10 (dk_at dksX0_addPoint_8 18 rfl rfl)
theorem dX0_addPoint_209 : decode cX0_addPoint 209 = .ok (.invokevirtual 44, 3) := dk_182 0 44 (dk_at dksX0_addPoint_8 21 rfl rfl)
theorem dX0_addPoint_212 : decode cX0_addPoint 212 = .ok (.iconst 1, 1) := dk_4 (dk_at dksX0_addPoint_9 0 rfl rfl)
theorem dX0_addPoint_213 : decode cX0_addPoint 213 = .ok (.isub, 1) := dk_100 (dk_at dksX0_addPoint_9 1 rfl rfl)
theorem dX0_addPoint_214 : decode cX0_addPoint 214 = .ok (.ireturn, 1) := dk_172 (dk_at dksX0_addPoint_9 2 rfl rfl)
abbrev cX0_isIn : ByteArray := prog_1_method_1_code
def yX0_isIn : MethodName := ⟨RX0, "isIn", "(III)Z"⟩
def dkwX0_isIn_0 : List UInt8 := [26, 27, 161, 0, 12, 26, 28, 163, 0, 7, 4, 167, 0, 4, 3, 172]
abbrev dktX0_isIn_0 : List UInt8 := dkwX0_isIn_0 ++ []
theorem dksX0_isIn_0 : cX0_isIn.data.toList.drop 0 = dktX0_isIn_0 := by decide +kernel
theorem dX0_isIn_0 : decode cX0_isIn 0 = .ok (.iload_n 0, 1) := dk_26 (dk_at dksX0_isIn_0 0 rfl rfl)
theorem dX0_isIn_1 : decode cX0_isIn 1 = .ok (.iload_n 1, 1) := dk_27 (dk_at dksX0_isIn_0 1 rfl rfl)
theorem dX0_isIn_2 : decode cX0_isIn 2 = .ok (.if_icmp .lt 12, 3) := dk_161 0 12 (dk_at dksX0_isIn_0 2 rfl rfl)
theorem dX0_isIn_5 : decode cX0_isIn 5 = .ok (.iload_n 0, 1) := dk_26 (dk_at dksX0_isIn_0 5 rfl rfl)
theorem dX0_isIn_6 : decode cX0_isIn 6 = .ok (.iload_n 2, 1) := dk_28 (dk_at dksX0_isIn_0 6 rfl rfl)
theorem dX0_isIn_7 : decode cX0_isIn 7 = .ok (.if_icmp .gt 7, 3) := dk_163 0 7 (dk_at dksX0_isIn_0 7 rfl rfl)
theorem dX0_isIn_10 : decode cX0_isIn 10 = .ok (.iconst 1, 1) := dk_4 (dk_at dksX0_isIn_0 10 rfl rfl)
theorem dX0_isIn_11 : decode cX0_isIn 11 = .ok (.goto 4, 3) := dk_167 0 4 (dk_at dksX0_isIn_0 11 rfl rfl)
theorem dX0_isIn_14 : decode cX0_isIn 14 = .ok (.iconst 0, 1) := dk_3 (dk_at dksX0_isIn_0 14 rfl rfl)
theorem dX0_isIn_15 : decode cX0_isIn 15 = .ok (.ireturn, 1) := dk_172 (dk_at dksX0_isIn_0 15 rfl rfl)
abbrev cX0_settle : ByteArray := prog_1_method_11_code
def yX0_settle : MethodName := ⟨RX0, "settle", "()V"⟩
def dkwX0_settle_3 : List UInt8 := [177]
abbrev dktX0_settle_3 : List UInt8 := dkwX0_settle_3 ++ []
def dkwX0_settle_2 : List UInt8 := [154, 0, 18, 42, 180, 0, 10, 27, 182, 0, 52, 192, 0, 56, 2, 181, 0, 112, 132, 1, 1, 167, 255, 197]
abbrev dktX0_settle_2 : List UInt8 := dkwX0_settle_2 ++ dktX0_settle_3
def dkwX0_settle_1 : List UInt8 := [153, 0, 40, 42, 27, 42, 180, 0, 10, 27, 182, 0, 52, 192, 0, 56, 180, 0, 112, 182, 0, 118]
abbrev dktX0_settle_1 : List UInt8 := dkwX0_settle_1 ++ dktX0_settle_2
def dkwX0_settle_0 : List UInt8 := [42, 1, 181, 0, 73, 3, 60, 27, 42, 180, 0, 10, 182, 0, 44, 162, 0, 54, 42, 27, 182, 0, 115]
abbrev dktX0_settle_0 : List UInt8 := dkwX0_settle_0 ++ dktX0_settle_1
theorem dksX0_settle_0 : cX0_settle.data.toList.drop 0 = dktX0_settle_0 := by decide +kernel
theorem dksX0_settle_1 : cX0_settle.data.toList.drop 23 = dktX0_settle_1 := dk_seg dksX0_settle_0 23 rfl rfl
theorem dksX0_settle_2 : cX0_settle.data.toList.drop 45 = dktX0_settle_2 := dk_seg dksX0_settle_1 22 rfl rfl
theorem dksX0_settle_3 : cX0_settle.data.toList.drop 69 = dktX0_settle_3 := dk_seg dksX0_settle_2 24 rfl rfl
theorem dX0_settle_0 : decode cX0_settle 0 = .ok (.aload_n 0, 1) := dk_42 (dk_at dksX0_settle_0 0 rfl rfl)
theorem dX0_settle_1 : decode cX0_settle 1 = .ok (.aconst_null, 1) := dk_1 (dk_at dksX0_settle_0 1 rfl rfl)
theorem dX0_settle_2 : decode cX0_settle 2 = .ok (.putfield 73, 3) := dk_181 0 73 (dk_at dksX0_settle_0 2 rfl rfl)
theorem dX0_settle_5 : decode cX0_settle 5 = .ok (.iconst 0, 1) := dk_3 (dk_at dksX0_settle_0 5 rfl rfl)
theorem dX0_settle_6 : decode cX0_settle 6 = .ok (.istore_n 1, 1) := dk_60 (dk_at dksX0_settle_0 6 rfl rfl)
theorem dX0_settle_7 : decode cX0_settle 7 = .ok (.iload_n 1, 1) := dk_27 (dk_at dksX0_settle_0 7 rfl rfl)
theorem dX0_settle_8 : decode cX0_settle 8 = .ok (.aload_n 0, 1) := dk_42 (dk_at dksX0_settle_0 8 rfl rfl)
theorem dX0_settle_9 : decode cX0_settle 9 = .ok (.getfield 10, 3) := dk_180 0 10 (dk_at dksX0_settle_0 9 rfl rfl)
theorem dX0_settle_12 : decode cX0_settle 12 = .ok (.invokevirtual 44, 3) := dk_182 0 44 (dk_at dksX0_settle_0 12 rfl rfl)
theorem dX0_settle_15 : decode cX0_settle 15 = .ok (.if_icmp .ge 54, 3) := dk_162 0 54 (dk_at dksX0_settle_0 15 rfl rfl)
theorem dX0_settle_18 : decode cX0_settle 18 = .ok (.aload_n 0, 1) := dk_42 (dk_at dksX0_settle_0 18 rfl rfl)
theorem dX0_settle_19 : decode cX0_settle 19 = .ok (.iload_n 1, 1) := dk_27 (dk_at dksX0_settle_0 19 rfl rfl)
theorem dX0_settle_20 : decode cX0_settle 20 = .ok (.invokevirtual 115, 3) := dk_182 0 115 (dk_at dksX0_settle_0 20 rfl rfl)
theorem dX0_settle_23 : decode cX0_settle 23 = .ok (.ifCond .eq 40, 3) := dk_153 0 40 (dk_at dksX0_settle_1 0 rfl rfl)
theorem dX0_settle_26 : decode cX0_settle 26 = .ok (.aload_n 0, 1) := dk_42 (dk_at dksX0_settle_1 3 rfl rfl)
theorem dX0_settle_27 : decode cX0_settle 27 = .ok (.iload_n 1, 1) := dk_27 (dk_at dksX0_settle_1 4 rfl rfl)
theorem dX0_settle_28 : decode cX0_settle 28 = .ok (.aload_n 0, 1) := dk_42 (dk_at dksX0_settle_1 5 rfl rfl)
theorem dX0_settle_29 : decode cX0_settle 29 = .ok (.getfield 10, 3) := dk_180 0 10 (dk_at dksX0_settle_1 6 rfl rfl)
theorem dX0_settle_32 : decode cX0_settle 32 = .ok (.iload_n 1, 1) := dk_27 (dk_at dksX0_settle_1 9 rfl rfl)
theorem dX0_settle_33 : decode cX0_settle 33 = .ok (.invokevirtual 52, 3) := dk_182 0 52 (dk_at dksX0_settle_1 10 rfl rfl)
theorem dX0_settle_36 : decode cX0_settle 36 = .ok (.checkcast 56, 3) := dk_192 0 56 (dk_at dksX0_settle_1 13 rfl rfl)
theorem dX0_settle_39 : decode cX0_settle 39 = .ok (.getfield 112, 3) := dk_180 0 112 (dk_at dksX0_settle_1 16 rfl rfl)
theorem dX0_settle_42 : decode cX0_settle 42 = .ok (.invokevirtual 118, 3) := dk_182 0 118 (dk_at dksX0_settle_1 19 rfl rfl)
theorem dX0_settle_45 : decode cX0_settle 45 = .ok (.ifCond .ne 18, 3) := dk_154 0 18 (dk_at dksX0_settle_2 0 rfl rfl)
theorem dX0_settle_48 : decode cX0_settle 48 = .ok (.aload_n 0, 1) := dk_42 (dk_at dksX0_settle_2 3 rfl rfl)
theorem dX0_settle_49 : decode cX0_settle 49 = .ok (.getfield 10, 3) := dk_180 0 10 (dk_at dksX0_settle_2 4 rfl rfl)
theorem dX0_settle_52 : decode cX0_settle 52 = .ok (.iload_n 1, 1) := dk_27 (dk_at dksX0_settle_2 7 rfl rfl)
theorem dX0_settle_53 : decode cX0_settle 53 = .ok (.invokevirtual 52, 3) := dk_182 0 52 (dk_at dksX0_settle_2 8 rfl rfl)
theorem dX0_settle_56 : decode cX0_settle 56 = .ok (.checkcast 56, 3) := dk_192 0 56 (dk_at dksX0_settle_2 11 rfl rfl)
theorem dX0_settle_59 : decode cX0_settle 59 = .ok (.iconst (-1), 1) := dk_2 (dk_at dksX0_settle_2 14 rfl rfl)
theorem dX0_settle_60 : decode cX0_settle 60 = .ok (.putfield 112, 3) := dk_181 0 112 (dk_at dksX0_settle_2 15 rfl rfl)
theorem dX0_settle_63 : decode cX0_settle 63 = .ok (.iinc 1 1, 3) := dk_132 1 1 (dk_at dksX0_settle_2 18 rfl rfl)
theorem dX0_settle_66 : decode cX0_settle 66 = .ok (.goto (-59), 3) := dk_167 255 197 (dk_at dksX0_settle_2 21 rfl rfl)
theorem dX0_settle_69 : decode cX0_settle 69 = .ok (.return_, 1) := dk_177 (dk_at dksX0_settle_3 0 rfl rfl)
abbrev cX0_isShown : ByteArray := prog_1_method_10_code
def yX0_isShown : MethodName := ⟨RX0, "isShown", "(I)Z"⟩
def dkwX0_isShown_0 : List UInt8 := [42, 180, 0, 10, 27, 182, 0, 52, 192, 0, 56, 180, 0, 112, 2, 159, 0, 7, 4, 167, 0, 4, 3, 172]
abbrev dktX0_isShown_0 : List UInt8 := dkwX0_isShown_0 ++ []
theorem dksX0_isShown_0 : cX0_isShown.data.toList.drop 0 = dktX0_isShown_0 := by decide +kernel
theorem dX0_isShown_0 : decode cX0_isShown 0 = .ok (.aload_n 0, 1) := dk_42 (dk_at dksX0_isShown_0 0 rfl rfl)
theorem dX0_isShown_1 : decode cX0_isShown 1 = .ok (.getfield 10, 3) := dk_180 0 10 (dk_at dksX0_isShown_0 1 rfl rfl)
theorem dX0_isShown_4 : decode cX0_isShown 4 = .ok (.iload_n 1, 1) := dk_27 (dk_at dksX0_isShown_0 4 rfl rfl)
theorem dX0_isShown_5 : decode cX0_isShown 5 = .ok (.invokevirtual 52, 3) := dk_182 0 52 (dk_at dksX0_isShown_0 5 rfl rfl)
theorem dX0_isShown_8 : decode cX0_isShown 8 = .ok (.checkcast 56, 3) := dk_192 0 56 (dk_at dksX0_isShown_0 8 rfl rfl)
theorem dX0_isShown_11 : decode cX0_isShown 11 = .ok (.getfield 112, 3) := dk_180 0 112 (dk_at dksX0_isShown_0 11 rfl rfl)
theorem dX0_isShown_14 : decode cX0_isShown 14 = .ok (.iconst (-1), 1) := dk_2 (dk_at dksX0_isShown_0 14 rfl rfl)
theorem dX0_isShown_15 : decode cX0_isShown 15 = .ok (.if_icmp .eq 7, 3) := dk_159 0 7 (dk_at dksX0_isShown_0 15 rfl rfl)
theorem dX0_isShown_18 : decode cX0_isShown 18 = .ok (.iconst 1, 1) := dk_4 (dk_at dksX0_isShown_0 18 rfl rfl)
theorem dX0_isShown_19 : decode cX0_isShown 19 = .ok (.goto 4, 3) := dk_167 0 4 (dk_at dksX0_isShown_0 19 rfl rfl)
theorem dX0_isShown_22 : decode cX0_isShown 22 = .ok (.iconst 0, 1) := dk_3 (dk_at dksX0_isShown_0 22 rfl rfl)
theorem dX0_isShown_23 : decode cX0_isShown 23 = .ok (.ireturn, 1) := dk_172 (dk_at dksX0_isShown_0 23 rfl rfl)
abbrev cX0_isPlace : ByteArray := prog_1_method_8_code
def yX0_isPlace : MethodName := ⟨RX0, "isPlace", "(II)Z"⟩
def dkwX0_isPlace_0 : List UInt8 := [42, 182, 0, 102, 42, 27, 28, 182, 0, 94, 182, 0, 105, 172]
abbrev dktX0_isPlace_0 : List UInt8 := dkwX0_isPlace_0 ++ []
theorem dksX0_isPlace_0 : cX0_isPlace.data.toList.drop 0 = dktX0_isPlace_0 := by decide +kernel
theorem dX0_isPlace_0 : decode cX0_isPlace 0 = .ok (.aload_n 0, 1) := dk_42 (dk_at dksX0_isPlace_0 0 rfl rfl)
theorem dX0_isPlace_1 : decode cX0_isPlace 1 = .ok (.invokevirtual 102, 3) := dk_182 0 102 (dk_at dksX0_isPlace_0 1 rfl rfl)
theorem dX0_isPlace_4 : decode cX0_isPlace 4 = .ok (.aload_n 0, 1) := dk_42 (dk_at dksX0_isPlace_0 4 rfl rfl)
theorem dX0_isPlace_5 : decode cX0_isPlace 5 = .ok (.iload_n 1, 1) := dk_27 (dk_at dksX0_isPlace_0 5 rfl rfl)
theorem dX0_isPlace_6 : decode cX0_isPlace 6 = .ok (.iload_n 2, 1) := dk_28 (dk_at dksX0_isPlace_0 6 rfl rfl)
theorem dX0_isPlace_7 : decode cX0_isPlace 7 = .ok (.invokevirtual 94, 3) := dk_182 0 94 (dk_at dksX0_isPlace_0 7 rfl rfl)
theorem dX0_isPlace_10 : decode cX0_isPlace 10 = .ok (.invokevirtual 105, 3) := dk_182 0 105 (dk_at dksX0_isPlace_0 10 rfl rfl)
theorem dX0_isPlace_13 : decode cX0_isPlace 13 = .ok (.ireturn, 1) := dk_172 (dk_at dksX0_isPlace_0 13 rfl rfl)
abbrev cX0_places : ByteArray := prog_1_method_7_code
def yX0_places : MethodName := ⟨RX0, "places", "()Ljava/util/LinkedHashMap;"⟩
def dkwX0_places_5 : List UInt8 := [132, 1, 1, 167, 255, 159, 42, 180, 0, 73, 176]
abbrev dktX0_places_5 : List UInt8 := dkwX0_places_5 ++ []
def dkwX0_places_4 : List UInt8 := [153, 0, 18, 42, 180, 0, 73, 42, 27, 28, 182, 0, 94, 45, 182, 0, 98, 87, 132, 2, 1, 167, 255, 178]
abbrev dktX0_places_4 : List UInt8 := dkwX0_places_4 ++ dktX0_places_5
def dkwX0_places_3 : List UInt8 := [182, 0, 52, 192, 0, 56, 180, 0, 88, 28, 122, 4, 126, 4, 160, 0, 26, 42, 45, 182, 0, 91]
abbrev dktX0_places_3 : List UInt8 := dkwX0_places_3 ++ dktX0_places_4
def dkwX0_places_2 : List UInt8 := [153, 0, 70, 42, 180, 0, 10, 27, 182, 0, 52, 192, 0, 56, 28, 182, 0, 84, 78, 42, 180, 0, 10, 27]
abbrev dktX0_places_2 : List UInt8 := dkwX0_places_2 ++ dktX0_places_3
def dkwX0_places_1 : List UInt8 := [180, 0, 10, 182, 0, 44, 162, 0, 92, 3, 61, 28, 16, 8, 162, 0, 78, 42, 27, 182, 0, 80]
abbrev dktX0_places_1 : List UInt8 := dkwX0_places_1 ++ dktX0_places_2
def dkwX0_places_0 : List UInt8 := [42, 180, 0, 73, 199, 0, 116, 42, 187, 0, 77, 89, 183, 0, 79, 181, 0, 73, 3, 60, 27, 42]
abbrev dktX0_places_0 : List UInt8 := dkwX0_places_0 ++ dktX0_places_1
theorem dksX0_places_0 : cX0_places.data.toList.drop 0 = dktX0_places_0 := by decide +kernel
theorem dksX0_places_1 : cX0_places.data.toList.drop 22 = dktX0_places_1 := dk_seg dksX0_places_0 22 rfl rfl
theorem dksX0_places_2 : cX0_places.data.toList.drop 44 = dktX0_places_2 := dk_seg dksX0_places_1 22 rfl rfl
theorem dksX0_places_3 : cX0_places.data.toList.drop 68 = dktX0_places_3 := dk_seg dksX0_places_2 24 rfl rfl
theorem dksX0_places_4 : cX0_places.data.toList.drop 90 = dktX0_places_4 := dk_seg dksX0_places_3 22 rfl rfl
theorem dksX0_places_5 : cX0_places.data.toList.drop 114 = dktX0_places_5 := dk_seg dksX0_places_4 24 rfl rfl
theorem dX0_places_0 : decode cX0_places 0 = .ok (.aload_n 0, 1) := dk_42 (dk_at dksX0_places_0 0 rfl rfl)
theorem dX0_places_1 : decode cX0_places 1 = .ok (.getfield 73, 3) := dk_180 0 73 (dk_at dksX0_places_0 1 rfl rfl)
theorem dX0_places_4 : decode cX0_places 4 = .ok (.ifnonnull 116, 3) := dk_199 0 116 (dk_at dksX0_places_0 4 rfl rfl)
theorem dX0_places_7 : decode cX0_places 7 = .ok (.aload_n 0, 1) := dk_42 (dk_at dksX0_places_0 7 rfl rfl)
theorem dX0_places_8 : decode cX0_places 8 = .ok (.new 77, 3) := dk_187 0 77 (dk_at dksX0_places_0 8 rfl rfl)
theorem dX0_places_11 : decode cX0_places 11 = .ok (.dup, 1) := dk_89 (dk_at dksX0_places_0 11 rfl rfl)
theorem dX0_places_12 : decode cX0_places 12 = .ok (.invokespecial 79, 3) := dk_183 0 79 (dk_at dksX0_places_0 12 rfl rfl)
theorem dX0_places_15 : decode cX0_places 15 = .ok (.putfield 73, 3) := dk_181 0 73 (dk_at dksX0_places_0 15 rfl rfl)
theorem dX0_places_18 : decode cX0_places 18 = .ok (.iconst 0, 1) := dk_3 (dk_at dksX0_places_0 18 rfl rfl)
theorem dX0_places_19 : decode cX0_places 19 = .ok (.istore_n 1, 1) := dk_60 (dk_at dksX0_places_0 19 rfl rfl)
theorem dX0_places_20 : decode cX0_places 20 = .ok (.iload_n 1, 1) := dk_27 (dk_at dksX0_places_0 20 rfl rfl)
theorem dX0_places_21 : decode cX0_places 21 = .ok (.aload_n 0, 1) := dk_42 (dk_at dksX0_places_0 21 rfl rfl)
theorem dX0_places_22 : decode cX0_places 22 = .ok (.getfield 10, 3) := dk_180 0 10 (dk_at dksX0_places_1 0 rfl rfl)
theorem dX0_places_25 : decode cX0_places 25 = .ok (.invokevirtual 44, 3) := dk_182 0 44 (dk_at dksX0_places_1 3 rfl rfl)
theorem dX0_places_28 : decode cX0_places 28 = .ok (.if_icmp .ge 92, 3) := dk_162 0 92 (dk_at dksX0_places_1 6 rfl rfl)
theorem dX0_places_31 : decode cX0_places 31 = .ok (.iconst 0, 1) := dk_3 (dk_at dksX0_places_1 9 rfl rfl)
theorem dX0_places_32 : decode cX0_places 32 = .ok (.istore_n 2, 1) := dk_61 (dk_at dksX0_places_1 10 rfl rfl)
theorem dX0_places_33 : decode cX0_places 33 = .ok (.iload_n 2, 1) := dk_28 (dk_at dksX0_places_1 11 rfl rfl)
theorem dX0_places_34 : decode cX0_places 34 = .ok (.bipush 8, 2) := dk_16 8 (dk_at dksX0_places_1 12 rfl rfl)
theorem dX0_places_36 : decode cX0_places 36 = .ok (.if_icmp .ge 78, 3) := dk_162 0 78 (dk_at dksX0_places_1 14 rfl rfl)
theorem dX0_places_39 : decode cX0_places 39 = .ok (.aload_n 0, 1) := dk_42 (dk_at dksX0_places_1 17 rfl rfl)
theorem dX0_places_40 : decode cX0_places 40 = .ok (.iload_n 1, 1) := dk_27 (dk_at dksX0_places_1 18 rfl rfl)
theorem dX0_places_41 : decode cX0_places 41 = .ok (.invokevirtual 80, 3) := dk_182 0 80 (dk_at dksX0_places_1 19 rfl rfl)
theorem dX0_places_44 : decode cX0_places 44 = .ok (.ifCond .eq 70, 3) := dk_153 0 70 (dk_at dksX0_places_2 0 rfl rfl)
theorem dX0_places_47 : decode cX0_places 47 = .ok (.aload_n 0, 1) := dk_42 (dk_at dksX0_places_2 3 rfl rfl)
theorem dX0_places_48 : decode cX0_places 48 = .ok (.getfield 10, 3) := dk_180 0 10 (dk_at dksX0_places_2 4 rfl rfl)
theorem dX0_places_51 : decode cX0_places 51 = .ok (.iload_n 1, 1) := dk_27 (dk_at dksX0_places_2 7 rfl rfl)
theorem dX0_places_52 : decode cX0_places 52 = .ok (.invokevirtual 52, 3) := dk_182 0 52 (dk_at dksX0_places_2 8 rfl rfl)
theorem dX0_places_55 : decode cX0_places 55 = .ok (.checkcast 56, 3) := dk_192 0 56 (dk_at dksX0_places_2 11 rfl rfl)
theorem dX0_places_58 : decode cX0_places 58 = .ok (.iload_n 2, 1) := dk_28 (dk_at dksX0_places_2 14 rfl rfl)
theorem dX0_places_59 : decode cX0_places 59 = .ok (.invokevirtual 84, 3) := dk_182 0 84 (dk_at dksX0_places_2 15 rfl rfl)
theorem dX0_places_62 : decode cX0_places 62 = .ok (.astore_n 3, 1) := dk_78 (dk_at dksX0_places_2 18 rfl rfl)
theorem dX0_places_63 : decode cX0_places 63 = .ok (.aload_n 0, 1) := dk_42 (dk_at dksX0_places_2 19 rfl rfl)
theorem dX0_places_64 : decode cX0_places 64 = .ok (.getfield 10, 3) := dk_180 0 10 (dk_at dksX0_places_2 20 rfl rfl)
theorem dX0_places_67 : decode cX0_places 67 = .ok (.iload_n 1, 1) := dk_27 (dk_at dksX0_places_2 23 rfl rfl)
theorem dX0_places_68 : decode cX0_places 68 = .ok (.invokevirtual 52, 3) := dk_182 0 52 (dk_at dksX0_places_3 0 rfl rfl)
theorem dX0_places_71 : decode cX0_places 71 = .ok (.checkcast 56, 3) := dk_192 0 56 (dk_at dksX0_places_3 3 rfl rfl)
theorem dX0_places_74 : decode cX0_places 74 = .ok (.getfield 88, 3) := dk_180 0 88 (dk_at dksX0_places_3 6 rfl rfl)
theorem dX0_places_77 : decode cX0_places 77 = .ok (.iload_n 2, 1) := dk_28 (dk_at dksX0_places_3 9 rfl rfl)
theorem dX0_places_78 : decode cX0_places 78 = .ok (.ishr, 1) := dk_122 (dk_at dksX0_places_3 10 rfl rfl)
theorem dX0_places_79 : decode cX0_places 79 = .ok (.iconst 1, 1) := dk_4 (dk_at dksX0_places_3 11 rfl rfl)
theorem dX0_places_80 : decode cX0_places 80 = .ok (.iand, 1) := dk_126 (dk_at dksX0_places_3 12 rfl rfl)
theorem dX0_places_81 : decode cX0_places 81 = .ok (.iconst 1, 1) := dk_4 (dk_at dksX0_places_3 13 rfl rfl)
theorem dX0_places_82 : decode cX0_places 82 = .ok (.if_icmp .ne 26, 3) := dk_160 0 26 (dk_at dksX0_places_3 14 rfl rfl)
theorem dX0_places_85 : decode cX0_places 85 = .ok (.aload_n 0, 1) := dk_42 (dk_at dksX0_places_3 17 rfl rfl)
theorem dX0_places_86 : decode cX0_places 86 = .ok (.aload_n 3, 1) := dk_45 (dk_at dksX0_places_3 18 rfl rfl)
theorem dX0_places_87 : decode cX0_places 87 = .ok (.invokevirtual 91, 3) := dk_182 0 91 (dk_at dksX0_places_3 19 rfl rfl)
theorem dX0_places_90 : decode cX0_places 90 = .ok (.ifCond .eq 18, 3) := dk_153 0 18 (dk_at dksX0_places_4 0 rfl rfl)
theorem dX0_places_93 : decode cX0_places 93 = .ok (.aload_n 0, 1) := dk_42 (dk_at dksX0_places_4 3 rfl rfl)
theorem dX0_places_94 : decode cX0_places 94 = .ok (.getfield 73, 3) := dk_180 0 73 (dk_at dksX0_places_4 4 rfl rfl)
theorem dX0_places_97 : decode cX0_places 97 = .ok (.aload_n 0, 1) := dk_42 (dk_at dksX0_places_4 7 rfl rfl)
theorem dX0_places_98 : decode cX0_places 98 = .ok (.iload_n 1, 1) := dk_27 (dk_at dksX0_places_4 8 rfl rfl)
theorem dX0_places_99 : decode cX0_places 99 = .ok (.iload_n 2, 1) := dk_28 (dk_at dksX0_places_4 9 rfl rfl)
theorem dX0_places_100 : decode cX0_places 100 = .ok (.invokevirtual 94, 3) := dk_182 0 94 (dk_at dksX0_places_4 10 rfl rfl)
theorem dX0_places_103 : decode cX0_places 103 = .ok (.aload_n 3, 1) := dk_45 (dk_at dksX0_places_4 13 rfl rfl)
theorem dX0_places_104 : decode cX0_places 104 = .ok (.invokevirtual 98, 3) := dk_182 0 98 (dk_at dksX0_places_4 14 rfl rfl)
theorem dX0_places_107 : decode cX0_places 107 = .ok (.pop, 1) := dk_87 (dk_at dksX0_places_4 17 rfl rfl)
theorem dX0_places_108 : decode cX0_places 108 = .ok (.iinc 2 1, 3) := dk_132 2 1 (dk_at dksX0_places_4 18 rfl rfl)
theorem dX0_places_111 : decode cX0_places 111 = .ok (.goto (-78), 3) := dk_167 255 178 (dk_at dksX0_places_4 21 rfl rfl)
theorem dX0_places_114 : decode cX0_places 114 = .ok (.iinc 1 1, 3) := dk_132 1 1 (dk_at dksX0_places_5 0 rfl rfl)
theorem dX0_places_117 : decode cX0_places 117 = .ok (.goto (-97), 3) := dk_167 255 159 (dk_at dksX0_places_5 3 rfl rfl)
theorem dX0_places_120 : decode cX0_places 120 = .ok (.aload_n 0, 1) := dk_42 (dk_at dksX0_places_5 6 rfl rfl)
theorem dX0_places_121 : decode cX0_places 121 = .ok (.getfield 73, 3) := dk_180 0 73 (dk_at dksX0_places_5 7 rfl rfl)
theorem dX0_places_124 : decode cX0_places 124 = .ok (.areturn, 1) := dk_176 (dk_at dksX0_places_5 10 rfl rfl)
abbrev cX0_isVisible : ByteArray := prog_1_method_5_code
def yX0_isVisible : MethodName := ⟨RX0, "isVisible", "(I)Z"⟩
def dkwX0_isVisible_1 : List UInt8 := [182, 0, 52, 192, 0, 56, 180, 0, 62, 182, 0, 65, 172]
abbrev dktX0_isVisible_1 : List UInt8 := dkwX0_isVisible_1 ++ []
def dkwX0_isVisible_0 : List UInt8 := [42, 180, 0, 21, 42, 180, 0, 10, 27, 182, 0, 52, 192, 0, 56, 180, 0, 58, 42, 180, 0, 10, 27]
abbrev dktX0_isVisible_0 : List UInt8 := dkwX0_isVisible_0 ++ dktX0_isVisible_1
theorem dksX0_isVisible_0 : cX0_isVisible.data.toList.drop 0 = dktX0_isVisible_0 := by decide +kernel
theorem dksX0_isVisible_1 : cX0_isVisible.data.toList.drop 23 = dktX0_isVisible_1 := dk_seg dksX0_isVisible_0 23 rfl rfl
theorem dX0_isVisible_0 : decode cX0_isVisible 0 = .ok (.aload_n 0, 1) := dk_42 (dk_at dksX0_isVisible_0 0 rfl rfl)
theorem dX0_isVisible_1 : decode cX0_isVisible 1 = .ok (.getfield 21, 3) := dk_180 0 21 (dk_at dksX0_isVisible_0 1 rfl rfl)
theorem dX0_isVisible_4 : decode cX0_isVisible 4 = .ok (.aload_n 0, 1) := dk_42 (dk_at dksX0_isVisible_0 4 rfl rfl)
theorem dX0_isVisible_5 : decode cX0_isVisible 5 = .ok (.getfield 10, 3) := dk_180 0 10 (dk_at dksX0_isVisible_0 5 rfl rfl)
theorem dX0_isVisible_8 : decode cX0_isVisible 8 = .ok (.iload_n 1, 1) := dk_27 (dk_at dksX0_isVisible_0 8 rfl rfl)
theorem dX0_isVisible_9 : decode cX0_isVisible 9 = .ok (.invokevirtual 52, 3) := dk_182 0 52 (dk_at dksX0_isVisible_0 9 rfl rfl)
theorem dX0_isVisible_12 : decode cX0_isVisible 12 = .ok (.checkcast 56, 3) := dk_192 0 56 (dk_at dksX0_isVisible_0 12 rfl rfl)
theorem dX0_isVisible_15 : decode cX0_isVisible 15 = .ok (.getfield 58, 3) := dk_180 0 58 (dk_at dksX0_isVisible_0 15 rfl rfl)
theorem dX0_isVisible_18 : decode cX0_isVisible 18 = .ok (.aload_n 0, 1) := dk_42 (dk_at dksX0_isVisible_0 18 rfl rfl)
theorem dX0_isVisible_19 : decode cX0_isVisible 19 = .ok (.getfield 10, 3) := dk_180 0 10 (dk_at dksX0_isVisible_0 19 rfl rfl)
theorem dX0_isVisible_22 : decode cX0_isVisible 22 = .ok (.iload_n 1, 1) := dk_27 (dk_at dksX0_isVisible_0 22 rfl rfl)
theorem dX0_isVisible_23 : decode cX0_isVisible 23 = .ok (.invokevirtual 52, 3) := dk_182 0 52 (dk_at dksX0_isVisible_1 0 rfl rfl)
theorem dX0_isVisible_26 : decode cX0_isVisible 26 = .ok (.checkcast 56, 3) := dk_192 0 56 (dk_at dksX0_isVisible_1 3 rfl rfl)
theorem dX0_isVisible_29 : decode cX0_isVisible 29 = .ok (.getfield 62, 3) := dk_180 0 62 (dk_at dksX0_isVisible_1 6 rfl rfl)
theorem dX0_isVisible_32 : decode cX0_isVisible 32 = .ok (.invokevirtual 65, 3) := dk_182 0 65 (dk_at dksX0_isVisible_1 9 rfl rfl)
theorem dX0_isVisible_35 : decode cX0_isVisible 35 = .ok (.ireturn, 1) := dk_172 (dk_at dksX0_isVisible_1 12 rfl rfl)
abbrev cX0_isFree : ByteArray := prog_1_method_6_code
def yX0_isFree : MethodName := ⟨RX0, "isFree", "(LLabelPlacer$Box;)Z"⟩
def dkwX0_isFree_2 : List UInt8 := [153, 0, 5, 3, 172, 132, 2, 1, 167, 255, 205, 43, 42, 180, 0, 21, 182, 0, 69, 172]
abbrev dktX0_isFree_2 : List UInt8 := dkwX0_isFree_2 ++ []
def dkwX0_isFree_1 : List UInt8 := [192, 0, 56, 180, 0, 58, 42, 180, 0, 10, 28, 182, 0, 52, 192, 0, 56, 180, 0, 62, 182, 0, 65]
abbrev dktX0_isFree_1 : List UInt8 := dkwX0_isFree_1 ++ dktX0_isFree_2
def dkwX0_isFree_0 : List UInt8 := [3, 61, 28, 42, 180, 0, 10, 182, 0, 44, 162, 0, 46, 43, 42, 180, 0, 10, 28, 182, 0, 52]
abbrev dktX0_isFree_0 : List UInt8 := dkwX0_isFree_0 ++ dktX0_isFree_1
theorem dksX0_isFree_0 : cX0_isFree.data.toList.drop 0 = dktX0_isFree_0 := by decide +kernel
theorem dksX0_isFree_1 : cX0_isFree.data.toList.drop 22 = dktX0_isFree_1 := dk_seg dksX0_isFree_0 22 rfl rfl
theorem dksX0_isFree_2 : cX0_isFree.data.toList.drop 45 = dktX0_isFree_2 := dk_seg dksX0_isFree_1 23 rfl rfl
theorem dX0_isFree_0 : decode cX0_isFree 0 = .ok (.iconst 0, 1) := dk_3 (dk_at dksX0_isFree_0 0 rfl rfl)
theorem dX0_isFree_1 : decode cX0_isFree 1 = .ok (.istore_n 2, 1) := dk_61 (dk_at dksX0_isFree_0 1 rfl rfl)
theorem dX0_isFree_2 : decode cX0_isFree 2 = .ok (.iload_n 2, 1) := dk_28 (dk_at dksX0_isFree_0 2 rfl rfl)
theorem dX0_isFree_3 : decode cX0_isFree 3 = .ok (.aload_n 0, 1) := dk_42 (dk_at dksX0_isFree_0 3 rfl rfl)
theorem dX0_isFree_4 : decode cX0_isFree 4 = .ok (.getfield 10, 3) := dk_180 0 10 (dk_at dksX0_isFree_0 4 rfl rfl)
theorem dX0_isFree_7 : decode cX0_isFree 7 = .ok (.invokevirtual 44, 3) := dk_182 0 44 (dk_at dksX0_isFree_0 7 rfl rfl)
theorem dX0_isFree_10 : decode cX0_isFree 10 = .ok (.if_icmp .ge 46, 3) := dk_162 0 46 (dk_at dksX0_isFree_0 10 rfl rfl)
theorem dX0_isFree_13 : decode cX0_isFree 13 = .ok (.aload_n 1, 1) := dk_43 (dk_at dksX0_isFree_0 13 rfl rfl)
theorem dX0_isFree_14 : decode cX0_isFree 14 = .ok (.aload_n 0, 1) := dk_42 (dk_at dksX0_isFree_0 14 rfl rfl)
theorem dX0_isFree_15 : decode cX0_isFree 15 = .ok (.getfield 10, 3) := dk_180 0 10 (dk_at dksX0_isFree_0 15 rfl rfl)
theorem dX0_isFree_18 : decode cX0_isFree 18 = .ok (.iload_n 2, 1) := dk_28 (dk_at dksX0_isFree_0 18 rfl rfl)
theorem dX0_isFree_19 : decode cX0_isFree 19 = .ok (.invokevirtual 52, 3) := dk_182 0 52 (dk_at dksX0_isFree_0 19 rfl rfl)
theorem dX0_isFree_22 : decode cX0_isFree 22 = .ok (.checkcast 56, 3) := dk_192 0 56 (dk_at dksX0_isFree_1 0 rfl rfl)
theorem dX0_isFree_25 : decode cX0_isFree 25 = .ok (.getfield 58, 3) := dk_180 0 58 (dk_at dksX0_isFree_1 3 rfl rfl)
theorem dX0_isFree_28 : decode cX0_isFree 28 = .ok (.aload_n 0, 1) := dk_42 (dk_at dksX0_isFree_1 6 rfl rfl)
theorem dX0_isFree_29 : decode cX0_isFree 29 = .ok (.getfield 10, 3) := dk_180 0 10 (dk_at dksX0_isFree_1 7 rfl rfl)
theorem dX0_isFree_32 : decode cX0_isFree 32 = .ok (.iload_n 2, 1) := dk_28 (dk_at dksX0_isFree_1 10 rfl rfl)
theorem dX0_isFree_33 : decode cX0_isFree 33 = .ok (.invokevirtual 52, 3) := dk_182 0 52 (dk_at dksX0_isFree_1 11 rfl rfl)
theorem dX0_isFree_36 : decode cX0_isFree 36 = .ok (.checkcast 56, 3) := dk_192 0 56 (dk_at dksX0_isFree_1 14 rfl rfl)
theorem dX0_isFree_39 : decode cX0_isFree 39 = .ok (.getfield 62, 3) := dk_180 0 62 (dk_at dksX0_isFree_1 17 rfl rfl)
theorem dX0_isFree_42 : decode cX0_isFree 42 = .ok (.invokevirtual 65, 3) := dk_182 0 65 (dk_at dksX0_isFree_1 20 rfl rfl)
theorem dX0_isFree_45 : decode cX0_isFree 45 = .ok (.ifCond .eq 5, 3) := dk_153 0 5 (dk_at dksX0_isFree_2 0 rfl rfl)
theorem dX0_isFree_48 : decode cX0_isFree 48 = .ok (.iconst 0, 1) := dk_3 (dk_at dksX0_isFree_2 3 rfl rfl)
theorem dX0_isFree_49 : decode cX0_isFree 49 = .ok (.ireturn, 1) := dk_172 (dk_at dksX0_isFree_2 4 rfl rfl)
theorem dX0_isFree_50 : decode cX0_isFree 50 = .ok (.iinc 2 1, 3) := dk_132 2 1 (dk_at dksX0_isFree_2 5 rfl rfl)
theorem dX0_isFree_53 : decode cX0_isFree 53 = .ok (.goto (-51), 3) := dk_167 255 205 (dk_at dksX0_isFree_2 8 rfl rfl)
theorem dX0_isFree_56 : decode cX0_isFree 56 = .ok (.aload_n 1, 1) := dk_43 (dk_at dksX0_isFree_2 11 rfl rfl)
theorem dX0_isFree_57 : decode cX0_isFree 57 = .ok (.aload_n 0, 1) := dk_42 (dk_at dksX0_isFree_2 12 rfl rfl)
theorem dX0_isFree_58 : decode cX0_isFree 58 = .ok (.getfield 21, 3) := dk_180 0 21 (dk_at dksX0_isFree_2 13 rfl rfl)
theorem dX0_isFree_61 : decode cX0_isFree 61 = .ok (.invokevirtual 69, 3) := dk_182 0 69 (dk_at dksX0_isFree_2 16 rfl rfl)
theorem dX0_isFree_64 : decode cX0_isFree 64 = .ok (.ireturn, 1) := dk_172 (dk_at dksX0_isFree_2 19 rfl rfl)
abbrev cX0_key : ByteArray := prog_1_method_3_code
def yX0_key : MethodName := ⟨RX0, "key", "(II)LLabelPlacer$Key;"⟩
def dkwX0_key_0 : List UInt8 := [42, 180, 0, 27, 16, 8, 27, 104, 28, 96, 50, 176]
abbrev dktX0_key_0 : List UInt8 := dkwX0_key_0 ++ []
theorem dksX0_key_0 : cX0_key.data.toList.drop 0 = dktX0_key_0 := by decide +kernel
theorem dX0_key_0 : decode cX0_key 0 = .ok (.aload_n 0, 1) := dk_42 (dk_at dksX0_key_0 0 rfl rfl)
theorem dX0_key_1 : decode cX0_key 1 = .ok (.getfield 27, 3) := dk_180 0 27 (dk_at dksX0_key_0 1 rfl rfl)
theorem dX0_key_4 : decode cX0_key 4 = .ok (.bipush 8, 2) := dk_16 8 (dk_at dksX0_key_0 4 rfl rfl)
theorem dX0_key_6 : decode cX0_key 6 = .ok (.iload_n 1, 1) := dk_27 (dk_at dksX0_key_0 6 rfl rfl)
theorem dX0_key_7 : decode cX0_key 7 = .ok (.imul, 1) := dk_104 (dk_at dksX0_key_0 7 rfl rfl)
theorem dX0_key_8 : decode cX0_key 8 = .ok (.iload_n 2, 1) := dk_28 (dk_at dksX0_key_0 8 rfl rfl)
theorem dX0_key_9 : decode cX0_key 9 = .ok (.iadd, 1) := dk_96 (dk_at dksX0_key_0 9 rfl rfl)
theorem dX0_key_10 : decode cX0_key 10 = .ok (.aaload, 1) := dk_50 (dk_at dksX0_key_0 10 rfl rfl)
theorem dX0_key_11 : decode cX0_key 11 = .ok (.areturn, 1) := dk_176 (dk_at dksX0_key_0 11 rfl rfl)
abbrev cX0_removePoint : ByteArray := prog_1_method_14_code
def yX0_removePoint : MethodName := ⟨RX0, "removePoint", "(I)I"⟩
def dkwX0_removePoint_1 : List UInt8 := [42, 180, 0, 10, 182, 0, 44, 172]
abbrev dktX0_removePoint_1 : List UInt8 := dkwX0_removePoint_1 ++ []
def dkwX0_removePoint_0 : List UInt8 := [42, 27, 182, 0, 151, 154, 0, 6, 16, 254, 172, 42, 180, 0, 10, 27, 182, 0, 154, 87, 42, 182, 0, 148]
abbrev dktX0_removePoint_0 : List UInt8 := dkwX0_removePoint_0 ++ dktX0_removePoint_1
theorem dksX0_removePoint_0 : cX0_removePoint.data.toList.drop 0 = dktX0_removePoint_0 := by decide +kernel
theorem dksX0_removePoint_1 : cX0_removePoint.data.toList.drop 24 = dktX0_removePoint_1 := dk_seg dksX0_removePoint_0 24 rfl rfl
theorem dX0_removePoint_0 : decode cX0_removePoint 0 = .ok (.aload_n 0, 1) := dk_42 (dk_at dksX0_removePoint_0 0 rfl rfl)
theorem dX0_removePoint_1 : decode cX0_removePoint 1 = .ok (.iload_n 1, 1) := dk_27 (dk_at dksX0_removePoint_0 1 rfl rfl)
theorem dX0_removePoint_2 : decode cX0_removePoint 2 = .ok (.invokevirtual 151, 3) := dk_182 0 151 (dk_at dksX0_removePoint_0 2 rfl rfl)
theorem dX0_removePoint_5 : decode cX0_removePoint 5 = .ok (.ifCond .ne 6, 3) := dk_154 0 6 (dk_at dksX0_removePoint_0 5 rfl rfl)
theorem dX0_removePoint_8 : decode cX0_removePoint 8 = .ok (.bipush (-2), 2) := dk_16 254 (dk_at dksX0_removePoint_0 8 rfl rfl)
theorem dX0_removePoint_10 : decode cX0_removePoint 10 = .ok (.ireturn, 1) := dk_172 (dk_at dksX0_removePoint_0 10 rfl rfl)
theorem dX0_removePoint_11 : decode cX0_removePoint 11 = .ok (.aload_n 0, 1) := dk_42 (dk_at dksX0_removePoint_0 11 rfl rfl)
theorem dX0_removePoint_12 : decode cX0_removePoint 12 = .ok (.getfield 10, 3) := dk_180 0 10 (dk_at dksX0_removePoint_0 12 rfl rfl)
theorem dX0_removePoint_15 : decode cX0_removePoint 15 = .ok (.iload_n 1, 1) := dk_27 (dk_at dksX0_removePoint_0 15 rfl rfl)
theorem dX0_removePoint_16 : decode cX0_removePoint 16 = .ok (.invokevirtual 154, 3) := dk_182 0 154 (dk_at dksX0_removePoint_0 16 rfl rfl)
theorem dX0_removePoint_19 : decode cX0_removePoint 19 = .ok (.pop, 1) := dk_87 (dk_at dksX0_removePoint_0 19 rfl rfl)
theorem dX0_removePoint_20 : decode cX0_removePoint 20 = .ok (.aload_n 0, 1) := dk_42 (dk_at dksX0_removePoint_0 20 rfl rfl)
theorem dX0_removePoint_21 : decode cX0_removePoint 21 = .ok (.invokevirtual 148, 3) := dk_182 0 148 (dk_at dksX0_removePoint_0 21 rfl rfl)
theorem dX0_removePoint_24 : decode cX0_removePoint 24 = .ok (.aload_n 0, 1) := dk_42 (dk_at dksX0_removePoint_1 0 rfl rfl)
theorem dX0_removePoint_25 : decode cX0_removePoint 25 = .ok (.getfield 10, 3) := dk_180 0 10 (dk_at dksX0_removePoint_1 1 rfl rfl)
theorem dX0_removePoint_28 : decode cX0_removePoint 28 = .ok (.invokevirtual 44, 3) := dk_182 0 44 (dk_at dksX0_removePoint_1 4 rfl rfl)
theorem dX0_removePoint_31 : decode cX0_removePoint 31 = .ok (.ireturn, 1) := dk_172 (dk_at dksX0_removePoint_1 7 rfl rfl)
abbrev cX0_isPoint : ByteArray := prog_1_method_4_code
def yX0_isPoint : MethodName := ⟨RX0, "isPoint", "(I)Z"⟩
def dkwX0_isPoint_0 : List UInt8 := [27, 3, 42, 180, 0, 10, 182, 0, 44, 4, 100, 184, 0, 48, 172]
abbrev dktX0_isPoint_0 : List UInt8 := dkwX0_isPoint_0 ++ []
theorem dksX0_isPoint_0 : cX0_isPoint.data.toList.drop 0 = dktX0_isPoint_0 := by decide +kernel
theorem dX0_isPoint_0 : decode cX0_isPoint 0 = .ok (.iload_n 1, 1) := dk_27 (dk_at dksX0_isPoint_0 0 rfl rfl)
theorem dX0_isPoint_1 : decode cX0_isPoint 1 = .ok (.iconst 0, 1) := dk_3 (dk_at dksX0_isPoint_0 1 rfl rfl)
theorem dX0_isPoint_2 : decode cX0_isPoint 2 = .ok (.aload_n 0, 1) := dk_42 (dk_at dksX0_isPoint_0 2 rfl rfl)
theorem dX0_isPoint_3 : decode cX0_isPoint 3 = .ok (.getfield 10, 3) := dk_180 0 10 (dk_at dksX0_isPoint_0 3 rfl rfl)
theorem dX0_isPoint_6 : decode cX0_isPoint 6 = .ok (.invokevirtual 44, 3) := dk_182 0 44 (dk_at dksX0_isPoint_0 6 rfl rfl)
theorem dX0_isPoint_9 : decode cX0_isPoint 9 = .ok (.iconst 1, 1) := dk_4 (dk_at dksX0_isPoint_0 9 rfl rfl)
theorem dX0_isPoint_10 : decode cX0_isPoint 10 = .ok (.isub, 1) := dk_100 (dk_at dksX0_isPoint_0 10 rfl rfl)
theorem dX0_isPoint_11 : decode cX0_isPoint 11 = .ok (.invokestatic 48, 3) := dk_184 0 48 (dk_at dksX0_isPoint_0 11 rfl rfl)
theorem dX0_isPoint_14 : decode cX0_isPoint 14 = .ok (.ireturn, 1) := dk_172 (dk_at dksX0_isPoint_0 14 rfl rfl)
abbrev cX0_setPoint : ByteArray := prog_1_method_15_code
def yX0_setPoint : MethodName := ⟨RX0, "setPoint", "(III)I"⟩
def dkwX0_setPoint_3 : List UInt8 := [182, 0, 161, 182, 0, 165, 154, 0, 9, 25, 4, 2, 181, 0, 112, 21, 5, 172]
abbrev dktX0_setPoint_3 : List UInt8 := dkwX0_setPoint_3 ++ []
def dkwX0_setPoint_2 : List UInt8 := [182, 0, 148, 42, 27, 182, 0, 115, 153, 0, 30, 42, 25, 4, 25, 4, 180, 0, 112, 182, 0, 84, 27]
abbrev dktX0_setPoint_2 : List UInt8 := dkwX0_setPoint_2 ++ dktX0_setPoint_3
def dkwX0_setPoint_1 : List UInt8 := [182, 0, 52, 192, 0, 56, 58, 4, 25, 4, 28, 182, 0, 157, 54, 5, 25, 4, 28, 29, 182, 0, 144, 42]
abbrev dktX0_setPoint_1 : List UInt8 := dkwX0_setPoint_1 ++ dktX0_setPoint_2
def dkwX0_setPoint_0 : List UInt8 := [42, 27, 182, 0, 151, 153, 0, 11, 28, 29, 184, 0, 140, 154, 0, 6, 16, 254, 172, 42, 180, 0, 10, 27]
abbrev dktX0_setPoint_0 : List UInt8 := dkwX0_setPoint_0 ++ dktX0_setPoint_1
theorem dksX0_setPoint_0 : cX0_setPoint.data.toList.drop 0 = dktX0_setPoint_0 := by decide +kernel
theorem dksX0_setPoint_1 : cX0_setPoint.data.toList.drop 24 = dktX0_setPoint_1 := dk_seg dksX0_setPoint_0 24 rfl rfl
theorem dksX0_setPoint_2 : cX0_setPoint.data.toList.drop 48 = dktX0_setPoint_2 := dk_seg dksX0_setPoint_1 24 rfl rfl
theorem dksX0_setPoint_3 : cX0_setPoint.data.toList.drop 71 = dktX0_setPoint_3 := dk_seg dksX0_setPoint_2 23 rfl rfl
theorem dX0_setPoint_0 : decode cX0_setPoint 0 = .ok (.aload_n 0, 1) := dk_42 (dk_at dksX0_setPoint_0 0 rfl rfl)
theorem dX0_setPoint_1 : decode cX0_setPoint 1 = .ok (.iload_n 1, 1) := dk_27 (dk_at dksX0_setPoint_0 1 rfl rfl)
theorem dX0_setPoint_2 : decode cX0_setPoint 2 = .ok (.invokevirtual 151, 3) := dk_182 0 151 (dk_at dksX0_setPoint_0 2 rfl rfl)
theorem dX0_setPoint_5 : decode cX0_setPoint 5 = .ok (.ifCond .eq 11, 3) := dk_153 0 11 (dk_at dksX0_setPoint_0 5 rfl rfl)
theorem dX0_setPoint_8 : decode cX0_setPoint 8 = .ok (.iload_n 2, 1) := dk_28 (dk_at dksX0_setPoint_0 8 rfl rfl)
theorem dX0_setPoint_9 : decode cX0_setPoint 9 = .ok (.iload_n 3, 1) := dk_29 (dk_at dksX0_setPoint_0 9 rfl rfl)
theorem dX0_setPoint_10 : decode cX0_setPoint 10 = .ok (.invokestatic 140, 3) := dk_184 0 140 (dk_at dksX0_setPoint_0 10 rfl rfl)
theorem dX0_setPoint_13 : decode cX0_setPoint 13 = .ok (.ifCond .ne 6, 3) := dk_154 0 6 (dk_at dksX0_setPoint_0 13 rfl rfl)
theorem dX0_setPoint_16 : decode cX0_setPoint 16 = .ok (.bipush (-2), 2) := dk_16 254 (dk_at dksX0_setPoint_0 16 rfl rfl)
theorem dX0_setPoint_18 : decode cX0_setPoint 18 = .ok (.ireturn, 1) := dk_172 (dk_at dksX0_setPoint_0 18 rfl rfl)
theorem dX0_setPoint_19 : decode cX0_setPoint 19 = .ok (.aload_n 0, 1) := dk_42 (dk_at dksX0_setPoint_0 19 rfl rfl)
theorem dX0_setPoint_20 : decode cX0_setPoint 20 = .ok (.getfield 10, 3) := dk_180 0 10 (dk_at dksX0_setPoint_0 20 rfl rfl)
theorem dX0_setPoint_23 : decode cX0_setPoint 23 = .ok (.iload_n 1, 1) := dk_27 (dk_at dksX0_setPoint_0 23 rfl rfl)
theorem dX0_setPoint_24 : decode cX0_setPoint 24 = .ok (.invokevirtual 52, 3) := dk_182 0 52 (dk_at dksX0_setPoint_1 0 rfl rfl)
theorem dX0_setPoint_27 : decode cX0_setPoint 27 = .ok (.checkcast 56, 3) := dk_192 0 56 (dk_at dksX0_setPoint_1 3 rfl rfl)
theorem dX0_setPoint_30 : decode cX0_setPoint 30 = .ok (.astore 4, 2) := dk_58 4 (dk_at dksX0_setPoint_1 6 rfl rfl)
theorem dX0_setPoint_32 : decode cX0_setPoint 32 = .ok (.aload 4, 2) := dk_25 4 (dk_at dksX0_setPoint_1 8 rfl rfl)
theorem dX0_setPoint_34 : decode cX0_setPoint 34 = .ok (.iload_n 2, 1) := dk_28 (dk_at dksX0_setPoint_1 10 rfl rfl)
theorem dX0_setPoint_35 : decode cX0_setPoint 35 = .ok (.invokevirtual 157, 3) := dk_182 0 157 (dk_at dksX0_setPoint_1 11 rfl rfl)
theorem dX0_setPoint_38 : decode cX0_setPoint 38 = .ok (.istore 5, 2) := dk_54 5 (dk_at dksX0_setPoint_1 14 rfl rfl)
theorem dX0_setPoint_40 : decode cX0_setPoint 40 = .ok (.aload 4, 2) := dk_25 4 (dk_at dksX0_setPoint_1 16 rfl rfl)
theorem dX0_setPoint_42 : decode cX0_setPoint 42 = .ok (.iload_n 2, 1) := dk_28 (dk_at dksX0_setPoint_1 18 rfl rfl)
theorem dX0_setPoint_43 : decode cX0_setPoint 43 = .ok (.iload_n 3, 1) := dk_29 (dk_at dksX0_setPoint_1 19 rfl rfl)
theorem dX0_setPoint_44 : decode cX0_setPoint 44 = .ok (.invokevirtual 144, 3) := dk_182 0 144 (dk_at dksX0_setPoint_1 20 rfl rfl)
theorem dX0_setPoint_47 : decode cX0_setPoint 47 = .ok (.aload_n 0, 1) := dk_42 (dk_at dksX0_setPoint_1 23 rfl rfl)
theorem dX0_setPoint_48 : decode cX0_setPoint 48 = .ok (.invokevirtual 148, 3) := dk_182 0 148 (dk_at dksX0_setPoint_2 0 rfl rfl)
theorem dX0_setPoint_51 : decode cX0_setPoint 51 = .ok (.aload_n 0, 1) := dk_42 (dk_at dksX0_setPoint_2 3 rfl rfl)
theorem dX0_setPoint_52 : decode cX0_setPoint 52 = .ok (.iload_n 1, 1) := dk_27 (dk_at dksX0_setPoint_2 4 rfl rfl)
theorem dX0_setPoint_53 : decode cX0_setPoint 53 = .ok (.invokevirtual 115, 3) := dk_182 0 115 (dk_at dksX0_setPoint_2 5 rfl rfl)
theorem dX0_setPoint_56 : decode cX0_setPoint 56 = .ok (.ifCond .eq 30, 3) := dk_153 0 30 (dk_at dksX0_setPoint_2 8 rfl rfl)
theorem dX0_setPoint_59 : decode cX0_setPoint 59 = .ok (.aload_n 0, 1) := dk_42 (dk_at dksX0_setPoint_2 11 rfl rfl)
theorem dX0_setPoint_60 : decode cX0_setPoint 60 = .ok (.aload 4, 2) := dk_25 4 (dk_at dksX0_setPoint_2 12 rfl rfl)
theorem dX0_setPoint_62 : decode cX0_setPoint 62 = .ok (.aload 4, 2) := dk_25 4 (dk_at dksX0_setPoint_2 14 rfl rfl)
theorem dX0_setPoint_64 : decode cX0_setPoint 64 = .ok (.getfield 112, 3) := dk_180 0 112 (dk_at dksX0_setPoint_2 16 rfl rfl)
theorem dX0_setPoint_67 : decode cX0_setPoint 67 = .ok (.invokevirtual 84, 3) := dk_182 0 84 (dk_at dksX0_setPoint_2 19 rfl rfl)
theorem dX0_setPoint_70 : decode cX0_setPoint 70 = .ok (.iload_n 1, 1) := dk_27 (dk_at dksX0_setPoint_2 22 rfl rfl)
theorem dX0_setPoint_71 : decode cX0_setPoint 71 = .ok (.invokevirtual 161, 3) := dk_182 0 161 (dk_at dksX0_setPoint_3 0 rfl rfl)
theorem dX0_setPoint_74 : decode cX0_setPoint 74 = .ok (.invokevirtual 165, 3) := dk_182 0 165 (dk_at dksX0_setPoint_3 3 rfl rfl)
theorem dX0_setPoint_77 : decode cX0_setPoint 77 = .ok (.ifCond .ne 9, 3) := dk_154 0 9 (dk_at dksX0_setPoint_3 6 rfl rfl)
theorem dX0_setPoint_80 : decode cX0_setPoint 80 = .ok (.aload 4, 2) := dk_25 4 (dk_at dksX0_setPoint_3 9 rfl rfl)
theorem dX0_setPoint_82 : decode cX0_setPoint 82 = .ok (.iconst (-1), 1) := dk_2 (dk_at dksX0_setPoint_3 11 rfl rfl)
theorem dX0_setPoint_83 : decode cX0_setPoint 83 = .ok (.putfield 112, 3) := dk_181 0 112 (dk_at dksX0_setPoint_3 12 rfl rfl)
theorem dX0_setPoint_86 : decode cX0_setPoint 86 = .ok (.iload 5, 2) := dk_21 5 (dk_at dksX0_setPoint_3 15 rfl rfl)
theorem dX0_setPoint_88 : decode cX0_setPoint 88 = .ok (.ireturn, 1) := dk_172 (dk_at dksX0_setPoint_3 17 rfl rfl)
abbrev cX0_clashing : ByteArray := prog_1_method_12_code
def yX0_clashing : MethodName := ⟨RX0, "clashing", "(LLabelPlacer$Box;I)Ljava/util/LinkedHashSet;"⟩
def dkwX0_clashing_3 : List UInt8 := [184, 0, 131, 182, 0, 137, 87, 132, 4, 1, 167, 255, 188, 45, 176]
abbrev dktX0_clashing_3 : List UInt8 := dkwX0_clashing_3 ++ []
def dkwX0_clashing_2 : List UInt8 := [182, 0, 52, 192, 0, 56, 180, 0, 112, 182, 0, 124, 43, 182, 0, 128, 153, 0, 13, 45, 21, 4]
abbrev dktX0_clashing_2 : List UInt8 := dkwX0_clashing_2 ++ dktX0_clashing_3
def dkwX0_clashing_1 : List UInt8 := [21, 4, 28, 159, 0, 50, 42, 21, 4, 182, 0, 115, 153, 0, 41, 42, 21, 4, 42, 180, 0, 10, 21, 4]
abbrev dktX0_clashing_1 : List UInt8 := dkwX0_clashing_1 ++ dktX0_clashing_2
def dkwX0_clashing_0 : List UInt8 := [187, 0, 121, 89, 183, 0, 123, 78, 3, 54, 4, 21, 4, 42, 180, 0, 10, 182, 0, 44, 162, 0, 62]
abbrev dktX0_clashing_0 : List UInt8 := dkwX0_clashing_0 ++ dktX0_clashing_1
theorem dksX0_clashing_0 : cX0_clashing.data.toList.drop 0 = dktX0_clashing_0 := by decide +kernel
theorem dksX0_clashing_1 : cX0_clashing.data.toList.drop 23 = dktX0_clashing_1 := dk_seg dksX0_clashing_0 23 rfl rfl
theorem dksX0_clashing_2 : cX0_clashing.data.toList.drop 47 = dktX0_clashing_2 := dk_seg dksX0_clashing_1 24 rfl rfl
theorem dksX0_clashing_3 : cX0_clashing.data.toList.drop 69 = dktX0_clashing_3 := dk_seg dksX0_clashing_2 22 rfl rfl
theorem dX0_clashing_0 : decode cX0_clashing 0 = .ok (.new 121, 3) := dk_187 0 121 (dk_at dksX0_clashing_0 0 rfl rfl)
theorem dX0_clashing_3 : decode cX0_clashing 3 = .ok (.dup, 1) := dk_89 (dk_at dksX0_clashing_0 3 rfl rfl)
theorem dX0_clashing_4 : decode cX0_clashing 4 = .ok (.invokespecial 123, 3) := dk_183 0 123 (dk_at dksX0_clashing_0 4 rfl rfl)
theorem dX0_clashing_7 : decode cX0_clashing 7 = .ok (.astore_n 3, 1) := dk_78 (dk_at dksX0_clashing_0 7 rfl rfl)
theorem dX0_clashing_8 : decode cX0_clashing 8 = .ok (.iconst 0, 1) := dk_3 (dk_at dksX0_clashing_0 8 rfl rfl)
theorem dX0_clashing_9 : decode cX0_clashing 9 = .ok (.istore 4, 2) := dk_54 4 (dk_at dksX0_clashing_0 9 rfl rfl)
theorem dX0_clashing_11 : decode cX0_clashing 11 = .ok (.iload 4, 2) := dk_21 4 (dk_at dksX0_clashing_0 11 rfl rfl)
theorem dX0_clashing_13 : decode cX0_clashing 13 = .ok (.aload_n 0, 1) := dk_42 (dk_at dksX0_clashing_0 13 rfl rfl)
theorem dX0_clashing_14 : decode cX0_clashing 14 = .ok (.getfield 10, 3) := dk_180 0 10 (dk_at dksX0_clashing_0 14 rfl rfl)
theorem dX0_clashing_17 : decode cX0_clashing 17 = .ok (.invokevirtual 44, 3) := dk_182 0 44 (dk_at dksX0_clashing_0 17 rfl rfl)
theorem dX0_clashing_20 : decode cX0_clashing 20 = .ok (.if_icmp .ge 62, 3) := dk_162 0 62 (dk_at dksX0_clashing_0 20 rfl rfl)
theorem dX0_clashing_23 : decode cX0_clashing 23 = .ok (.iload 4, 2) := dk_21 4 (dk_at dksX0_clashing_1 0 rfl rfl)
theorem dX0_clashing_25 : decode cX0_clashing 25 = .ok (.iload_n 2, 1) := dk_28 (dk_at dksX0_clashing_1 2 rfl rfl)
theorem dX0_clashing_26 : decode cX0_clashing 26 = .ok (.if_icmp .eq 50, 3) := dk_159 0 50 (dk_at dksX0_clashing_1 3 rfl rfl)
theorem dX0_clashing_29 : decode cX0_clashing 29 = .ok (.aload_n 0, 1) := dk_42 (dk_at dksX0_clashing_1 6 rfl rfl)
theorem dX0_clashing_30 : decode cX0_clashing 30 = .ok (.iload 4, 2) := dk_21 4 (dk_at dksX0_clashing_1 7 rfl rfl)
theorem dX0_clashing_32 : decode cX0_clashing 32 = .ok (.invokevirtual 115, 3) := dk_182 0 115 (dk_at dksX0_clashing_1 9 rfl rfl)
theorem dX0_clashing_35 : decode cX0_clashing 35 = .ok (.ifCond .eq 41, 3) := dk_153 0 41 (dk_at dksX0_clashing_1 12 rfl rfl)
theorem dX0_clashing_38 : decode cX0_clashing 38 = .ok (.aload_n 0, 1) := dk_42 (dk_at dksX0_clashing_1 15 rfl rfl)
theorem dX0_clashing_39 : decode cX0_clashing 39 = .ok (.iload 4, 2) := dk_21 4 (dk_at dksX0_clashing_1 16 rfl rfl)
theorem dX0_clashing_41 : decode cX0_clashing 41 = .ok (.aload_n 0, 1) := dk_42 (dk_at dksX0_clashing_1 18 rfl rfl)
theorem dX0_clashing_42 : decode cX0_clashing 42 = .ok (.getfield 10, 3) := dk_180 0 10 (dk_at dksX0_clashing_1 19 rfl rfl)
theorem dX0_clashing_45 : decode cX0_clashing 45 = .ok (.iload 4, 2) := dk_21 4 (dk_at dksX0_clashing_1 22 rfl rfl)
theorem dX0_clashing_47 : decode cX0_clashing 47 = .ok (.invokevirtual 52, 3) := dk_182 0 52 (dk_at dksX0_clashing_2 0 rfl rfl)
theorem dX0_clashing_50 : decode cX0_clashing 50 = .ok (.checkcast 56, 3) := dk_192 0 56 (dk_at dksX0_clashing_2 3 rfl rfl)
theorem dX0_clashing_53 : decode cX0_clashing 53 = .ok (.getfield 112, 3) := dk_180 0 112 (dk_at dksX0_clashing_2 6 rfl rfl)
theorem dX0_clashing_56 : decode cX0_clashing 56 = .ok (.invokevirtual 124, 3) := dk_182 0 124 (dk_at dksX0_clashing_2 9 rfl rfl)
theorem dX0_clashing_59 : decode cX0_clashing 59 = .ok (.aload_n 1, 1) := dk_43 (dk_at dksX0_clashing_2 12 rfl rfl)
theorem dX0_clashing_60 : decode cX0_clashing 60 = .ok (.invokevirtual 128, 3) := dk_182 0 128 (dk_at dksX0_clashing_2 13 rfl rfl)
theorem dX0_clashing_63 : decode cX0_clashing 63 = .ok (.ifCond .eq 13, 3) := dk_153 0 13 (dk_at dksX0_clashing_2 16 rfl rfl)
theorem dX0_clashing_66 : decode cX0_clashing 66 = .ok (.aload_n 3, 1) := dk_45 (dk_at dksX0_clashing_2 19 rfl rfl)
theorem dX0_clashing_67 : decode cX0_clashing 67 = .ok (.iload 4, 2) := dk_21 4 (dk_at dksX0_clashing_2 20 rfl rfl)
theorem dX0_clashing_69 : decode cX0_clashing 69 = .ok (.invokestatic 131, 3) := dk_184 0 131 (dk_at dksX0_clashing_3 0 rfl rfl)
theorem dX0_clashing_72 : decode cX0_clashing 72 = .ok (.invokevirtual 137, 3) := dk_182 0 137 (dk_at dksX0_clashing_3 3 rfl rfl)
theorem dX0_clashing_75 : decode cX0_clashing 75 = .ok (.pop, 1) := dk_87 (dk_at dksX0_clashing_3 6 rfl rfl)
theorem dX0_clashing_76 : decode cX0_clashing 76 = .ok (.iinc 4 1, 3) := dk_132 4 1 (dk_at dksX0_clashing_3 7 rfl rfl)
theorem dX0_clashing_79 : decode cX0_clashing 79 = .ok (.goto (-68), 3) := dk_167 255 188 (dk_at dksX0_clashing_3 10 rfl rfl)
theorem dX0_clashing_82 : decode cX0_clashing 82 = .ok (.aload_n 3, 1) := dk_45 (dk_at dksX0_clashing_3 13 rfl rfl)
theorem dX0_clashing_83 : decode cX0_clashing 83 = .ok (.areturn, 1) := dk_176 (dk_at dksX0_clashing_3 14 rfl rfl)
abbrev cX0_boxAt : ByteArray := prog_1_method_9_code
def yX0_boxAt : MethodName := ⟨RX0, "boxAt", "(II)LLabelPlacer$Box;"⟩
def dkwX0_boxAt_0 : List UInt8 := [42, 182, 0, 102, 42, 27, 28, 182, 0, 94, 182, 0, 109, 192, 0, 16, 176]
abbrev dktX0_boxAt_0 : List UInt8 := dkwX0_boxAt_0 ++ []
theorem dksX0_boxAt_0 : cX0_boxAt.data.toList.drop 0 = dktX0_boxAt_0 := by decide +kernel
theorem dX0_boxAt_0 : decode cX0_boxAt 0 = .ok (.aload_n 0, 1) := dk_42 (dk_at dksX0_boxAt_0 0 rfl rfl)
theorem dX0_boxAt_1 : decode cX0_boxAt 1 = .ok (.invokevirtual 102, 3) := dk_182 0 102 (dk_at dksX0_boxAt_0 1 rfl rfl)
theorem dX0_boxAt_4 : decode cX0_boxAt 4 = .ok (.aload_n 0, 1) := dk_42 (dk_at dksX0_boxAt_0 4 rfl rfl)
theorem dX0_boxAt_5 : decode cX0_boxAt 5 = .ok (.iload_n 1, 1) := dk_27 (dk_at dksX0_boxAt_0 5 rfl rfl)
theorem dX0_boxAt_6 : decode cX0_boxAt 6 = .ok (.iload_n 2, 1) := dk_28 (dk_at dksX0_boxAt_0 6 rfl rfl)
theorem dX0_boxAt_7 : decode cX0_boxAt 7 = .ok (.invokevirtual 94, 3) := dk_182 0 94 (dk_at dksX0_boxAt_0 7 rfl rfl)
theorem dX0_boxAt_10 : decode cX0_boxAt 10 = .ok (.invokevirtual 109, 3) := dk_182 0 109 (dk_at dksX0_boxAt_0 10 rfl rfl)
theorem dX0_boxAt_13 : decode cX0_boxAt 13 = .ok (.checkcast 16, 3) := dk_192 0 16 (dk_at dksX0_boxAt_0 13 rfl rfl)
theorem dX0_boxAt_16 : decode cX0_boxAt 16 = .ok (.areturn, 1) := dk_176 (dk_at dksX0_boxAt_0 16 rfl rfl)
abbrev cX0_point : ByteArray := prog_1_method_17_code
def yX0_point : MethodName := ⟨RX0, "point", "(II)I"⟩
def dkwX0_point_3 : List UInt8 := [182, 0, 157, 172]
abbrev dktX0_point_3 : List UInt8 := dkwX0_point_3 ++ []
def dkwX0_point_2 : List UInt8 := [160, 0, 11, 42, 27, 182, 0, 169, 167, 0, 18, 42, 180, 0, 10, 27, 182, 0, 52, 192, 0, 56, 28]
abbrev dktX0_point_2 : List UInt8 := dkwX0_point_2 ++ dktX0_point_3
def dkwX0_point_1 : List UInt8 := [160, 0, 19, 42, 27, 182, 0, 80, 153, 0, 7, 4, 167, 0, 36, 3, 167, 0, 32, 28, 16, 8]
abbrev dktX0_point_1 : List UInt8 := dkwX0_point_1 ++ dktX0_point_2
def dkwX0_point_0 : List UInt8 := [42, 27, 182, 0, 151, 153, 0, 13, 28, 3, 16, 8, 184, 0, 48, 154, 0, 6, 16, 254, 172, 28, 16, 6]
abbrev dktX0_point_0 : List UInt8 := dkwX0_point_0 ++ dktX0_point_1
theorem dksX0_point_0 : cX0_point.data.toList.drop 0 = dktX0_point_0 := by decide +kernel
theorem dksX0_point_1 : cX0_point.data.toList.drop 24 = dktX0_point_1 := dk_seg dksX0_point_0 24 rfl rfl
theorem dksX0_point_2 : cX0_point.data.toList.drop 46 = dktX0_point_2 := dk_seg dksX0_point_1 22 rfl rfl
theorem dksX0_point_3 : cX0_point.data.toList.drop 69 = dktX0_point_3 := dk_seg dksX0_point_2 23 rfl rfl
theorem dX0_point_0 : decode cX0_point 0 = .ok (.aload_n 0, 1) := dk_42 (dk_at dksX0_point_0 0 rfl rfl)
theorem dX0_point_1 : decode cX0_point 1 = .ok (.iload_n 1, 1) := dk_27 (dk_at dksX0_point_0 1 rfl rfl)
theorem dX0_point_2 : decode cX0_point 2 = .ok (.invokevirtual 151, 3) := dk_182 0 151 (dk_at dksX0_point_0 2 rfl rfl)
theorem dX0_point_5 : decode cX0_point 5 = .ok (.ifCond .eq 13, 3) := dk_153 0 13 (dk_at dksX0_point_0 5 rfl rfl)
theorem dX0_point_8 : decode cX0_point 8 = .ok (.iload_n 2, 1) := dk_28 (dk_at dksX0_point_0 8 rfl rfl)
theorem dX0_point_9 : decode cX0_point 9 = .ok (.iconst 0, 1) := dk_3 (dk_at dksX0_point_0 9 rfl rfl)
theorem dX0_point_10 : decode cX0_point 10 = .ok (.bipush 8, 2) := dk_16 8 (dk_at dksX0_point_0 10 rfl rfl)
theorem dX0_point_12 : decode cX0_point 12 = .ok (.invokestatic 48, 3) := dk_184 0 48 (dk_at dksX0_point_0 12 rfl rfl)
theorem dX0_point_15 : decode cX0_point 15 = .ok (.ifCond .ne 6, 3) := dk_154 0 6 (dk_at dksX0_point_0 15 rfl rfl)
theorem dX0_point_18 : decode cX0_point 18 = .ok (.bipush (-2), 2) := dk_16 254 (dk_at dksX0_point_0 18 rfl rfl)
theorem dX0_point_20 : decode cX0_point 20 = .ok (.ireturn, 1) := dk_172 (dk_at dksX0_point_0 20 rfl rfl)
theorem dX0_point_21 : decode cX0_point 21 = .ok (.iload_n 2, 1) := dk_28 (dk_at dksX0_point_0 21 rfl rfl)
theorem dX0_point_22 : decode cX0_point 22 = .ok (.bipush 6, 2) := dk_16 6 (dk_at dksX0_point_0 22 rfl rfl)
theorem dX0_point_24 : decode cX0_point 24 = .ok (.if_icmp .ne 19, 3) := dk_160 0 19 (dk_at dksX0_point_1 0 rfl rfl)
theorem dX0_point_27 : decode cX0_point 27 = .ok (.aload_n 0, 1) := dk_42 (dk_at dksX0_point_1 3 rfl rfl)
theorem dX0_point_28 : decode cX0_point 28 = .ok (.iload_n 1, 1) := dk_27 (dk_at dksX0_point_1 4 rfl rfl)
theorem dX0_point_29 : decode cX0_point 29 = .ok (.invokevirtual 80, 3) := dk_182 0 80 (dk_at dksX0_point_1 5 rfl rfl)
theorem dX0_point_32 : decode cX0_point 32 = .ok (.ifCond .eq 7, 3) := dk_153 0 7 (dk_at dksX0_point_1 8 rfl rfl)
theorem dX0_point_35 : decode cX0_point 35 = .ok (.iconst 1, 1) := dk_4 (dk_at dksX0_point_1 11 rfl rfl)
theorem dX0_point_36 : decode cX0_point 36 = .ok (.goto 36, 3) := dk_167 0 36 (dk_at dksX0_point_1 12 rfl rfl)
theorem dX0_point_39 : decode cX0_point 39 = .ok (.iconst 0, 1) := dk_3 (dk_at dksX0_point_1 15 rfl rfl)
theorem dX0_point_40 : decode cX0_point 40 = .ok (.goto 32, 3) := dk_167 0 32 (dk_at dksX0_point_1 16 rfl rfl)
theorem dX0_point_43 : decode cX0_point 43 = .ok (.iload_n 2, 1) := dk_28 (dk_at dksX0_point_1 19 rfl rfl)
theorem dX0_point_44 : decode cX0_point 44 = .ok (.bipush 8, 2) := dk_16 8 (dk_at dksX0_point_1 20 rfl rfl)
theorem dX0_point_46 : decode cX0_point 46 = .ok (.if_icmp .ne 11, 3) := dk_160 0 11 (dk_at dksX0_point_2 0 rfl rfl)
theorem dX0_point_49 : decode cX0_point 49 = .ok (.aload_n 0, 1) := dk_42 (dk_at dksX0_point_2 3 rfl rfl)
theorem dX0_point_50 : decode cX0_point 50 = .ok (.iload_n 1, 1) := dk_27 (dk_at dksX0_point_2 4 rfl rfl)
theorem dX0_point_51 : decode cX0_point 51 = .ok (.invokevirtual 169, 3) := dk_182 0 169 (dk_at dksX0_point_2 5 rfl rfl)
theorem dX0_point_54 : decode cX0_point 54 = .ok (.goto 18, 3) := dk_167 0 18 (dk_at dksX0_point_2 8 rfl rfl)
theorem dX0_point_57 : decode cX0_point 57 = .ok (.aload_n 0, 1) := dk_42 (dk_at dksX0_point_2 11 rfl rfl)
theorem dX0_point_58 : decode cX0_point 58 = .ok (.getfield 10, 3) := dk_180 0 10 (dk_at dksX0_point_2 12 rfl rfl)
theorem dX0_point_61 : decode cX0_point 61 = .ok (.iload_n 1, 1) := dk_27 (dk_at dksX0_point_2 15 rfl rfl)
theorem dX0_point_62 : decode cX0_point 62 = .ok (.invokevirtual 52, 3) := dk_182 0 52 (dk_at dksX0_point_2 16 rfl rfl)
theorem dX0_point_65 : decode cX0_point 65 = .ok (.checkcast 56, 3) := dk_192 0 56 (dk_at dksX0_point_2 19 rfl rfl)
theorem dX0_point_68 : decode cX0_point 68 = .ok (.iload_n 2, 1) := dk_28 (dk_at dksX0_point_2 22 rfl rfl)
theorem dX0_point_69 : decode cX0_point 69 = .ok (.invokevirtual 157, 3) := dk_182 0 157 (dk_at dksX0_point_3 0 rfl rfl)
theorem dX0_point_72 : decode cX0_point 72 = .ok (.ireturn, 1) := dk_172 (dk_at dksX0_point_3 3 rfl rfl)
abbrev cX0_placesOf : ByteArray := prog_1_method_16_code
def yX0_placesOf : MethodName := ⟨RX0, "placesOf", "(I)I"⟩
def dkwX0_placesOf_1 : List UInt8 := [3, 96, 61, 132, 3, 1, 167, 255, 230, 28, 172]
abbrev dktX0_placesOf_1 : List UInt8 := dkwX0_placesOf_1 ++ []
def dkwX0_placesOf_0 : List UInt8 := [3, 61, 3, 62, 29, 16, 8, 162, 0, 26, 28, 42, 27, 29, 182, 0, 118, 153, 0, 7, 4, 167, 0, 4]
abbrev dktX0_placesOf_0 : List UInt8 := dkwX0_placesOf_0 ++ dktX0_placesOf_1
theorem dksX0_placesOf_0 : cX0_placesOf.data.toList.drop 0 = dktX0_placesOf_0 := by decide +kernel
theorem dksX0_placesOf_1 : cX0_placesOf.data.toList.drop 24 = dktX0_placesOf_1 := dk_seg dksX0_placesOf_0 24 rfl rfl
theorem dX0_placesOf_0 : decode cX0_placesOf 0 = .ok (.iconst 0, 1) := dk_3 (dk_at dksX0_placesOf_0 0 rfl rfl)
theorem dX0_placesOf_1 : decode cX0_placesOf 1 = .ok (.istore_n 2, 1) := dk_61 (dk_at dksX0_placesOf_0 1 rfl rfl)
theorem dX0_placesOf_2 : decode cX0_placesOf 2 = .ok (.iconst 0, 1) := dk_3 (dk_at dksX0_placesOf_0 2 rfl rfl)
theorem dX0_placesOf_3 : decode cX0_placesOf 3 = .ok (.istore_n 3, 1) := dk_62 (dk_at dksX0_placesOf_0 3 rfl rfl)
theorem dX0_placesOf_4 : decode cX0_placesOf 4 = .ok (.iload_n 3, 1) := dk_29 (dk_at dksX0_placesOf_0 4 rfl rfl)
theorem dX0_placesOf_5 : decode cX0_placesOf 5 = .ok (.bipush 8, 2) := dk_16 8 (dk_at dksX0_placesOf_0 5 rfl rfl)
theorem dX0_placesOf_7 : decode cX0_placesOf 7 = .ok (.if_icmp .ge 26, 3) := dk_162 0 26 (dk_at dksX0_placesOf_0 7 rfl rfl)
theorem dX0_placesOf_10 : decode cX0_placesOf 10 = .ok (.iload_n 2, 1) := dk_28 (dk_at dksX0_placesOf_0 10 rfl rfl)
theorem dX0_placesOf_11 : decode cX0_placesOf 11 = .ok (.aload_n 0, 1) := dk_42 (dk_at dksX0_placesOf_0 11 rfl rfl)
theorem dX0_placesOf_12 : decode cX0_placesOf 12 = .ok (.iload_n 1, 1) := dk_27 (dk_at dksX0_placesOf_0 12 rfl rfl)
theorem dX0_placesOf_13 : decode cX0_placesOf 13 = .ok (.iload_n 3, 1) := dk_29 (dk_at dksX0_placesOf_0 13 rfl rfl)
theorem dX0_placesOf_14 : decode cX0_placesOf 14 = .ok (.invokevirtual 118, 3) := dk_182 0 118 (dk_at dksX0_placesOf_0 14 rfl rfl)
theorem dX0_placesOf_17 : decode cX0_placesOf 17 = .ok (.ifCond .eq 7, 3) := dk_153 0 7 (dk_at dksX0_placesOf_0 17 rfl rfl)
theorem dX0_placesOf_20 : decode cX0_placesOf 20 = .ok (.iconst 1, 1) := dk_4 (dk_at dksX0_placesOf_0 20 rfl rfl)
theorem dX0_placesOf_21 : decode cX0_placesOf 21 = .ok (.goto 4, 3) := dk_167 0 4 (dk_at dksX0_placesOf_0 21 rfl rfl)
theorem dX0_placesOf_24 : decode cX0_placesOf 24 = .ok (.iconst 0, 1) := dk_3 (dk_at dksX0_placesOf_1 0 rfl rfl)
theorem dX0_placesOf_25 : decode cX0_placesOf 25 = .ok (.iadd, 1) := dk_96 (dk_at dksX0_placesOf_1 1 rfl rfl)
theorem dX0_placesOf_26 : decode cX0_placesOf 26 = .ok (.istore_n 2, 1) := dk_61 (dk_at dksX0_placesOf_1 2 rfl rfl)
theorem dX0_placesOf_27 : decode cX0_placesOf 27 = .ok (.iinc 3 1, 3) := dk_132 3 1 (dk_at dksX0_placesOf_1 3 rfl rfl)
theorem dX0_placesOf_30 : decode cX0_placesOf 30 = .ok (.goto (-26), 3) := dk_167 255 230 (dk_at dksX0_placesOf_1 6 rfl rfl)
theorem dX0_placesOf_33 : decode cX0_placesOf 33 = .ok (.iload_n 2, 1) := dk_28 (dk_at dksX0_placesOf_1 9 rfl rfl)
theorem dX0_placesOf_34 : decode cX0_placesOf 34 = .ok (.ireturn, 1) := dk_172 (dk_at dksX0_placesOf_1 10 rfl rfl)
abbrev cX0_setWindow : ByteArray := prog_1_method_19_code
def yX0_setWindow : MethodName := ⟨RX0, "setWindow", "(IIII)I"⟩
def dkwX0_setWindow_3 : List UInt8 := [28, 29, 21, 4, 183, 0, 18, 181, 0, 21, 42, 182, 0, 148, 42, 182, 0, 172, 172]
abbrev dktX0_setWindow_3 : List UInt8 := dkwX0_setWindow_3 ++ []
def dkwX0_setWindow_2 : List UInt8 := [153, 0, 7, 4, 167, 0, 4, 3, 54, 5, 21, 5, 154, 0, 6, 16, 254, 172, 42, 187, 0, 16, 89, 27]
abbrev dktX0_setWindow_2 : List UInt8 := dkwX0_setWindow_2 ++ dktX0_setWindow_3
def dkwX0_setWindow_1 : List UInt8 := [3, 17, 0, 200, 29, 100, 184, 0, 48, 153, 0, 21, 28, 3, 17, 0, 200, 21, 4, 100, 184, 0, 48]
abbrev dktX0_setWindow_1 : List UInt8 := dkwX0_setWindow_1 ++ dktX0_setWindow_2
def dkwX0_setWindow_0 : List UInt8 := [29, 16, 10, 16, 100, 184, 0, 48, 153, 0, 46, 21, 4, 16, 10, 16, 100, 184, 0, 48, 153, 0, 34, 27]
abbrev dktX0_setWindow_0 : List UInt8 := dkwX0_setWindow_0 ++ dktX0_setWindow_1
theorem dksX0_setWindow_0 : cX0_setWindow.data.toList.drop 0 = dktX0_setWindow_0 := by decide +kernel
theorem dksX0_setWindow_1 : cX0_setWindow.data.toList.drop 24 = dktX0_setWindow_1 := dk_seg dksX0_setWindow_0 24 rfl rfl
theorem dksX0_setWindow_2 : cX0_setWindow.data.toList.drop 47 = dktX0_setWindow_2 := dk_seg dksX0_setWindow_1 23 rfl rfl
theorem dksX0_setWindow_3 : cX0_setWindow.data.toList.drop 71 = dktX0_setWindow_3 := dk_seg dksX0_setWindow_2 24 rfl rfl
theorem dX0_setWindow_0 : decode cX0_setWindow 0 = .ok (.iload_n 3, 1) := dk_29 (dk_at dksX0_setWindow_0 0 rfl rfl)
theorem dX0_setWindow_1 : decode cX0_setWindow 1 = .ok (.bipush 10, 2) := dk_16 10 (dk_at dksX0_setWindow_0 1 rfl rfl)
theorem dX0_setWindow_3 : decode cX0_setWindow 3 = .ok (.bipush 100, 2) := dk_16 100 (dk_at dksX0_setWindow_0 3 rfl rfl)
theorem dX0_setWindow_5 : decode cX0_setWindow 5 = .ok (.invokestatic 48, 3) := dk_184 0 48 (dk_at dksX0_setWindow_0 5 rfl rfl)
theorem dX0_setWindow_8 : decode cX0_setWindow 8 = .ok (.ifCond .eq 46, 3) := dk_153 0 46 (dk_at dksX0_setWindow_0 8 rfl rfl)
theorem dX0_setWindow_11 : decode cX0_setWindow 11 = .ok (.iload 4, 2) := dk_21 4 (dk_at dksX0_setWindow_0 11 rfl rfl)
theorem dX0_setWindow_13 : decode cX0_setWindow 13 = .ok (.bipush 10, 2) := dk_16 10 (dk_at dksX0_setWindow_0 13 rfl rfl)
theorem dX0_setWindow_15 : decode cX0_setWindow 15 = .ok (.bipush 100, 2) := dk_16 100 (dk_at dksX0_setWindow_0 15 rfl rfl)
theorem dX0_setWindow_17 : decode cX0_setWindow 17 = .ok (.invokestatic 48, 3) := dk_184 0 48 (dk_at dksX0_setWindow_0 17 rfl rfl)
theorem dX0_setWindow_20 : decode cX0_setWindow 20 = .ok (.ifCond .eq 34, 3) := dk_153 0 34 (dk_at dksX0_setWindow_0 20 rfl rfl)
theorem dX0_setWindow_23 : decode cX0_setWindow 23 = .ok (.iload_n 1, 1) := dk_27 (dk_at dksX0_setWindow_0 23 rfl rfl)
theorem dX0_setWindow_24 : decode cX0_setWindow 24 = .ok (.iconst 0, 1) := dk_3 (dk_at dksX0_setWindow_1 0 rfl rfl)
theorem dX0_setWindow_25 : decode cX0_setWindow 25 = .ok (.sipush 200, 3) := dk_17 0 200 (dk_at dksX0_setWindow_1 1 rfl rfl)
theorem dX0_setWindow_28 : decode cX0_setWindow 28 = .ok (.iload_n 3, 1) := dk_29 (dk_at dksX0_setWindow_1 4 rfl rfl)
theorem dX0_setWindow_29 : decode cX0_setWindow 29 = .ok (.isub, 1) := dk_100 (dk_at dksX0_setWindow_1 5 rfl rfl)
theorem dX0_setWindow_30 : decode cX0_setWindow 30 = .ok (.invokestatic 48, 3) := dk_184 0 48 (dk_at dksX0_setWindow_1 6 rfl rfl)
theorem dX0_setWindow_33 : decode cX0_setWindow 33 = .ok (.ifCond .eq 21, 3) := dk_153 0 21 (dk_at dksX0_setWindow_1 9 rfl rfl)
theorem dX0_setWindow_36 : decode cX0_setWindow 36 = .ok (.iload_n 2, 1) := dk_28 (dk_at dksX0_setWindow_1 12 rfl rfl)
theorem dX0_setWindow_37 : decode cX0_setWindow 37 = .ok (.iconst 0, 1) := dk_3 (dk_at dksX0_setWindow_1 13 rfl rfl)
theorem dX0_setWindow_38 : decode cX0_setWindow 38 = .ok (.sipush 200, 3) := dk_17 0 200 (dk_at dksX0_setWindow_1 14 rfl rfl)
theorem dX0_setWindow_41 : decode cX0_setWindow 41 = .ok (.iload 4, 2) := dk_21 4 (dk_at dksX0_setWindow_1 17 rfl rfl)
theorem dX0_setWindow_43 : decode cX0_setWindow 43 = .ok (.isub, 1) := dk_100 (dk_at dksX0_setWindow_1 19 rfl rfl)
theorem dX0_setWindow_44 : decode cX0_setWindow 44 = .ok (.invokestatic 48, 3) := dk_184 0 48 (dk_at dksX0_setWindow_1 20 rfl rfl)
theorem dX0_setWindow_47 : decode cX0_setWindow 47 = .ok (.ifCond .eq 7, 3) := dk_153 0 7 (dk_at dksX0_setWindow_2 0 rfl rfl)
theorem dX0_setWindow_50 : decode cX0_setWindow 50 = .ok (.iconst 1, 1) := dk_4 (dk_at dksX0_setWindow_2 3 rfl rfl)
theorem dX0_setWindow_51 : decode cX0_setWindow 51 = .ok (.goto 4, 3) := dk_167 0 4 (dk_at dksX0_setWindow_2 4 rfl rfl)
theorem dX0_setWindow_54 : decode cX0_setWindow 54 = .ok (.iconst 0, 1) := dk_3 (dk_at dksX0_setWindow_2 7 rfl rfl)
theorem dX0_setWindow_55 : decode cX0_setWindow 55 = .ok (.istore 5, 2) := dk_54 5 (dk_at dksX0_setWindow_2 8 rfl rfl)
theorem dX0_setWindow_57 : decode cX0_setWindow 57 = .ok (.iload 5, 2) := dk_21 5 (dk_at dksX0_setWindow_2 10 rfl rfl)
theorem dX0_setWindow_59 : decode cX0_setWindow 59 = .ok (.ifCond .ne 6, 3) := dk_154 0 6 (dk_at dksX0_setWindow_2 12 rfl rfl)
theorem dX0_setWindow_62 : decode cX0_setWindow 62 = .ok (.bipush (-2), 2) := dk_16 254 (dk_at dksX0_setWindow_2 15 rfl rfl)
theorem dX0_setWindow_64 : decode cX0_setWindow 64 = .ok (.ireturn, 1) := dk_172 (dk_at dksX0_setWindow_2 17 rfl rfl)
theorem dX0_setWindow_65 : decode cX0_setWindow 65 = .ok (.aload_n 0, 1) := dk_42 (dk_at dksX0_setWindow_2 18 rfl rfl)
theorem dX0_setWindow_66 : decode cX0_setWindow 66 = .ok (.new 16, 3) := dk_187 0 16 (dk_at dksX0_setWindow_2 19 rfl rfl)
theorem dX0_setWindow_69 : decode cX0_setWindow 69 = .ok (.dup, 1) := dk_89 (dk_at dksX0_setWindow_2 22 rfl rfl)
theorem dX0_setWindow_70 : decode cX0_setWindow 70 = .ok (.iload_n 1, 1) := dk_27 (dk_at dksX0_setWindow_2 23 rfl rfl)
theorem dX0_setWindow_71 : decode cX0_setWindow 71 = .ok (.iload_n 2, 1) := dk_28 (dk_at dksX0_setWindow_3 0 rfl rfl)
theorem dX0_setWindow_72 : decode cX0_setWindow 72 = .ok (.iload_n 3, 1) := dk_29 (dk_at dksX0_setWindow_3 1 rfl rfl)
theorem dX0_setWindow_73 : decode cX0_setWindow 73 = .ok (.iload 4, 2) := dk_21 4 (dk_at dksX0_setWindow_3 2 rfl rfl)
theorem dX0_setWindow_75 : decode cX0_setWindow 75 = .ok (.invokespecial 18, 3) := dk_183 0 18 (dk_at dksX0_setWindow_3 4 rfl rfl)
theorem dX0_setWindow_78 : decode cX0_setWindow 78 = .ok (.putfield 21, 3) := dk_181 0 21 (dk_at dksX0_setWindow_3 7 rfl rfl)
theorem dX0_setWindow_81 : decode cX0_setWindow 81 = .ok (.aload_n 0, 1) := dk_42 (dk_at dksX0_setWindow_3 10 rfl rfl)
theorem dX0_setWindow_82 : decode cX0_setWindow 82 = .ok (.invokevirtual 148, 3) := dk_182 0 148 (dk_at dksX0_setWindow_3 11 rfl rfl)
theorem dX0_setWindow_85 : decode cX0_setWindow 85 = .ok (.aload_n 0, 1) := dk_42 (dk_at dksX0_setWindow_3 14 rfl rfl)
theorem dX0_setWindow_86 : decode cX0_setWindow 86 = .ok (.invokevirtual 172, 3) := dk_182 0 172 (dk_at dksX0_setWindow_3 15 rfl rfl)
theorem dX0_setWindow_89 : decode cX0_setWindow 89 = .ok (.ireturn, 1) := dk_172 (dk_at dksX0_setWindow_3 18 rfl rfl)
abbrev cX0_visible : ByteArray := prog_1_method_18_code
def yX0_visible : MethodName := ⟨RX0, "visible", "()I"⟩
def dkwX0_visible_1 : List UInt8 := [4, 167, 0, 4, 3, 96, 60, 132, 2, 1, 167, 255, 226, 27, 172]
abbrev dktX0_visible_1 : List UInt8 := dkwX0_visible_1 ++ []
def dkwX0_visible_0 : List UInt8 := [3, 60, 3, 61, 28, 42, 180, 0, 10, 182, 0, 44, 162, 0, 25, 27, 42, 28, 182, 0, 80, 153, 0, 7]
abbrev dktX0_visible_0 : List UInt8 := dkwX0_visible_0 ++ dktX0_visible_1
theorem dksX0_visible_0 : cX0_visible.data.toList.drop 0 = dktX0_visible_0 := by decide +kernel
theorem dksX0_visible_1 : cX0_visible.data.toList.drop 24 = dktX0_visible_1 := dk_seg dksX0_visible_0 24 rfl rfl
theorem dX0_visible_0 : decode cX0_visible 0 = .ok (.iconst 0, 1) := dk_3 (dk_at dksX0_visible_0 0 rfl rfl)
theorem dX0_visible_1 : decode cX0_visible 1 = .ok (.istore_n 1, 1) := dk_60 (dk_at dksX0_visible_0 1 rfl rfl)
theorem dX0_visible_2 : decode cX0_visible 2 = .ok (.iconst 0, 1) := dk_3 (dk_at dksX0_visible_0 2 rfl rfl)
theorem dX0_visible_3 : decode cX0_visible 3 = .ok (.istore_n 2, 1) := dk_61 (dk_at dksX0_visible_0 3 rfl rfl)
theorem dX0_visible_4 : decode cX0_visible 4 = .ok (.iload_n 2, 1) := dk_28 (dk_at dksX0_visible_0 4 rfl rfl)
theorem dX0_visible_5 : decode cX0_visible 5 = .ok (.aload_n 0, 1) := dk_42 (dk_at dksX0_visible_0 5 rfl rfl)
theorem dX0_visible_6 : decode cX0_visible 6 = .ok (.getfield 10, 3) := dk_180 0 10 (dk_at dksX0_visible_0 6 rfl rfl)
theorem dX0_visible_9 : decode cX0_visible 9 = .ok (.invokevirtual 44, 3) := dk_182 0 44 (dk_at dksX0_visible_0 9 rfl rfl)
theorem dX0_visible_12 : decode cX0_visible 12 = .ok (.if_icmp .ge 25, 3) := dk_162 0 25 (dk_at dksX0_visible_0 12 rfl rfl)
theorem dX0_visible_15 : decode cX0_visible 15 = .ok (.iload_n 1, 1) := dk_27 (dk_at dksX0_visible_0 15 rfl rfl)
theorem dX0_visible_16 : decode cX0_visible 16 = .ok (.aload_n 0, 1) := dk_42 (dk_at dksX0_visible_0 16 rfl rfl)
theorem dX0_visible_17 : decode cX0_visible 17 = .ok (.iload_n 2, 1) := dk_28 (dk_at dksX0_visible_0 17 rfl rfl)
theorem dX0_visible_18 : decode cX0_visible 18 = .ok (.invokevirtual 80, 3) := dk_182 0 80 (dk_at dksX0_visible_0 18 rfl rfl)
theorem dX0_visible_21 : decode cX0_visible 21 = .ok (.ifCond .eq 7, 3) := dk_153 0 7 (dk_at dksX0_visible_0 21 rfl rfl)
theorem dX0_visible_24 : decode cX0_visible 24 = .ok (.iconst 1, 1) := dk_4 (dk_at dksX0_visible_1 0 rfl rfl)
theorem dX0_visible_25 : decode cX0_visible 25 = .ok (.goto 4, 3) := dk_167 0 4 (dk_at dksX0_visible_1 1 rfl rfl)
theorem dX0_visible_28 : decode cX0_visible 28 = .ok (.iconst 0, 1) := dk_3 (dk_at dksX0_visible_1 4 rfl rfl)
theorem dX0_visible_29 : decode cX0_visible 29 = .ok (.iadd, 1) := dk_96 (dk_at dksX0_visible_1 5 rfl rfl)
theorem dX0_visible_30 : decode cX0_visible 30 = .ok (.istore_n 1, 1) := dk_60 (dk_at dksX0_visible_1 6 rfl rfl)
theorem dX0_visible_31 : decode cX0_visible 31 = .ok (.iinc 2 1, 3) := dk_132 2 1 (dk_at dksX0_visible_1 7 rfl rfl)
theorem dX0_visible_34 : decode cX0_visible 34 = .ok (.goto (-30), 3) := dk_167 255 226 (dk_at dksX0_visible_1 10 rfl rfl)
theorem dX0_visible_37 : decode cX0_visible 37 = .ok (.iload_n 1, 1) := dk_27 (dk_at dksX0_visible_1 13 rfl rfl)
theorem dX0_visible_38 : decode cX0_visible 38 = .ok (.ireturn, 1) := dk_172 (dk_at dksX0_visible_1 14 rfl rfl)
abbrev cX0_pan : ByteArray := prog_1_method_21_code
def yX0_pan : MethodName := ⟨RX0, "pan", "(II)I"⟩
def dkwX0_pan_5 : List UInt8 := [182, 0, 187, 62, 42, 182, 0, 189, 87, 29, 172]
abbrev dktX0_pan_5 : List UInt8 := dkwX0_pan_5 ++ []
def dkwX0_pan_4 : List UInt8 := [180, 0, 21, 180, 0, 178, 42, 180, 0, 21, 180, 0, 184, 183, 0, 18, 181, 0, 21, 42, 182, 0, 148, 42]
abbrev dktX0_pan_4 : List UInt8 := dkwX0_pan_4 ++ dktX0_pan_5
def dkwX0_pan_3 : List UInt8 := [42, 187, 0, 16, 89, 42, 180, 0, 21, 180, 0, 175, 27, 96, 42, 180, 0, 21, 180, 0, 181, 28, 96, 42]
abbrev dktX0_pan_3 : List UInt8 := dkwX0_pan_3 ++ dktX0_pan_4
def dkwX0_pan_2 : List UInt8 := [180, 0, 21, 180, 0, 184, 100, 42, 180, 0, 21, 180, 0, 181, 100, 184, 0, 48, 154, 0, 6, 16, 254, 172]
abbrev dktX0_pan_2 : List UInt8 := dkwX0_pan_2 ++ dktX0_pan_3
def dkwX0_pan_1 : List UInt8 := [180, 0, 175, 100, 184, 0, 48, 153, 0, 37, 28, 42, 180, 0, 21, 180, 0, 181, 116, 17, 0, 200, 42]
abbrev dktX0_pan_1 : List UInt8 := dkwX0_pan_1 ++ dktX0_pan_2
def dkwX0_pan_0 : List UInt8 := [27, 42, 180, 0, 21, 180, 0, 175, 116, 17, 0, 200, 42, 180, 0, 21, 180, 0, 178, 100, 42, 180, 0, 21]
abbrev dktX0_pan_0 : List UInt8 := dkwX0_pan_0 ++ dktX0_pan_1
theorem dksX0_pan_0 : cX0_pan.data.toList.drop 0 = dktX0_pan_0 := by decide +kernel
theorem dksX0_pan_1 : cX0_pan.data.toList.drop 24 = dktX0_pan_1 := dk_seg dksX0_pan_0 24 rfl rfl
theorem dksX0_pan_2 : cX0_pan.data.toList.drop 47 = dktX0_pan_2 := dk_seg dksX0_pan_1 23 rfl rfl
theorem dksX0_pan_3 : cX0_pan.data.toList.drop 71 = dktX0_pan_3 := dk_seg dksX0_pan_2 24 rfl rfl
theorem dksX0_pan_4 : cX0_pan.data.toList.drop 95 = dktX0_pan_4 := dk_seg dksX0_pan_3 24 rfl rfl
theorem dksX0_pan_5 : cX0_pan.data.toList.drop 119 = dktX0_pan_5 := dk_seg dksX0_pan_4 24 rfl rfl
theorem dX0_pan_0 : decode cX0_pan 0 = .ok (.iload_n 1, 1) := dk_27 (dk_at dksX0_pan_0 0 rfl rfl)
theorem dX0_pan_1 : decode cX0_pan 1 = .ok (.aload_n 0, 1) := dk_42 (dk_at dksX0_pan_0 1 rfl rfl)
theorem dX0_pan_2 : decode cX0_pan 2 = .ok (.getfield 21, 3) := dk_180 0 21 (dk_at dksX0_pan_0 2 rfl rfl)
theorem dX0_pan_5 : decode cX0_pan 5 = .ok (.getfield 175, 3) := dk_180 0 175 (dk_at dksX0_pan_0 5 rfl rfl)
theorem dX0_pan_8 : decode cX0_pan 8 = .ok (.ineg, 1) := dk_116 (dk_at dksX0_pan_0 8 rfl rfl)
theorem dX0_pan_9 : decode cX0_pan 9 = .ok (.sipush 200, 3) := dk_17 0 200 (dk_at dksX0_pan_0 9 rfl rfl)
theorem dX0_pan_12 : decode cX0_pan 12 = .ok (.aload_n 0, 1) := dk_42 (dk_at dksX0_pan_0 12 rfl rfl)
theorem dX0_pan_13 : decode cX0_pan 13 = .ok (.getfield 21, 3) := dk_180 0 21 (dk_at dksX0_pan_0 13 rfl rfl)
theorem dX0_pan_16 : decode cX0_pan 16 = .ok (.getfield 178, 3) := dk_180 0 178 (dk_at dksX0_pan_0 16 rfl rfl)
theorem dX0_pan_19 : decode cX0_pan 19 = .ok (.isub, 1) := dk_100 (dk_at dksX0_pan_0 19 rfl rfl)
theorem dX0_pan_20 : decode cX0_pan 20 = .ok (.aload_n 0, 1) := dk_42 (dk_at dksX0_pan_0 20 rfl rfl)
theorem dX0_pan_21 : decode cX0_pan 21 = .ok (.getfield 21, 3) := dk_180 0 21 (dk_at dksX0_pan_0 21 rfl rfl)
theorem dX0_pan_24 : decode cX0_pan 24 = .ok (.getfield 175, 3) := dk_180 0 175 (dk_at dksX0_pan_1 0 rfl rfl)
theorem dX0_pan_27 : decode cX0_pan 27 = .ok (.isub, 1) := dk_100 (dk_at dksX0_pan_1 3 rfl rfl)
theorem dX0_pan_28 : decode cX0_pan 28 = .ok (.invokestatic 48, 3) := dk_184 0 48 (dk_at dksX0_pan_1 4 rfl rfl)
theorem dX0_pan_31 : decode cX0_pan 31 = .ok (.ifCond .eq 37, 3) := dk_153 0 37 (dk_at dksX0_pan_1 7 rfl rfl)
theorem dX0_pan_34 : decode cX0_pan 34 = .ok (.iload_n 2, 1) := dk_28 (dk_at dksX0_pan_1 10 rfl rfl)
theorem dX0_pan_35 : decode cX0_pan 35 = .ok (.aload_n 0, 1) := dk_42 (dk_at dksX0_pan_1 11 rfl rfl)
theorem dX0_pan_36 : decode cX0_pan 36 = .ok (.getfield 21, 3) := dk_180 0 21 (dk_at dksX0_pan_1 12 rfl rfl)
theorem dX0_pan_39 : decode cX0_pan 39 = .ok (.getfield 181, 3) := dk_180 0 181 (dk_at dksX0_pan_1 15 rfl rfl)
theorem dX0_pan_42 : decode cX0_pan 42 = .ok (.ineg, 1) := dk_116 (dk_at dksX0_pan_1 18 rfl rfl)
theorem dX0_pan_43 : decode cX0_pan 43 = .ok (.sipush 200, 3) := dk_17 0 200 (dk_at dksX0_pan_1 19 rfl rfl)
theorem dX0_pan_46 : decode cX0_pan 46 = .ok (.aload_n 0, 1) := dk_42 (dk_at dksX0_pan_1 22 rfl rfl)
theorem dX0_pan_47 : decode cX0_pan 47 = .ok (.getfield 21, 3) := dk_180 0 21 (dk_at dksX0_pan_2 0 rfl rfl)
theorem dX0_pan_50 : decode cX0_pan 50 = .ok (.getfield 184, 3) := dk_180 0 184 (dk_at dksX0_pan_2 3 rfl rfl)
theorem dX0_pan_53 : decode cX0_pan 53 = .ok (.isub, 1) := dk_100 (dk_at dksX0_pan_2 6 rfl rfl)
theorem dX0_pan_54 : decode cX0_pan 54 = .ok (.aload_n 0, 1) := dk_42 (dk_at dksX0_pan_2 7 rfl rfl)
theorem dX0_pan_55 : decode cX0_pan 55 = .ok (.getfield 21, 3) := dk_180 0 21 (dk_at dksX0_pan_2 8 rfl rfl)
theorem dX0_pan_58 : decode cX0_pan 58 = .ok (.getfield 181, 3) := dk_180 0 181 (dk_at dksX0_pan_2 11 rfl rfl)
theorem dX0_pan_61 : decode cX0_pan 61 = .ok (.isub, 1) := dk_100 (dk_at dksX0_pan_2 14 rfl rfl)
theorem dX0_pan_62 : decode cX0_pan 62 = .ok (.invokestatic 48, 3) := dk_184 0 48 (dk_at dksX0_pan_2 15 rfl rfl)
theorem dX0_pan_65 : decode cX0_pan 65 = .ok (.ifCond .ne 6, 3) := dk_154 0 6 (dk_at dksX0_pan_2 18 rfl rfl)
theorem dX0_pan_68 : decode cX0_pan 68 = .ok (.bipush (-2), 2) := dk_16 254 (dk_at dksX0_pan_2 21 rfl rfl)
theorem dX0_pan_70 : decode cX0_pan 70 = .ok (.ireturn, 1) := dk_172 (dk_at dksX0_pan_2 23 rfl rfl)
theorem dX0_pan_71 : decode cX0_pan 71 = .ok (.aload_n 0, 1) := dk_42 (dk_at dksX0_pan_3 0 rfl rfl)
theorem dX0_pan_72 : decode cX0_pan 72 = .ok (.new 16, 3) := dk_187 0 16 (dk_at dksX0_pan_3 1 rfl rfl)
theorem dX0_pan_75 : decode cX0_pan 75 = .ok (.dup, 1) := dk_89 (dk_at dksX0_pan_3 4 rfl rfl)
theorem dX0_pan_76 : decode cX0_pan 76 = .ok (.aload_n 0, 1) := dk_42 (dk_at dksX0_pan_3 5 rfl rfl)
theorem dX0_pan_77 : decode cX0_pan 77 = .ok (.getfield 21, 3) := dk_180 0 21 (dk_at dksX0_pan_3 6 rfl rfl)
theorem dX0_pan_80 : decode cX0_pan 80 = .ok (.getfield 175, 3) := dk_180 0 175 (dk_at dksX0_pan_3 9 rfl rfl)
theorem dX0_pan_83 : decode cX0_pan 83 = .ok (.iload_n 1, 1) := dk_27 (dk_at dksX0_pan_3 12 rfl rfl)
theorem dX0_pan_84 : decode cX0_pan 84 = .ok (.iadd, 1) := dk_96 (dk_at dksX0_pan_3 13 rfl rfl)
theorem dX0_pan_85 : decode cX0_pan 85 = .ok (.aload_n 0, 1) := dk_42 (dk_at dksX0_pan_3 14 rfl rfl)
theorem dX0_pan_86 : decode cX0_pan 86 = .ok (.getfield 21, 3) := dk_180 0 21 (dk_at dksX0_pan_3 15 rfl rfl)
theorem dX0_pan_89 : decode cX0_pan 89 = .ok (.getfield 181, 3) := dk_180 0 181 (dk_at dksX0_pan_3 18 rfl rfl)
theorem dX0_pan_92 : decode cX0_pan 92 = .ok (.iload_n 2, 1) := dk_28 (dk_at dksX0_pan_3 21 rfl rfl)
theorem dX0_pan_93 : decode cX0_pan 93 = .ok (.iadd, 1) := dk_96 (dk_at dksX0_pan_3 22 rfl rfl)
theorem dX0_pan_94 : decode cX0_pan 94 = .ok (.aload_n 0, 1) := dk_42 (dk_at dksX0_pan_3 23 rfl rfl)
theorem dX0_pan_95 : decode cX0_pan 95 = .ok (.getfield 21, 3) := dk_180 0 21 (dk_at dksX0_pan_4 0 rfl rfl)
theorem dX0_pan_98 : decode cX0_pan 98 = .ok (.getfield 178, 3) := dk_180 0 178 (dk_at dksX0_pan_4 3 rfl rfl)
theorem dX0_pan_101 : decode cX0_pan 101 = .ok (.aload_n 0, 1) := dk_42 (dk_at dksX0_pan_4 6 rfl rfl)
theorem dX0_pan_102 : decode cX0_pan 102 = .ok (.getfield 21, 3) := dk_180 0 21 (dk_at dksX0_pan_4 7 rfl rfl)
theorem dX0_pan_105 : decode cX0_pan 105 = .ok (.getfield 184, 3) := dk_180 0 184 (dk_at dksX0_pan_4 10 rfl rfl)
theorem dX0_pan_108 : decode cX0_pan 108 = .ok (.invokespecial 18, 3) := dk_183 0 18 (dk_at dksX0_pan_4 13 rfl rfl)
theorem dX0_pan_111 : decode cX0_pan 111 = .ok (.putfield 21, 3) := dk_181 0 21 (dk_at dksX0_pan_4 16 rfl rfl)
theorem dX0_pan_114 : decode cX0_pan 114 = .ok (.aload_n 0, 1) := dk_42 (dk_at dksX0_pan_4 19 rfl rfl)
theorem dX0_pan_115 : decode cX0_pan 115 = .ok (.invokevirtual 148, 3) := dk_182 0 148 (dk_at dksX0_pan_4 20 rfl rfl)
theorem dX0_pan_118 : decode cX0_pan 118 = .ok (.aload_n 0, 1) := dk_42 (dk_at dksX0_pan_4 23 rfl rfl)
theorem dX0_pan_119 : decode cX0_pan 119 = .ok (.invokevirtual 187, 3) := dk_182 0 187 (dk_at dksX0_pan_5 0 rfl rfl)
theorem dX0_pan_122 : decode cX0_pan 122 = .ok (.istore_n 3, 1) := dk_62 (dk_at dksX0_pan_5 3 rfl rfl)
theorem dX0_pan_123 : decode cX0_pan 123 = .ok (.aload_n 0, 1) := dk_42 (dk_at dksX0_pan_5 4 rfl rfl)
theorem dX0_pan_124 : decode cX0_pan 124 = .ok (.invokevirtual 189, 3) := dk_182 0 189 (dk_at dksX0_pan_5 5 rfl rfl)
theorem dX0_pan_127 : decode cX0_pan 127 = .ok (.pop, 1) := dk_87 (dk_at dksX0_pan_5 8 rfl rfl)
theorem dX0_pan_128 : decode cX0_pan 128 = .ok (.iload_n 3, 1) := dk_29 (dk_at dksX0_pan_5 9 rfl rfl)
theorem dX0_pan_129 : decode cX0_pan 129 = .ok (.ireturn, 1) := dk_172 (dk_at dksX0_pan_5 10 rfl rfl)
abbrev cX0_shown : ByteArray := prog_1_method_20_code
def yX0_shown : MethodName := ⟨RX0, "shown", "()I"⟩
def dkwX0_shown_1 : List UInt8 := [4, 167, 0, 4, 3, 96, 60, 132, 2, 1, 167, 255, 226, 27, 172]
abbrev dktX0_shown_1 : List UInt8 := dkwX0_shown_1 ++ []
def dkwX0_shown_0 : List UInt8 := [3, 60, 3, 61, 28, 42, 180, 0, 10, 182, 0, 44, 162, 0, 25, 27, 42, 28, 182, 0, 115, 153, 0, 7]
abbrev dktX0_shown_0 : List UInt8 := dkwX0_shown_0 ++ dktX0_shown_1
theorem dksX0_shown_0 : cX0_shown.data.toList.drop 0 = dktX0_shown_0 := by decide +kernel
theorem dksX0_shown_1 : cX0_shown.data.toList.drop 24 = dktX0_shown_1 := dk_seg dksX0_shown_0 24 rfl rfl
theorem dX0_shown_0 : decode cX0_shown 0 = .ok (.iconst 0, 1) := dk_3 (dk_at dksX0_shown_0 0 rfl rfl)
theorem dX0_shown_1 : decode cX0_shown 1 = .ok (.istore_n 1, 1) := dk_60 (dk_at dksX0_shown_0 1 rfl rfl)
theorem dX0_shown_2 : decode cX0_shown 2 = .ok (.iconst 0, 1) := dk_3 (dk_at dksX0_shown_0 2 rfl rfl)
theorem dX0_shown_3 : decode cX0_shown 3 = .ok (.istore_n 2, 1) := dk_61 (dk_at dksX0_shown_0 3 rfl rfl)
theorem dX0_shown_4 : decode cX0_shown 4 = .ok (.iload_n 2, 1) := dk_28 (dk_at dksX0_shown_0 4 rfl rfl)
theorem dX0_shown_5 : decode cX0_shown 5 = .ok (.aload_n 0, 1) := dk_42 (dk_at dksX0_shown_0 5 rfl rfl)
theorem dX0_shown_6 : decode cX0_shown 6 = .ok (.getfield 10, 3) := dk_180 0 10 (dk_at dksX0_shown_0 6 rfl rfl)
theorem dX0_shown_9 : decode cX0_shown 9 = .ok (.invokevirtual 44, 3) := dk_182 0 44 (dk_at dksX0_shown_0 9 rfl rfl)
theorem dX0_shown_12 : decode cX0_shown 12 = .ok (.if_icmp .ge 25, 3) := dk_162 0 25 (dk_at dksX0_shown_0 12 rfl rfl)
theorem dX0_shown_15 : decode cX0_shown 15 = .ok (.iload_n 1, 1) := dk_27 (dk_at dksX0_shown_0 15 rfl rfl)
theorem dX0_shown_16 : decode cX0_shown 16 = .ok (.aload_n 0, 1) := dk_42 (dk_at dksX0_shown_0 16 rfl rfl)
theorem dX0_shown_17 : decode cX0_shown 17 = .ok (.iload_n 2, 1) := dk_28 (dk_at dksX0_shown_0 17 rfl rfl)
theorem dX0_shown_18 : decode cX0_shown 18 = .ok (.invokevirtual 115, 3) := dk_182 0 115 (dk_at dksX0_shown_0 18 rfl rfl)
theorem dX0_shown_21 : decode cX0_shown 21 = .ok (.ifCond .eq 7, 3) := dk_153 0 7 (dk_at dksX0_shown_0 21 rfl rfl)
theorem dX0_shown_24 : decode cX0_shown 24 = .ok (.iconst 1, 1) := dk_4 (dk_at dksX0_shown_1 0 rfl rfl)
theorem dX0_shown_25 : decode cX0_shown 25 = .ok (.goto 4, 3) := dk_167 0 4 (dk_at dksX0_shown_1 1 rfl rfl)
theorem dX0_shown_28 : decode cX0_shown 28 = .ok (.iconst 0, 1) := dk_3 (dk_at dksX0_shown_1 4 rfl rfl)
theorem dX0_shown_29 : decode cX0_shown 29 = .ok (.iadd, 1) := dk_96 (dk_at dksX0_shown_1 5 rfl rfl)
theorem dX0_shown_30 : decode cX0_shown 30 = .ok (.istore_n 1, 1) := dk_60 (dk_at dksX0_shown_1 6 rfl rfl)
theorem dX0_shown_31 : decode cX0_shown 31 = .ok (.iinc 2 1, 3) := dk_132 2 1 (dk_at dksX0_shown_1 7 rfl rfl)
theorem dX0_shown_34 : decode cX0_shown 34 = .ok (.goto (-30), 3) := dk_167 255 226 (dk_at dksX0_shown_1 10 rfl rfl)
theorem dX0_shown_37 : decode cX0_shown 37 = .ok (.iload_n 1, 1) := dk_27 (dk_at dksX0_shown_1 13 rfl rfl)
theorem dX0_shown_38 : decode cX0_shown 38 = .ok (.ireturn, 1) := dk_172 (dk_at dksX0_shown_1 14 rfl rfl)
abbrev cX0_fill : ByteArray := prog_1_method_30_code
def yX0_fill : MethodName := ⟨RX0, "fill", "()I"⟩
def dkwX0_fill_0 : List UInt8 := [42, 42, 186, 0, 242, 0, 0, 182, 0, 245, 172]
abbrev dktX0_fill_0 : List UInt8 := dkwX0_fill_0 ++ []
theorem dksX0_fill_0 : cX0_fill.data.toList.drop 0 = dktX0_fill_0 := by decide +kernel
theorem dX0_fill_0 : decode cX0_fill 0 = .ok (.aload_n 0, 1) := dk_42 (dk_at dksX0_fill_0 0 rfl rfl)
theorem dX0_fill_1 : decode cX0_fill 1 = .ok (.aload_n 0, 1) := dk_42 (dk_at dksX0_fill_0 1 rfl rfl)
theorem dX0_fill_2 : decode cX0_fill 2 = .ok (.invokedynamic 242, 5) := by decide +kernel
theorem dX0_fill_7 : decode cX0_fill 7 = .ok (.invokevirtual 245, 3) := dk_182 0 245 (dk_at dksX0_fill_0 7 rfl rfl)
theorem dX0_fill_10 : decode cX0_fill 10 = .ok (.ireturn, 1) := dk_172 (dk_at dksX0_fill_0 10 rfl rfl)
abbrev cX0_puts : ByteArray := prog_1_method_29_code
def yX0_puts : MethodName := ⟨RX0, "puts", "(IILLabelPlacer$Box;)Z"⟩
def dkwX0_puts_1 : List UInt8 := [192, 0, 56, 28, 181, 0, 112, 21, 4, 172]
abbrev dktX0_puts_1 : List UInt8 := dkwX0_puts_1 ++ []
def dkwX0_puts_0 : List UInt8 := [42, 45, 27, 182, 0, 161, 182, 0, 165, 54, 4, 21, 4, 153, 0, 18, 42, 180, 0, 10, 27, 182, 0, 52]
abbrev dktX0_puts_0 : List UInt8 := dkwX0_puts_0 ++ dktX0_puts_1
theorem dksX0_puts_0 : cX0_puts.data.toList.drop 0 = dktX0_puts_0 := by decide +kernel
theorem dksX0_puts_1 : cX0_puts.data.toList.drop 24 = dktX0_puts_1 := dk_seg dksX0_puts_0 24 rfl rfl
theorem dX0_puts_0 : decode cX0_puts 0 = .ok (.aload_n 0, 1) := dk_42 (dk_at dksX0_puts_0 0 rfl rfl)
theorem dX0_puts_1 : decode cX0_puts 1 = .ok (.aload_n 3, 1) := dk_45 (dk_at dksX0_puts_0 1 rfl rfl)
theorem dX0_puts_2 : decode cX0_puts 2 = .ok (.iload_n 1, 1) := dk_27 (dk_at dksX0_puts_0 2 rfl rfl)
theorem dX0_puts_3 : decode cX0_puts 3 = .ok (.invokevirtual 161, 3) := dk_182 0 161 (dk_at dksX0_puts_0 3 rfl rfl)
theorem dX0_puts_6 : decode cX0_puts 6 = .ok (.invokevirtual 165, 3) := dk_182 0 165 (dk_at dksX0_puts_0 6 rfl rfl)
theorem dX0_puts_9 : decode cX0_puts 9 = .ok (.istore 4, 2) := dk_54 4 (dk_at dksX0_puts_0 9 rfl rfl)
theorem dX0_puts_11 : decode cX0_puts 11 = .ok (.iload 4, 2) := dk_21 4 (dk_at dksX0_puts_0 11 rfl rfl)
theorem dX0_puts_13 : decode cX0_puts 13 = .ok (.ifCond .eq 18, 3) := dk_153 0 18 (dk_at dksX0_puts_0 13 rfl rfl)
theorem dX0_puts_16 : decode cX0_puts 16 = .ok (.aload_n 0, 1) := dk_42 (dk_at dksX0_puts_0 16 rfl rfl)
theorem dX0_puts_17 : decode cX0_puts 17 = .ok (.getfield 10, 3) := dk_180 0 10 (dk_at dksX0_puts_0 17 rfl rfl)
theorem dX0_puts_20 : decode cX0_puts 20 = .ok (.iload_n 1, 1) := dk_27 (dk_at dksX0_puts_0 20 rfl rfl)
theorem dX0_puts_21 : decode cX0_puts 21 = .ok (.invokevirtual 52, 3) := dk_182 0 52 (dk_at dksX0_puts_0 21 rfl rfl)
theorem dX0_puts_24 : decode cX0_puts 24 = .ok (.checkcast 56, 3) := dk_192 0 56 (dk_at dksX0_puts_1 0 rfl rfl)
theorem dX0_puts_27 : decode cX0_puts 27 = .ok (.iload_n 2, 1) := dk_28 (dk_at dksX0_puts_1 3 rfl rfl)
theorem dX0_puts_28 : decode cX0_puts 28 = .ok (.putfield 112, 3) := dk_181 0 112 (dk_at dksX0_puts_1 4 rfl rfl)
theorem dX0_puts_31 : decode cX0_puts 31 = .ok (.iload 4, 2) := dk_21 4 (dk_at dksX0_puts_1 7 rfl rfl)
theorem dX0_puts_33 : decode cX0_puts 33 = .ok (.ireturn, 1) := dk_172 (dk_at dksX0_puts_1 9 rfl rfl)
abbrev cX0_tryAll : ByteArray := prog_1_method_28_code
def yX0_tryAll : MethodName := ⟨RX0, "tryAll", "(LLabelPlacer$Attempt;)I"⟩
def dkwX0_tryAll_5 : List UInt8 := [167, 255, 152, 28, 172]
abbrev dktX0_tryAll_5 : List UInt8 := dkwX0_tryAll_5 ++ []
def dkwX0_tryAll_4 : List UInt8 := [3, 54, 5, 28, 21, 5, 153, 0, 7, 4, 167, 0, 4, 3, 96, 61, 132, 6, 1, 167, 255, 189]
abbrev dktX0_tryAll_4 : List UInt8 := dkwX0_tryAll_4 ++ dktX0_tryAll_5
def dkwX0_tryAll_3 : List UInt8 := [21, 4, 21, 6, 42, 21, 4, 21, 6, 182, 0, 124, 185, 0, 236, 4, 0, 153, 0, 7, 4, 167, 0, 4]
abbrev dktX0_tryAll_3 : List UInt8 := dkwX0_tryAll_3 ++ dktX0_tryAll_4
def dkwX0_tryAll_2 : List UInt8 := [21, 6, 16, 8, 162, 0, 66, 21, 5, 154, 0, 61, 42, 21, 4, 21, 6, 182, 0, 118, 153, 0, 28, 43]
abbrev dktX0_tryAll_2 : List UInt8 := dkwX0_tryAll_2 ++ dktX0_tryAll_3
def dkwX0_tryAll_1 : List UInt8 := [185, 0, 207, 1, 0, 192, 0, 132, 182, 0, 222, 54, 4, 42, 21, 4, 182, 0, 115, 54, 5, 3, 54, 6]
abbrev dktX0_tryAll_1 : List UInt8 := dkwX0_tryAll_1 ++ dktX0_tryAll_2
def dkwX0_tryAll_0 : List UInt8 := [3, 61, 42, 182, 0, 231, 182, 0, 235, 78, 45, 185, 0, 202, 1, 0, 153, 0, 101, 45]
abbrev dktX0_tryAll_0 : List UInt8 := dkwX0_tryAll_0 ++ dktX0_tryAll_1
theorem dksX0_tryAll_0 : cX0_tryAll.data.toList.drop 0 = dktX0_tryAll_0 := by decide +kernel
theorem dksX0_tryAll_1 : cX0_tryAll.data.toList.drop 20 = dktX0_tryAll_1 := dk_seg dksX0_tryAll_0 20 rfl rfl
theorem dksX0_tryAll_2 : cX0_tryAll.data.toList.drop 44 = dktX0_tryAll_2 := dk_seg dksX0_tryAll_1 24 rfl rfl
theorem dksX0_tryAll_3 : cX0_tryAll.data.toList.drop 68 = dktX0_tryAll_3 := dk_seg dksX0_tryAll_2 24 rfl rfl
theorem dksX0_tryAll_4 : cX0_tryAll.data.toList.drop 92 = dktX0_tryAll_4 := dk_seg dksX0_tryAll_3 24 rfl rfl
theorem dksX0_tryAll_5 : cX0_tryAll.data.toList.drop 114 = dktX0_tryAll_5 := dk_seg dksX0_tryAll_4 22 rfl rfl
theorem dX0_tryAll_0 : decode cX0_tryAll 0 = .ok (.iconst 0, 1) := dk_3 (dk_at dksX0_tryAll_0 0 rfl rfl)
theorem dX0_tryAll_1 : decode cX0_tryAll 1 = .ok (.istore_n 2, 1) := dk_61 (dk_at dksX0_tryAll_0 1 rfl rfl)
theorem dX0_tryAll_2 : decode cX0_tryAll 2 = .ok (.aload_n 0, 1) := dk_42 (dk_at dksX0_tryAll_0 2 rfl rfl)
theorem dX0_tryAll_3 : decode cX0_tryAll 3 = .ok (.invokevirtual 231, 3) := dk_182 0 231 (dk_at dksX0_tryAll_0 3 rfl rfl)
theorem dX0_tryAll_6 : decode cX0_tryAll 6 = .ok (.invokevirtual 235, 3) := dk_182 0 235 (dk_at dksX0_tryAll_0 6 rfl rfl)
theorem dX0_tryAll_9 : decode cX0_tryAll 9 = .ok (.astore_n 3, 1) := dk_78 (dk_at dksX0_tryAll_0 9 rfl rfl)
theorem dX0_tryAll_10 : decode cX0_tryAll 10 = .ok (.aload_n 3, 1) := dk_45 (dk_at dksX0_tryAll_0 10 rfl rfl)
theorem dX0_tryAll_11 : decode cX0_tryAll 11 = .ok (.invokeinterface 202 1, 5) := by decide +kernel
theorem dX0_tryAll_16 : decode cX0_tryAll 16 = .ok (.ifCond .eq 101, 3) := dk_153 0 101 (dk_at dksX0_tryAll_0 16 rfl rfl)
theorem dX0_tryAll_19 : decode cX0_tryAll 19 = .ok (.aload_n 3, 1) := dk_45 (dk_at dksX0_tryAll_0 19 rfl rfl)
theorem dX0_tryAll_20 : decode cX0_tryAll 20 = .ok (.invokeinterface 207 1, 5) := by decide +kernel
theorem dX0_tryAll_25 : decode cX0_tryAll 25 = .ok (.checkcast 132, 3) := dk_192 0 132 (dk_at dksX0_tryAll_1 5 rfl rfl)
theorem dX0_tryAll_28 : decode cX0_tryAll 28 = .ok (.invokevirtual 222, 3) := dk_182 0 222 (dk_at dksX0_tryAll_1 8 rfl rfl)
theorem dX0_tryAll_31 : decode cX0_tryAll 31 = .ok (.istore 4, 2) := dk_54 4 (dk_at dksX0_tryAll_1 11 rfl rfl)
theorem dX0_tryAll_33 : decode cX0_tryAll 33 = .ok (.aload_n 0, 1) := dk_42 (dk_at dksX0_tryAll_1 13 rfl rfl)
theorem dX0_tryAll_34 : decode cX0_tryAll 34 = .ok (.iload 4, 2) := dk_21 4 (dk_at dksX0_tryAll_1 14 rfl rfl)
theorem dX0_tryAll_36 : decode cX0_tryAll 36 = .ok (.invokevirtual 115, 3) := dk_182 0 115 (dk_at dksX0_tryAll_1 16 rfl rfl)
theorem dX0_tryAll_39 : decode cX0_tryAll 39 = .ok (.istore 5, 2) := dk_54 5 (dk_at dksX0_tryAll_1 19 rfl rfl)
theorem dX0_tryAll_41 : decode cX0_tryAll 41 = .ok (.iconst 0, 1) := dk_3 (dk_at dksX0_tryAll_1 21 rfl rfl)
theorem dX0_tryAll_42 : decode cX0_tryAll 42 = .ok (.istore 6, 2) := dk_54 6 (dk_at dksX0_tryAll_1 22 rfl rfl)
theorem dX0_tryAll_44 : decode cX0_tryAll 44 = .ok (.iload 6, 2) := dk_21 6 (dk_at dksX0_tryAll_2 0 rfl rfl)
theorem dX0_tryAll_46 : decode cX0_tryAll 46 = .ok (.bipush 8, 2) := dk_16 8 (dk_at dksX0_tryAll_2 2 rfl rfl)
theorem dX0_tryAll_48 : decode cX0_tryAll 48 = .ok (.if_icmp .ge 66, 3) := dk_162 0 66 (dk_at dksX0_tryAll_2 4 rfl rfl)
theorem dX0_tryAll_51 : decode cX0_tryAll 51 = .ok (.iload 5, 2) := dk_21 5 (dk_at dksX0_tryAll_2 7 rfl rfl)
theorem dX0_tryAll_53 : decode cX0_tryAll 53 = .ok (.ifCond .ne 61, 3) := dk_154 0 61 (dk_at dksX0_tryAll_2 9 rfl rfl)
theorem dX0_tryAll_56 : decode cX0_tryAll 56 = .ok (.aload_n 0, 1) := dk_42 (dk_at dksX0_tryAll_2 12 rfl rfl)
theorem dX0_tryAll_57 : decode cX0_tryAll 57 = .ok (.iload 4, 2) := dk_21 4 (dk_at dksX0_tryAll_2 13 rfl rfl)
theorem dX0_tryAll_59 : decode cX0_tryAll 59 = .ok (.iload 6, 2) := dk_21 6 (dk_at dksX0_tryAll_2 15 rfl rfl)
theorem dX0_tryAll_61 : decode cX0_tryAll 61 = .ok (.invokevirtual 118, 3) := dk_182 0 118 (dk_at dksX0_tryAll_2 17 rfl rfl)
theorem dX0_tryAll_64 : decode cX0_tryAll 64 = .ok (.ifCond .eq 28, 3) := dk_153 0 28 (dk_at dksX0_tryAll_2 20 rfl rfl)
theorem dX0_tryAll_67 : decode cX0_tryAll 67 = .ok (.aload_n 1, 1) := dk_43 (dk_at dksX0_tryAll_2 23 rfl rfl)
theorem dX0_tryAll_68 : decode cX0_tryAll 68 = .ok (.iload 4, 2) := dk_21 4 (dk_at dksX0_tryAll_3 0 rfl rfl)
theorem dX0_tryAll_70 : decode cX0_tryAll 70 = .ok (.iload 6, 2) := dk_21 6 (dk_at dksX0_tryAll_3 2 rfl rfl)
theorem dX0_tryAll_72 : decode cX0_tryAll 72 = .ok (.aload_n 0, 1) := dk_42 (dk_at dksX0_tryAll_3 4 rfl rfl)
theorem dX0_tryAll_73 : decode cX0_tryAll 73 = .ok (.iload 4, 2) := dk_21 4 (dk_at dksX0_tryAll_3 5 rfl rfl)
theorem dX0_tryAll_75 : decode cX0_tryAll 75 = .ok (.iload 6, 2) := dk_21 6 (dk_at dksX0_tryAll_3 7 rfl rfl)
theorem dX0_tryAll_77 : decode cX0_tryAll 77 = .ok (.invokevirtual 124, 3) := dk_182 0 124 (dk_at dksX0_tryAll_3 9 rfl rfl)
theorem dX0_tryAll_80 : decode cX0_tryAll 80 = .ok (.invokeinterface 236 4, 5) := by decide +kernel
theorem dX0_tryAll_85 : decode cX0_tryAll 85 = .ok (.ifCond .eq 7, 3) := dk_153 0 7 (dk_at dksX0_tryAll_3 17 rfl rfl)
theorem dX0_tryAll_88 : decode cX0_tryAll 88 = .ok (.iconst 1, 1) := dk_4 (dk_at dksX0_tryAll_3 20 rfl rfl)
theorem dX0_tryAll_89 : decode cX0_tryAll 89 = .ok (.goto 4, 3) := dk_167 0 4 (dk_at dksX0_tryAll_3 21 rfl rfl)
theorem dX0_tryAll_92 : decode cX0_tryAll 92 = .ok (.iconst 0, 1) := dk_3 (dk_at dksX0_tryAll_4 0 rfl rfl)
theorem dX0_tryAll_93 : decode cX0_tryAll 93 = .ok (.istore 5, 2) := dk_54 5 (dk_at dksX0_tryAll_4 1 rfl rfl)
theorem dX0_tryAll_95 : decode cX0_tryAll 95 = .ok (.iload_n 2, 1) := dk_28 (dk_at dksX0_tryAll_4 3 rfl rfl)
theorem dX0_tryAll_96 : decode cX0_tryAll 96 = .ok (.iload 5, 2) := dk_21 5 (dk_at dksX0_tryAll_4 4 rfl rfl)
theorem dX0_tryAll_98 : decode cX0_tryAll 98 = .ok (.ifCond .eq 7, 3) := dk_153 0 7 (dk_at dksX0_tryAll_4 6 rfl rfl)
theorem dX0_tryAll_101 : decode cX0_tryAll 101 = .ok (.iconst 1, 1) := dk_4 (dk_at dksX0_tryAll_4 9 rfl rfl)
theorem dX0_tryAll_102 : decode cX0_tryAll 102 = .ok (.goto 4, 3) := dk_167 0 4 (dk_at dksX0_tryAll_4 10 rfl rfl)
theorem dX0_tryAll_105 : decode cX0_tryAll 105 = .ok (.iconst 0, 1) := dk_3 (dk_at dksX0_tryAll_4 13 rfl rfl)
theorem dX0_tryAll_106 : decode cX0_tryAll 106 = .ok (.iadd, 1) := dk_96 (dk_at dksX0_tryAll_4 14 rfl rfl)
theorem dX0_tryAll_107 : decode cX0_tryAll 107 = .ok (.istore_n 2, 1) := dk_61 (dk_at dksX0_tryAll_4 15 rfl rfl)
theorem dX0_tryAll_108 : decode cX0_tryAll 108 = .ok (.iinc 6 1, 3) := dk_132 6 1 (dk_at dksX0_tryAll_4 16 rfl rfl)
theorem dX0_tryAll_111 : decode cX0_tryAll 111 = .ok (.goto (-67), 3) := dk_167 255 189 (dk_at dksX0_tryAll_4 19 rfl rfl)
theorem dX0_tryAll_114 : decode cX0_tryAll 114 = .ok (.goto (-104), 3) := dk_167 255 152 (dk_at dksX0_tryAll_5 0 rfl rfl)
theorem dX0_tryAll_117 : decode cX0_tryAll 117 = .ok (.iload_n 2, 1) := dk_28 (dk_at dksX0_tryAll_5 3 rfl rfl)
theorem dX0_tryAll_118 : decode cX0_tryAll 118 = .ok (.ireturn, 1) := dk_172 (dk_at dksX0_tryAll_5 4 rfl rfl)
abbrev cX0_ordered : ByteArray := prog_1_method_27_code
def yX0_ordered : MethodName := ⟨RX0, "ordered", "()Ljava/util/ArrayList;"⟩
def dkwX0_ordered_3 : List UInt8 := [184, 0, 131, 182, 0, 228, 132, 2, 1, 167, 255, 190, 43, 176]
abbrev dktX0_ordered_3 : List UInt8 := dkwX0_ordered_3 ++ []
def dkwX0_ordered_2 : List UInt8 := [192, 0, 132, 182, 0, 222, 28, 182, 0, 225, 153, 0, 9, 132, 3, 1, 167, 255, 226, 43, 29, 28]
abbrev dktX0_ordered_2 : List UInt8 := dkwX0_ordered_2 ++ dktX0_ordered_3
def dkwX0_ordered_1 : List UInt8 := [182, 0, 80, 153, 0, 47, 3, 62, 29, 43, 182, 0, 44, 162, 0, 28, 42, 43, 29, 182, 0, 52]
abbrev dktX0_ordered_1 : List UInt8 := dkwX0_ordered_1 ++ dktX0_ordered_2
def dkwX0_ordered_0 : List UInt8 := [187, 0, 7, 89, 183, 0, 9, 76, 3, 61, 28, 42, 180, 0, 10, 182, 0, 44, 162, 0, 61, 42, 28]
abbrev dktX0_ordered_0 : List UInt8 := dkwX0_ordered_0 ++ dktX0_ordered_1
theorem dksX0_ordered_0 : cX0_ordered.data.toList.drop 0 = dktX0_ordered_0 := by decide +kernel
theorem dksX0_ordered_1 : cX0_ordered.data.toList.drop 23 = dktX0_ordered_1 := dk_seg dksX0_ordered_0 23 rfl rfl
theorem dksX0_ordered_2 : cX0_ordered.data.toList.drop 45 = dktX0_ordered_2 := dk_seg dksX0_ordered_1 22 rfl rfl
theorem dksX0_ordered_3 : cX0_ordered.data.toList.drop 67 = dktX0_ordered_3 := dk_seg dksX0_ordered_2 22 rfl rfl
theorem dX0_ordered_0 : decode cX0_ordered 0 = .ok (.new 7, 3) := dk_187 0 7 (dk_at dksX0_ordered_0 0 rfl rfl)
theorem dX0_ordered_3 : decode cX0_ordered 3 = .ok (.dup, 1) := dk_89 (dk_at dksX0_ordered_0 3 rfl rfl)
theorem dX0_ordered_4 : decode cX0_ordered 4 = .ok (.invokespecial 9, 3) := dk_183 0 9 (dk_at dksX0_ordered_0 4 rfl rfl)
theorem dX0_ordered_7 : decode cX0_ordered 7 = .ok (.astore_n 1, 1) := dk_76 (dk_at dksX0_ordered_0 7 rfl rfl)
theorem dX0_ordered_8 : decode cX0_ordered 8 = .ok (.iconst 0, 1) := dk_3 (dk_at dksX0_ordered_0 8 rfl rfl)
theorem dX0_ordered_9 : decode cX0_ordered 9 = .ok (.istore_n 2, 1) := dk_61 (dk_at dksX0_ordered_0 9 rfl rfl)
theorem dX0_ordered_10 : decode cX0_ordered 10 = .ok (.iload_n 2, 1) := dk_28 (dk_at dksX0_ordered_0 10 rfl rfl)
theorem dX0_ordered_11 : decode cX0_ordered 11 = .ok (.aload_n 0, 1) := dk_42 (dk_at dksX0_ordered_0 11 rfl rfl)
theorem dX0_ordered_12 : decode cX0_ordered 12 = .ok (.getfield 10, 3) := dk_180 0 10 (dk_at dksX0_ordered_0 12 rfl rfl)
theorem dX0_ordered_15 : decode cX0_ordered 15 = .ok (.invokevirtual 44, 3) := dk_182 0 44 (dk_at dksX0_ordered_0 15 rfl rfl)
theorem dX0_ordered_18 : decode cX0_ordered 18 = .ok (.if_icmp .ge 61, 3) := dk_162 0 61 (dk_at dksX0_ordered_0 18 rfl rfl)
theorem dX0_ordered_21 : decode cX0_ordered 21 = .ok (.aload_n 0, 1) := dk_42 (dk_at dksX0_ordered_0 21 rfl rfl)
theorem dX0_ordered_22 : decode cX0_ordered 22 = .ok (.iload_n 2, 1) := dk_28 (dk_at dksX0_ordered_0 22 rfl rfl)
theorem dX0_ordered_23 : decode cX0_ordered 23 = .ok (.invokevirtual 80, 3) := dk_182 0 80 (dk_at dksX0_ordered_1 0 rfl rfl)
theorem dX0_ordered_26 : decode cX0_ordered 26 = .ok (.ifCond .eq 47, 3) := dk_153 0 47 (dk_at dksX0_ordered_1 3 rfl rfl)
theorem dX0_ordered_29 : decode cX0_ordered 29 = .ok (.iconst 0, 1) := dk_3 (dk_at dksX0_ordered_1 6 rfl rfl)
theorem dX0_ordered_30 : decode cX0_ordered 30 = .ok (.istore_n 3, 1) := dk_62 (dk_at dksX0_ordered_1 7 rfl rfl)
theorem dX0_ordered_31 : decode cX0_ordered 31 = .ok (.iload_n 3, 1) := dk_29 (dk_at dksX0_ordered_1 8 rfl rfl)
theorem dX0_ordered_32 : decode cX0_ordered 32 = .ok (.aload_n 1, 1) := dk_43 (dk_at dksX0_ordered_1 9 rfl rfl)
theorem dX0_ordered_33 : decode cX0_ordered 33 = .ok (.invokevirtual 44, 3) := dk_182 0 44 (dk_at dksX0_ordered_1 10 rfl rfl)
theorem dX0_ordered_36 : decode cX0_ordered 36 = .ok (.if_icmp .ge 28, 3) := dk_162 0 28 (dk_at dksX0_ordered_1 13 rfl rfl)
theorem dX0_ordered_39 : decode cX0_ordered 39 = .ok (.aload_n 0, 1) := dk_42 (dk_at dksX0_ordered_1 16 rfl rfl)
theorem dX0_ordered_40 : decode cX0_ordered 40 = .ok (.aload_n 1, 1) := dk_43 (dk_at dksX0_ordered_1 17 rfl rfl)
theorem dX0_ordered_41 : decode cX0_ordered 41 = .ok (.iload_n 3, 1) := dk_29 (dk_at dksX0_ordered_1 18 rfl rfl)
theorem dX0_ordered_42 : decode cX0_ordered 42 = .ok (.invokevirtual 52, 3) := dk_182 0 52 (dk_at dksX0_ordered_1 19 rfl rfl)
theorem dX0_ordered_45 : decode cX0_ordered 45 = .ok (.checkcast 132, 3) := dk_192 0 132 (dk_at dksX0_ordered_2 0 rfl rfl)
theorem dX0_ordered_48 : decode cX0_ordered 48 = .ok (.invokevirtual 222, 3) := dk_182 0 222 (dk_at dksX0_ordered_2 3 rfl rfl)
theorem dX0_ordered_51 : decode cX0_ordered 51 = .ok (.iload_n 2, 1) := dk_28 (dk_at dksX0_ordered_2 6 rfl rfl)
theorem dX0_ordered_52 : decode cX0_ordered 52 = .ok (.invokevirtual 225, 3) := dk_182 0 225 (dk_at dksX0_ordered_2 7 rfl rfl)
theorem dX0_ordered_55 : decode cX0_ordered 55 = .ok (.ifCond .eq 9, 3) := dk_153 0 9 (dk_at dksX0_ordered_2 10 rfl rfl)
theorem dX0_ordered_58 : decode cX0_ordered 58 = .ok (.iinc 3 1, 3) := dk_132 3 1 (dk_at dksX0_ordered_2 13 rfl rfl)
theorem dX0_ordered_61 : decode cX0_ordered 61 = .ok (.goto (-30), 3) := dk_167 255 226 (dk_at dksX0_ordered_2 16 rfl rfl)
theorem dX0_ordered_64 : decode cX0_ordered 64 = .ok (.aload_n 1, 1) := dk_43 (dk_at dksX0_ordered_2 19 rfl rfl)
theorem dX0_ordered_65 : decode cX0_ordered 65 = .ok (.iload_n 3, 1) := dk_29 (dk_at dksX0_ordered_2 20 rfl rfl)
theorem dX0_ordered_66 : decode cX0_ordered 66 = .ok (.iload_n 2, 1) := dk_28 (dk_at dksX0_ordered_2 21 rfl rfl)
theorem dX0_ordered_67 : decode cX0_ordered 67 = .ok (.invokestatic 131, 3) := dk_184 0 131 (dk_at dksX0_ordered_3 0 rfl rfl)
theorem dX0_ordered_70 : decode cX0_ordered 70 = .ok (.invokevirtual 228, 3) := dk_182 0 228 (dk_at dksX0_ordered_3 3 rfl rfl)
theorem dX0_ordered_73 : decode cX0_ordered 73 = .ok (.iinc 2 1, 3) := dk_132 2 1 (dk_at dksX0_ordered_3 6 rfl rfl)
theorem dX0_ordered_76 : decode cX0_ordered 76 = .ok (.goto (-66), 3) := dk_167 255 190 (dk_at dksX0_ordered_3 9 rfl rfl)
theorem dX0_ordered_79 : decode cX0_ordered 79 = .ok (.aload_n 1, 1) := dk_43 (dk_at dksX0_ordered_3 12 rfl rfl)
theorem dX0_ordered_80 : decode cX0_ordered 80 = .ok (.areturn, 1) := dk_176 (dk_at dksX0_ordered_3 13 rfl rfl)
abbrev cX0_isBefore : ByteArray := prog_1_method_26_code
def yX0_isBefore : MethodName := ⟨RX0, "isBefore", "(II)Z"⟩
def dkwX0_isBefore_2 : List UInt8 := [167, 0, 4, 3, 172]
abbrev dktX0_isBefore_2 : List UInt8 := dkwX0_isBefore_2 ++ []
def dkwX0_isBefore_1 : List UInt8 := [192, 0, 56, 180, 0, 219, 100, 62, 29, 155, 0, 12, 29, 154, 0, 12, 27, 28, 162, 0, 7, 4]
abbrev dktX0_isBefore_1 : List UInt8 := dkwX0_isBefore_1 ++ dktX0_isBefore_2
def dkwX0_isBefore_0 : List UInt8 := [42, 180, 0, 10, 28, 182, 0, 52, 192, 0, 56, 180, 0, 219, 42, 180, 0, 10, 27, 182, 0, 52]
abbrev dktX0_isBefore_0 : List UInt8 := dkwX0_isBefore_0 ++ dktX0_isBefore_1
theorem dksX0_isBefore_0 : cX0_isBefore.data.toList.drop 0 = dktX0_isBefore_0 := by decide +kernel
theorem dksX0_isBefore_1 : cX0_isBefore.data.toList.drop 22 = dktX0_isBefore_1 := dk_seg dksX0_isBefore_0 22 rfl rfl
theorem dksX0_isBefore_2 : cX0_isBefore.data.toList.drop 44 = dktX0_isBefore_2 := dk_seg dksX0_isBefore_1 22 rfl rfl
theorem dX0_isBefore_0 : decode cX0_isBefore 0 = .ok (.aload_n 0, 1) := dk_42 (dk_at dksX0_isBefore_0 0 rfl rfl)
theorem dX0_isBefore_1 : decode cX0_isBefore 1 = .ok (.getfield 10, 3) := dk_180 0 10 (dk_at dksX0_isBefore_0 1 rfl rfl)
theorem dX0_isBefore_4 : decode cX0_isBefore 4 = .ok (.iload_n 2, 1) := dk_28 (dk_at dksX0_isBefore_0 4 rfl rfl)
theorem dX0_isBefore_5 : decode cX0_isBefore 5 = .ok (.invokevirtual 52, 3) := dk_182 0 52 (dk_at dksX0_isBefore_0 5 rfl rfl)
theorem dX0_isBefore_8 : decode cX0_isBefore 8 = .ok (.checkcast 56, 3) := dk_192 0 56 (dk_at dksX0_isBefore_0 8 rfl rfl)
theorem dX0_isBefore_11 : decode cX0_isBefore 11 = .ok (.getfield 219, 3) := dk_180 0 219 (dk_at dksX0_isBefore_0 11 rfl rfl)
theorem dX0_isBefore_14 : decode cX0_isBefore 14 = .ok (.aload_n 0, 1) := dk_42 (dk_at dksX0_isBefore_0 14 rfl rfl)
theorem dX0_isBefore_15 : decode cX0_isBefore 15 = .ok (.getfield 10, 3) := dk_180 0 10 (dk_at dksX0_isBefore_0 15 rfl rfl)
theorem dX0_isBefore_18 : decode cX0_isBefore 18 = .ok (.iload_n 1, 1) := dk_27 (dk_at dksX0_isBefore_0 18 rfl rfl)
theorem dX0_isBefore_19 : decode cX0_isBefore 19 = .ok (.invokevirtual 52, 3) := dk_182 0 52 (dk_at dksX0_isBefore_0 19 rfl rfl)
theorem dX0_isBefore_22 : decode cX0_isBefore 22 = .ok (.checkcast 56, 3) := dk_192 0 56 (dk_at dksX0_isBefore_1 0 rfl rfl)
theorem dX0_isBefore_25 : decode cX0_isBefore 25 = .ok (.getfield 219, 3) := dk_180 0 219 (dk_at dksX0_isBefore_1 3 rfl rfl)
theorem dX0_isBefore_28 : decode cX0_isBefore 28 = .ok (.isub, 1) := dk_100 (dk_at dksX0_isBefore_1 6 rfl rfl)
theorem dX0_isBefore_29 : decode cX0_isBefore 29 = .ok (.istore_n 3, 1) := dk_62 (dk_at dksX0_isBefore_1 7 rfl rfl)
theorem dX0_isBefore_30 : decode cX0_isBefore 30 = .ok (.iload_n 3, 1) := dk_29 (dk_at dksX0_isBefore_1 8 rfl rfl)
theorem dX0_isBefore_31 : decode cX0_isBefore 31 = .ok (.ifCond .lt 12, 3) := dk_155 0 12 (dk_at dksX0_isBefore_1 9 rfl rfl)
theorem dX0_isBefore_34 : decode cX0_isBefore 34 = .ok (.iload_n 3, 1) := dk_29 (dk_at dksX0_isBefore_1 12 rfl rfl)
theorem dX0_isBefore_35 : decode cX0_isBefore 35 = .ok (.ifCond .ne 12, 3) := dk_154 0 12 (dk_at dksX0_isBefore_1 13 rfl rfl)
theorem dX0_isBefore_38 : decode cX0_isBefore 38 = .ok (.iload_n 1, 1) := dk_27 (dk_at dksX0_isBefore_1 16 rfl rfl)
theorem dX0_isBefore_39 : decode cX0_isBefore 39 = .ok (.iload_n 2, 1) := dk_28 (dk_at dksX0_isBefore_1 17 rfl rfl)
theorem dX0_isBefore_40 : decode cX0_isBefore 40 = .ok (.if_icmp .ge 7, 3) := dk_162 0 7 (dk_at dksX0_isBefore_1 18 rfl rfl)
theorem dX0_isBefore_43 : decode cX0_isBefore 43 = .ok (.iconst 1, 1) := dk_4 (dk_at dksX0_isBefore_1 21 rfl rfl)
theorem dX0_isBefore_44 : decode cX0_isBefore 44 = .ok (.goto 4, 3) := dk_167 0 4 (dk_at dksX0_isBefore_2 0 rfl rfl)
theorem dX0_isBefore_47 : decode cX0_isBefore 47 = .ok (.iconst 0, 1) := dk_3 (dk_at dksX0_isBefore_2 3 rfl rfl)
theorem dX0_isBefore_48 : decode cX0_isBefore 48 = .ok (.ireturn, 1) := dk_172 (dk_at dksX0_isBefore_2 4 rfl rfl)
abbrev cX0_place : ByteArray := prog_1_method_23_code
def yX0_place : MethodName := ⟨RX0, "place", "(III)I"⟩
def dkwX0_place_6 : List UInt8 := [153, 0, 16, 42, 25, 4, 27, 182, 0, 161, 182, 0, 218, 167, 0, 4, 3, 172]
abbrev dktX0_place_6 : List UInt8 := dkwX0_place_6 ++ []
def dkwX0_place_5 : List UInt8 := [21, 5, 153, 0, 18, 42, 42, 27, 28, 182, 0, 94, 25, 4, 182, 0, 214, 167, 0, 4, 3, 172, 21, 5]
abbrev dktX0_place_5 : List UInt8 := dkwX0_place_5 ++ dktX0_place_6
def dkwX0_place_4 : List UInt8 := [21, 5, 153, 0, 7, 4, 167, 0, 4, 3, 172, 25, 4, 180, 0, 175, 172, 25, 4, 180, 0, 181, 172]
abbrev dktX0_place_4 : List UInt8 := dkwX0_place_4 ++ dktX0_place_5
def dkwX0_place_3 : List UInt8 := [170, 0, 0, 0, 0, 0, 0, 77, 0, 0, 0, 0, 0, 0, 0, 3, 0, 0, 0, 32, 0, 0, 0, 43, 0, 0, 0, 49, 0, 0, 0, 55]
abbrev dktX0_place_3 : List UInt8 := dkwX0_place_3 ++ dktX0_place_4
def dkwX0_place_2 : List UInt8 := [27, 28, 182, 0, 118, 54, 5, 29]
abbrev dktX0_place_2 : List UInt8 := dkwX0_place_2 ++ dktX0_place_3
def dkwX0_place_1 : List UInt8 := [154, 0, 6, 16, 254, 172, 42, 180, 0, 10, 27, 182, 0, 52, 192, 0, 56, 28, 182, 0, 84, 58, 4, 42]
abbrev dktX0_place_1 : List UInt8 := dkwX0_place_1 ++ dktX0_place_2
def dkwX0_place_0 : List UInt8 := [42, 27, 182, 0, 151, 153, 0, 22, 28, 3, 16, 7, 184, 0, 48, 153, 0, 12, 29, 3, 7, 184, 0, 48]
abbrev dktX0_place_0 : List UInt8 := dkwX0_place_0 ++ dktX0_place_1
theorem dksX0_place_0 : cX0_place.data.toList.drop 0 = dktX0_place_0 := by decide +kernel
theorem dksX0_place_1 : cX0_place.data.toList.drop 24 = dktX0_place_1 := dk_seg dksX0_place_0 24 rfl rfl
theorem dksX0_place_2 : cX0_place.data.toList.drop 48 = dktX0_place_2 := dk_seg dksX0_place_1 24 rfl rfl
theorem dksX0_place_3 : cX0_place.data.toList.drop 56 = dktX0_place_3 := dk_seg dksX0_place_2 8 rfl rfl
theorem dksX0_place_4 : cX0_place.data.toList.drop 88 = dktX0_place_4 := dk_seg dksX0_place_3 32 rfl rfl
theorem dksX0_place_5 : cX0_place.data.toList.drop 111 = dktX0_place_5 := dk_seg dksX0_place_4 23 rfl rfl
theorem dksX0_place_6 : cX0_place.data.toList.drop 135 = dktX0_place_6 := dk_seg dksX0_place_5 24 rfl rfl
theorem dX0_place_0 : decode cX0_place 0 = .ok (.aload_n 0, 1) := dk_42 (dk_at dksX0_place_0 0 rfl rfl)
theorem dX0_place_1 : decode cX0_place 1 = .ok (.iload_n 1, 1) := dk_27 (dk_at dksX0_place_0 1 rfl rfl)
theorem dX0_place_2 : decode cX0_place 2 = .ok (.invokevirtual 151, 3) := dk_182 0 151 (dk_at dksX0_place_0 2 rfl rfl)
theorem dX0_place_5 : decode cX0_place 5 = .ok (.ifCond .eq 22, 3) := dk_153 0 22 (dk_at dksX0_place_0 5 rfl rfl)
theorem dX0_place_8 : decode cX0_place 8 = .ok (.iload_n 2, 1) := dk_28 (dk_at dksX0_place_0 8 rfl rfl)
theorem dX0_place_9 : decode cX0_place 9 = .ok (.iconst 0, 1) := dk_3 (dk_at dksX0_place_0 9 rfl rfl)
theorem dX0_place_10 : decode cX0_place 10 = .ok (.bipush 7, 2) := dk_16 7 (dk_at dksX0_place_0 10 rfl rfl)
theorem dX0_place_12 : decode cX0_place 12 = .ok (.invokestatic 48, 3) := dk_184 0 48 (dk_at dksX0_place_0 12 rfl rfl)
theorem dX0_place_15 : decode cX0_place 15 = .ok (.ifCond .eq 12, 3) := dk_153 0 12 (dk_at dksX0_place_0 15 rfl rfl)
theorem dX0_place_18 : decode cX0_place 18 = .ok (.iload_n 3, 1) := dk_29 (dk_at dksX0_place_0 18 rfl rfl)
theorem dX0_place_19 : decode cX0_place 19 = .ok (.iconst 0, 1) := dk_3 (dk_at dksX0_place_0 19 rfl rfl)
theorem dX0_place_20 : decode cX0_place 20 = .ok (.iconst 4, 1) := dk_7 (dk_at dksX0_place_0 20 rfl rfl)
theorem dX0_place_21 : decode cX0_place 21 = .ok (.invokestatic 48, 3) := dk_184 0 48 (dk_at dksX0_place_0 21 rfl rfl)
theorem dX0_place_24 : decode cX0_place 24 = .ok (.ifCond .ne 6, 3) := dk_154 0 6 (dk_at dksX0_place_1 0 rfl rfl)
theorem dX0_place_27 : decode cX0_place 27 = .ok (.bipush (-2), 2) := dk_16 254 (dk_at dksX0_place_1 3 rfl rfl)
theorem dX0_place_29 : decode cX0_place 29 = .ok (.ireturn, 1) := dk_172 (dk_at dksX0_place_1 5 rfl rfl)
theorem dX0_place_30 : decode cX0_place 30 = .ok (.aload_n 0, 1) := dk_42 (dk_at dksX0_place_1 6 rfl rfl)
theorem dX0_place_31 : decode cX0_place 31 = .ok (.getfield 10, 3) := dk_180 0 10 (dk_at dksX0_place_1 7 rfl rfl)
theorem dX0_place_34 : decode cX0_place 34 = .ok (.iload_n 1, 1) := dk_27 (dk_at dksX0_place_1 10 rfl rfl)
theorem dX0_place_35 : decode cX0_place 35 = .ok (.invokevirtual 52, 3) := dk_182 0 52 (dk_at dksX0_place_1 11 rfl rfl)
theorem dX0_place_38 : decode cX0_place 38 = .ok (.checkcast 56, 3) := dk_192 0 56 (dk_at dksX0_place_1 14 rfl rfl)
theorem dX0_place_41 : decode cX0_place 41 = .ok (.iload_n 2, 1) := dk_28 (dk_at dksX0_place_1 17 rfl rfl)
theorem dX0_place_42 : decode cX0_place 42 = .ok (.invokevirtual 84, 3) := dk_182 0 84 (dk_at dksX0_place_1 18 rfl rfl)
theorem dX0_place_45 : decode cX0_place 45 = .ok (.astore 4, 2) := dk_58 4 (dk_at dksX0_place_1 21 rfl rfl)
theorem dX0_place_47 : decode cX0_place 47 = .ok (.aload_n 0, 1) := dk_42 (dk_at dksX0_place_1 23 rfl rfl)
theorem dX0_place_48 : decode cX0_place 48 = .ok (.iload_n 1, 1) := dk_27 (dk_at dksX0_place_2 0 rfl rfl)
theorem dX0_place_49 : decode cX0_place 49 = .ok (.iload_n 2, 1) := dk_28 (dk_at dksX0_place_2 1 rfl rfl)
theorem dX0_place_50 : decode cX0_place 50 = .ok (.invokevirtual 118, 3) := dk_182 0 118 (dk_at dksX0_place_2 2 rfl rfl)
theorem dX0_place_53 : decode cX0_place 53 = .ok (.istore 5, 2) := dk_54 5 (dk_at dksX0_place_2 5 rfl rfl)
theorem dX0_place_55 : decode cX0_place 55 = .ok (.iload_n 3, 1) := dk_29 (dk_at dksX0_place_2 7 rfl rfl)
theorem dX0_place_56 : decode cX0_place 56 = .ok (.tableswitch 77 0 3 #[32, 43, 49, 55], 32) := by decide +kernel
theorem dX0_place_88 : decode cX0_place 88 = .ok (.iload 5, 2) := dk_21 5 (dk_at dksX0_place_4 0 rfl rfl)
theorem dX0_place_90 : decode cX0_place 90 = .ok (.ifCond .eq 7, 3) := dk_153 0 7 (dk_at dksX0_place_4 2 rfl rfl)
theorem dX0_place_93 : decode cX0_place 93 = .ok (.iconst 1, 1) := dk_4 (dk_at dksX0_place_4 5 rfl rfl)
theorem dX0_place_94 : decode cX0_place 94 = .ok (.goto 4, 3) := dk_167 0 4 (dk_at dksX0_place_4 6 rfl rfl)
theorem dX0_place_97 : decode cX0_place 97 = .ok (.iconst 0, 1) := dk_3 (dk_at dksX0_place_4 9 rfl rfl)
theorem dX0_place_98 : decode cX0_place 98 = .ok (.ireturn, 1) := dk_172 (dk_at dksX0_place_4 10 rfl rfl)
theorem dX0_place_99 : decode cX0_place 99 = .ok (.aload 4, 2) := dk_25 4 (dk_at dksX0_place_4 11 rfl rfl)
theorem dX0_place_101 : decode cX0_place 101 = .ok (.getfield 175, 3) := dk_180 0 175 (dk_at dksX0_place_4 13 rfl rfl)
theorem dX0_place_104 : decode cX0_place 104 = .ok (.ireturn, 1) := dk_172 (dk_at dksX0_place_4 16 rfl rfl)
theorem dX0_place_105 : decode cX0_place 105 = .ok (.aload 4, 2) := dk_25 4 (dk_at dksX0_place_4 17 rfl rfl)
theorem dX0_place_107 : decode cX0_place 107 = .ok (.getfield 181, 3) := dk_180 0 181 (dk_at dksX0_place_4 19 rfl rfl)
theorem dX0_place_110 : decode cX0_place 110 = .ok (.ireturn, 1) := dk_172 (dk_at dksX0_place_4 22 rfl rfl)
theorem dX0_place_111 : decode cX0_place 111 = .ok (.iload 5, 2) := dk_21 5 (dk_at dksX0_place_5 0 rfl rfl)
theorem dX0_place_113 : decode cX0_place 113 = .ok (.ifCond .eq 18, 3) := dk_153 0 18 (dk_at dksX0_place_5 2 rfl rfl)
theorem dX0_place_116 : decode cX0_place 116 = .ok (.aload_n 0, 1) := dk_42 (dk_at dksX0_place_5 5 rfl rfl)
theorem dX0_place_117 : decode cX0_place 117 = .ok (.aload_n 0, 1) := dk_42 (dk_at dksX0_place_5 6 rfl rfl)
theorem dX0_place_118 : decode cX0_place 118 = .ok (.iload_n 1, 1) := dk_27 (dk_at dksX0_place_5 7 rfl rfl)
theorem dX0_place_119 : decode cX0_place 119 = .ok (.iload_n 2, 1) := dk_28 (dk_at dksX0_place_5 8 rfl rfl)
theorem dX0_place_120 : decode cX0_place 120 = .ok (.invokevirtual 94, 3) := dk_182 0 94 (dk_at dksX0_place_5 9 rfl rfl)
theorem dX0_place_123 : decode cX0_place 123 = .ok (.aload 4, 2) := dk_25 4 (dk_at dksX0_place_5 12 rfl rfl)
theorem dX0_place_125 : decode cX0_place 125 = .ok (.invokevirtual 214, 3) := dk_182 0 214 (dk_at dksX0_place_5 14 rfl rfl)
theorem dX0_place_128 : decode cX0_place 128 = .ok (.goto 4, 3) := dk_167 0 4 (dk_at dksX0_place_5 17 rfl rfl)
theorem dX0_place_131 : decode cX0_place 131 = .ok (.iconst 0, 1) := dk_3 (dk_at dksX0_place_5 20 rfl rfl)
theorem dX0_place_132 : decode cX0_place 132 = .ok (.ireturn, 1) := dk_172 (dk_at dksX0_place_5 21 rfl rfl)
theorem dX0_place_133 : decode cX0_place 133 = .ok (.iload 5, 2) := dk_21 5 (dk_at dksX0_place_5 22 rfl rfl)
theorem dX0_place_135 : decode cX0_place 135 = .ok (.ifCond .eq 16, 3) := dk_153 0 16 (dk_at dksX0_place_6 0 rfl rfl)
theorem dX0_place_138 : decode cX0_place 138 = .ok (.aload_n 0, 1) := dk_42 (dk_at dksX0_place_6 3 rfl rfl)
theorem dX0_place_139 : decode cX0_place 139 = .ok (.aload 4, 2) := dk_25 4 (dk_at dksX0_place_6 4 rfl rfl)
theorem dX0_place_141 : decode cX0_place 141 = .ok (.iload_n 1, 1) := dk_27 (dk_at dksX0_place_6 6 rfl rfl)
theorem dX0_place_142 : decode cX0_place 142 = .ok (.invokevirtual 161, 3) := dk_182 0 161 (dk_at dksX0_place_6 7 rfl rfl)
theorem dX0_place_145 : decode cX0_place 145 = .ok (.invokevirtual 218, 3) := dk_182 0 218 (dk_at dksX0_place_6 10 rfl rfl)
theorem dX0_place_148 : decode cX0_place 148 = .ok (.goto 4, 3) := dk_167 0 4 (dk_at dksX0_place_6 13 rfl rfl)
theorem dX0_place_151 : decode cX0_place 151 = .ok (.iconst 0, 1) := dk_3 (dk_at dksX0_place_6 16 rfl rfl)
theorem dX0_place_152 : decode cX0_place 152 = .ok (.ireturn, 1) := dk_172 (dk_at dksX0_place_6 17 rfl rfl)
abbrev cX0_clashes : ByteArray := prog_1_method_22_code
def yX0_clashes : MethodName := ⟨RX0, "clashes", "(LLabelPlacer$Key;LLabelPlacer$Box;)I"⟩
def dkwX0_clashes_3 : List UInt8 := [153, 0, 7, 4, 167, 0, 4, 3, 96, 62, 167, 255, 195, 29, 172]
abbrev dktX0_clashes_3 : List UInt8 := dkwX0_clashes_3 ++ []
def dkwX0_clashes_2 : List UInt8 := [180, 0, 211, 159, 0, 26, 42, 182, 0, 102, 25, 5, 182, 0, 109, 192, 0, 16, 44, 182, 0, 128]
abbrev dktX0_clashes_2 : List UInt8 := dkwX0_clashes_2 ++ dktX0_clashes_3
def dkwX0_clashes_1 : List UInt8 := [153, 0, 57, 25, 4, 185, 0, 207, 1, 0, 192, 0, 25, 58, 5, 29, 25, 5, 180, 0, 211, 43]
abbrev dktX0_clashes_1 : List UInt8 := dkwX0_clashes_1 ++ dktX0_clashes_2
def dkwX0_clashes_0 : List UInt8 := [3, 62, 42, 182, 0, 102, 182, 0, 192, 185, 0, 196, 1, 0, 58, 4, 25, 4, 185, 0, 202, 1, 0]
abbrev dktX0_clashes_0 : List UInt8 := dkwX0_clashes_0 ++ dktX0_clashes_1
theorem dksX0_clashes_0 : cX0_clashes.data.toList.drop 0 = dktX0_clashes_0 := by decide +kernel
theorem dksX0_clashes_1 : cX0_clashes.data.toList.drop 23 = dktX0_clashes_1 := dk_seg dksX0_clashes_0 23 rfl rfl
theorem dksX0_clashes_2 : cX0_clashes.data.toList.drop 45 = dktX0_clashes_2 := dk_seg dksX0_clashes_1 22 rfl rfl
theorem dksX0_clashes_3 : cX0_clashes.data.toList.drop 67 = dktX0_clashes_3 := dk_seg dksX0_clashes_2 22 rfl rfl
theorem dX0_clashes_0 : decode cX0_clashes 0 = .ok (.iconst 0, 1) := dk_3 (dk_at dksX0_clashes_0 0 rfl rfl)
theorem dX0_clashes_1 : decode cX0_clashes 1 = .ok (.istore_n 3, 1) := dk_62 (dk_at dksX0_clashes_0 1 rfl rfl)
theorem dX0_clashes_2 : decode cX0_clashes 2 = .ok (.aload_n 0, 1) := dk_42 (dk_at dksX0_clashes_0 2 rfl rfl)
theorem dX0_clashes_3 : decode cX0_clashes 3 = .ok (.invokevirtual 102, 3) := dk_182 0 102 (dk_at dksX0_clashes_0 3 rfl rfl)
theorem dX0_clashes_6 : decode cX0_clashes 6 = .ok (.invokevirtual 192, 3) := dk_182 0 192 (dk_at dksX0_clashes_0 6 rfl rfl)
theorem dX0_clashes_9 : decode cX0_clashes 9 = .ok (.invokeinterface 196 1, 5) := by decide +kernel
theorem dX0_clashes_14 : decode cX0_clashes 14 = .ok (.astore 4, 2) := dk_58 4 (dk_at dksX0_clashes_0 14 rfl rfl)
theorem dX0_clashes_16 : decode cX0_clashes 16 = .ok (.aload 4, 2) := dk_25 4 (dk_at dksX0_clashes_0 16 rfl rfl)
theorem dX0_clashes_18 : decode cX0_clashes 18 = .ok (.invokeinterface 202 1, 5) := by decide +kernel
theorem dX0_clashes_23 : decode cX0_clashes 23 = .ok (.ifCond .eq 57, 3) := dk_153 0 57 (dk_at dksX0_clashes_1 0 rfl rfl)
theorem dX0_clashes_26 : decode cX0_clashes 26 = .ok (.aload 4, 2) := dk_25 4 (dk_at dksX0_clashes_1 3 rfl rfl)
theorem dX0_clashes_28 : decode cX0_clashes 28 = .ok (.invokeinterface 207 1, 5) := by decide +kernel
theorem dX0_clashes_33 : decode cX0_clashes 33 = .ok (.checkcast 25, 3) := dk_192 0 25 (dk_at dksX0_clashes_1 10 rfl rfl)
theorem dX0_clashes_36 : decode cX0_clashes 36 = .ok (.astore 5, 2) := dk_58 5 (dk_at dksX0_clashes_1 13 rfl rfl)
theorem dX0_clashes_38 : decode cX0_clashes 38 = .ok (.iload_n 3, 1) := dk_29 (dk_at dksX0_clashes_1 15 rfl rfl)
theorem dX0_clashes_39 : decode cX0_clashes 39 = .ok (.aload 5, 2) := dk_25 5 (dk_at dksX0_clashes_1 16 rfl rfl)
theorem dX0_clashes_41 : decode cX0_clashes 41 = .ok (.getfield 211, 3) := dk_180 0 211 (dk_at dksX0_clashes_1 18 rfl rfl)
theorem dX0_clashes_44 : decode cX0_clashes 44 = .ok (.aload_n 1, 1) := dk_43 (dk_at dksX0_clashes_1 21 rfl rfl)
theorem dX0_clashes_45 : decode cX0_clashes 45 = .ok (.getfield 211, 3) := dk_180 0 211 (dk_at dksX0_clashes_2 0 rfl rfl)
theorem dX0_clashes_48 : decode cX0_clashes 48 = .ok (.if_icmp .eq 26, 3) := dk_159 0 26 (dk_at dksX0_clashes_2 3 rfl rfl)
theorem dX0_clashes_51 : decode cX0_clashes 51 = .ok (.aload_n 0, 1) := dk_42 (dk_at dksX0_clashes_2 6 rfl rfl)
theorem dX0_clashes_52 : decode cX0_clashes 52 = .ok (.invokevirtual 102, 3) := dk_182 0 102 (dk_at dksX0_clashes_2 7 rfl rfl)
theorem dX0_clashes_55 : decode cX0_clashes 55 = .ok (.aload 5, 2) := dk_25 5 (dk_at dksX0_clashes_2 10 rfl rfl)
theorem dX0_clashes_57 : decode cX0_clashes 57 = .ok (.invokevirtual 109, 3) := dk_182 0 109 (dk_at dksX0_clashes_2 12 rfl rfl)
theorem dX0_clashes_60 : decode cX0_clashes 60 = .ok (.checkcast 16, 3) := dk_192 0 16 (dk_at dksX0_clashes_2 15 rfl rfl)
theorem dX0_clashes_63 : decode cX0_clashes 63 = .ok (.aload_n 2, 1) := dk_44 (dk_at dksX0_clashes_2 18 rfl rfl)
theorem dX0_clashes_64 : decode cX0_clashes 64 = .ok (.invokevirtual 128, 3) := dk_182 0 128 (dk_at dksX0_clashes_2 19 rfl rfl)
theorem dX0_clashes_67 : decode cX0_clashes 67 = .ok (.ifCond .eq 7, 3) := dk_153 0 7 (dk_at dksX0_clashes_3 0 rfl rfl)
theorem dX0_clashes_70 : decode cX0_clashes 70 = .ok (.iconst 1, 1) := dk_4 (dk_at dksX0_clashes_3 3 rfl rfl)
theorem dX0_clashes_71 : decode cX0_clashes 71 = .ok (.goto 4, 3) := dk_167 0 4 (dk_at dksX0_clashes_3 4 rfl rfl)
theorem dX0_clashes_74 : decode cX0_clashes 74 = .ok (.iconst 0, 1) := dk_3 (dk_at dksX0_clashes_3 7 rfl rfl)
theorem dX0_clashes_75 : decode cX0_clashes 75 = .ok (.iadd, 1) := dk_96 (dk_at dksX0_clashes_3 8 rfl rfl)
theorem dX0_clashes_76 : decode cX0_clashes 76 = .ok (.istore_n 3, 1) := dk_62 (dk_at dksX0_clashes_3 9 rfl rfl)
theorem dX0_clashes_77 : decode cX0_clashes 77 = .ok (.goto (-61), 3) := dk_167 255 195 (dk_at dksX0_clashes_3 10 rfl rfl)
theorem dX0_clashes_80 : decode cX0_clashes 80 = .ok (.iload_n 3, 1) := dk_29 (dk_at dksX0_clashes_3 13 rfl rfl)
theorem dX0_clashes_81 : decode cX0_clashes 81 = .ok (.ireturn, 1) := dk_172 (dk_at dksX0_clashes_3 14 rfl rfl)
abbrev cX0_clash : ByteArray := prog_1_method_24_code
def yX0_clash : MethodName := ⟨RX0, "clash", "(IIII)I"⟩
def dkwX0_clash_3 : List UInt8 := [182, 0, 124, 42, 29, 21, 4, 182, 0, 124, 182, 0, 128, 153, 0, 7, 4, 167, 0, 4, 3, 172]
abbrev dktX0_clash_3 : List UInt8 := dkwX0_clash_3 ++ []
def dkwX0_clash_2 : List UInt8 := [28, 182, 0, 118, 153, 0, 13, 42, 29, 21, 4, 182, 0, 118, 154, 0, 6, 16, 253, 172, 42, 27, 28]
abbrev dktX0_clash_2 : List UInt8 := dkwX0_clash_2 ++ dktX0_clash_3
def dkwX0_clash_1 : List UInt8 := [16, 7, 184, 0, 48, 153, 0, 14, 21, 4, 3, 16, 7, 184, 0, 48, 154, 0, 6, 16, 254, 172, 42, 27]
abbrev dktX0_clash_1 : List UInt8 := dkwX0_clash_1 ++ dktX0_clash_2
def dkwX0_clash_0 : List UInt8 := [42, 27, 182, 0, 151, 153, 0, 37, 42, 29, 182, 0, 151, 153, 0, 29, 27, 29, 159, 0, 24, 28, 3]
abbrev dktX0_clash_0 : List UInt8 := dkwX0_clash_0 ++ dktX0_clash_1
theorem dksX0_clash_0 : cX0_clash.data.toList.drop 0 = dktX0_clash_0 := by decide +kernel
theorem dksX0_clash_1 : cX0_clash.data.toList.drop 23 = dktX0_clash_1 := dk_seg dksX0_clash_0 23 rfl rfl
theorem dksX0_clash_2 : cX0_clash.data.toList.drop 47 = dktX0_clash_2 := dk_seg dksX0_clash_1 24 rfl rfl
theorem dksX0_clash_3 : cX0_clash.data.toList.drop 70 = dktX0_clash_3 := dk_seg dksX0_clash_2 23 rfl rfl
theorem dX0_clash_0 : decode cX0_clash 0 = .ok (.aload_n 0, 1) := dk_42 (dk_at dksX0_clash_0 0 rfl rfl)
theorem dX0_clash_1 : decode cX0_clash 1 = .ok (.iload_n 1, 1) := dk_27 (dk_at dksX0_clash_0 1 rfl rfl)
theorem dX0_clash_2 : decode cX0_clash 2 = .ok (.invokevirtual 151, 3) := dk_182 0 151 (dk_at dksX0_clash_0 2 rfl rfl)
theorem dX0_clash_5 : decode cX0_clash 5 = .ok (.ifCond .eq 37, 3) := dk_153 0 37 (dk_at dksX0_clash_0 5 rfl rfl)
theorem dX0_clash_8 : decode cX0_clash 8 = .ok (.aload_n 0, 1) := dk_42 (dk_at dksX0_clash_0 8 rfl rfl)
theorem dX0_clash_9 : decode cX0_clash 9 = .ok (.iload_n 3, 1) := dk_29 (dk_at dksX0_clash_0 9 rfl rfl)
theorem dX0_clash_10 : decode cX0_clash 10 = .ok (.invokevirtual 151, 3) := dk_182 0 151 (dk_at dksX0_clash_0 10 rfl rfl)
theorem dX0_clash_13 : decode cX0_clash 13 = .ok (.ifCond .eq 29, 3) := dk_153 0 29 (dk_at dksX0_clash_0 13 rfl rfl)
theorem dX0_clash_16 : decode cX0_clash 16 = .ok (.iload_n 1, 1) := dk_27 (dk_at dksX0_clash_0 16 rfl rfl)
theorem dX0_clash_17 : decode cX0_clash 17 = .ok (.iload_n 3, 1) := dk_29 (dk_at dksX0_clash_0 17 rfl rfl)
theorem dX0_clash_18 : decode cX0_clash 18 = .ok (.if_icmp .eq 24, 3) := dk_159 0 24 (dk_at dksX0_clash_0 18 rfl rfl)
theorem dX0_clash_21 : decode cX0_clash 21 = .ok (.iload_n 2, 1) := dk_28 (dk_at dksX0_clash_0 21 rfl rfl)
theorem dX0_clash_22 : decode cX0_clash 22 = .ok (.iconst 0, 1) := dk_3 (dk_at dksX0_clash_0 22 rfl rfl)
theorem dX0_clash_23 : decode cX0_clash 23 = .ok (.bipush 7, 2) := dk_16 7 (dk_at dksX0_clash_1 0 rfl rfl)
theorem dX0_clash_25 : decode cX0_clash 25 = .ok (.invokestatic 48, 3) := dk_184 0 48 (dk_at dksX0_clash_1 2 rfl rfl)
theorem dX0_clash_28 : decode cX0_clash 28 = .ok (.ifCond .eq 14, 3) := dk_153 0 14 (dk_at dksX0_clash_1 5 rfl rfl)
theorem dX0_clash_31 : decode cX0_clash 31 = .ok (.iload 4, 2) := dk_21 4 (dk_at dksX0_clash_1 8 rfl rfl)
theorem dX0_clash_33 : decode cX0_clash 33 = .ok (.iconst 0, 1) := dk_3 (dk_at dksX0_clash_1 10 rfl rfl)
theorem dX0_clash_34 : decode cX0_clash 34 = .ok (.bipush 7, 2) := dk_16 7 (dk_at dksX0_clash_1 11 rfl rfl)
theorem dX0_clash_36 : decode cX0_clash 36 = .ok (.invokestatic 48, 3) := dk_184 0 48 (dk_at dksX0_clash_1 13 rfl rfl)
theorem dX0_clash_39 : decode cX0_clash 39 = .ok (.ifCond .ne 6, 3) := dk_154 0 6 (dk_at dksX0_clash_1 16 rfl rfl)
theorem dX0_clash_42 : decode cX0_clash 42 = .ok (.bipush (-2), 2) := dk_16 254 (dk_at dksX0_clash_1 19 rfl rfl)
theorem dX0_clash_44 : decode cX0_clash 44 = .ok (.ireturn, 1) := dk_172 (dk_at dksX0_clash_1 21 rfl rfl)
theorem dX0_clash_45 : decode cX0_clash 45 = .ok (.aload_n 0, 1) := dk_42 (dk_at dksX0_clash_1 22 rfl rfl)
theorem dX0_clash_46 : decode cX0_clash 46 = .ok (.iload_n 1, 1) := dk_27 (dk_at dksX0_clash_1 23 rfl rfl)
theorem dX0_clash_47 : decode cX0_clash 47 = .ok (.iload_n 2, 1) := dk_28 (dk_at dksX0_clash_2 0 rfl rfl)
theorem dX0_clash_48 : decode cX0_clash 48 = .ok (.invokevirtual 118, 3) := dk_182 0 118 (dk_at dksX0_clash_2 1 rfl rfl)
theorem dX0_clash_51 : decode cX0_clash 51 = .ok (.ifCond .eq 13, 3) := dk_153 0 13 (dk_at dksX0_clash_2 4 rfl rfl)
theorem dX0_clash_54 : decode cX0_clash 54 = .ok (.aload_n 0, 1) := dk_42 (dk_at dksX0_clash_2 7 rfl rfl)
theorem dX0_clash_55 : decode cX0_clash 55 = .ok (.iload_n 3, 1) := dk_29 (dk_at dksX0_clash_2 8 rfl rfl)
theorem dX0_clash_56 : decode cX0_clash 56 = .ok (.iload 4, 2) := dk_21 4 (dk_at dksX0_clash_2 9 rfl rfl)
theorem dX0_clash_58 : decode cX0_clash 58 = .ok (.invokevirtual 118, 3) := dk_182 0 118 (dk_at dksX0_clash_2 11 rfl rfl)
theorem dX0_clash_61 : decode cX0_clash 61 = .ok (.ifCond .ne 6, 3) := dk_154 0 6 (dk_at dksX0_clash_2 14 rfl rfl)
theorem dX0_clash_64 : decode cX0_clash 64 = .ok (.bipush (-3), 2) := dk_16 253 (dk_at dksX0_clash_2 17 rfl rfl)
theorem dX0_clash_66 : decode cX0_clash 66 = .ok (.ireturn, 1) := dk_172 (dk_at dksX0_clash_2 19 rfl rfl)
theorem dX0_clash_67 : decode cX0_clash 67 = .ok (.aload_n 0, 1) := dk_42 (dk_at dksX0_clash_2 20 rfl rfl)
theorem dX0_clash_68 : decode cX0_clash 68 = .ok (.iload_n 1, 1) := dk_27 (dk_at dksX0_clash_2 21 rfl rfl)
theorem dX0_clash_69 : decode cX0_clash 69 = .ok (.iload_n 2, 1) := dk_28 (dk_at dksX0_clash_2 22 rfl rfl)
theorem dX0_clash_70 : decode cX0_clash 70 = .ok (.invokevirtual 124, 3) := dk_182 0 124 (dk_at dksX0_clash_3 0 rfl rfl)
theorem dX0_clash_73 : decode cX0_clash 73 = .ok (.aload_n 0, 1) := dk_42 (dk_at dksX0_clash_3 3 rfl rfl)
theorem dX0_clash_74 : decode cX0_clash 74 = .ok (.iload_n 3, 1) := dk_29 (dk_at dksX0_clash_3 4 rfl rfl)
theorem dX0_clash_75 : decode cX0_clash 75 = .ok (.iload 4, 2) := dk_21 4 (dk_at dksX0_clash_3 5 rfl rfl)
theorem dX0_clash_77 : decode cX0_clash 77 = .ok (.invokevirtual 124, 3) := dk_182 0 124 (dk_at dksX0_clash_3 7 rfl rfl)
theorem dX0_clash_80 : decode cX0_clash 80 = .ok (.invokevirtual 128, 3) := dk_182 0 128 (dk_at dksX0_clash_3 10 rfl rfl)
theorem dX0_clash_83 : decode cX0_clash 83 = .ok (.ifCond .eq 7, 3) := dk_153 0 7 (dk_at dksX0_clash_3 13 rfl rfl)
theorem dX0_clash_86 : decode cX0_clash 86 = .ok (.iconst 1, 1) := dk_4 (dk_at dksX0_clash_3 16 rfl rfl)
theorem dX0_clash_87 : decode cX0_clash 87 = .ok (.goto 4, 3) := dk_167 0 4 (dk_at dksX0_clash_3 17 rfl rfl)
theorem dX0_clash_90 : decode cX0_clash 90 = .ok (.iconst 0, 1) := dk_3 (dk_at dksX0_clash_3 20 rfl rfl)
theorem dX0_clash_91 : decode cX0_clash 91 = .ok (.ireturn, 1) := dk_172 (dk_at dksX0_clash_3 21 rfl rfl)
abbrev cX0_labelAt : ByteArray := prog_1_method_25_code
def yX0_labelAt : MethodName := ⟨RX0, "labelAt", "(II)I"⟩
def dkwX0_labelAt_3 : List UInt8 := [153, 0, 5, 29, 172, 132, 3, 1, 167, 255, 205, 2, 172]
abbrev dktX0_labelAt_3 : List UInt8 := dkwX0_labelAt_3 ++ []
def dkwX0_labelAt_2 : List UInt8 := [42, 180, 0, 10, 29, 182, 0, 52, 192, 0, 56, 180, 0, 112, 182, 0, 124, 27, 28, 182, 0, 65]
abbrev dktX0_labelAt_2 : List UInt8 := dkwX0_labelAt_2 ++ dktX0_labelAt_3
def dkwX0_labelAt_1 : List UInt8 := [172, 3, 62, 29, 42, 180, 0, 10, 182, 0, 44, 162, 0, 46, 42, 29, 182, 0, 115, 153, 0, 32, 42, 29]
abbrev dktX0_labelAt_1 : List UInt8 := dkwX0_labelAt_1 ++ dktX0_labelAt_2
def dkwX0_labelAt_0 : List UInt8 := [27, 3, 17, 0, 199, 184, 0, 48, 153, 0, 14, 28, 3, 17, 0, 199, 184, 0, 48, 154, 0, 6, 16, 254]
abbrev dktX0_labelAt_0 : List UInt8 := dkwX0_labelAt_0 ++ dktX0_labelAt_1
theorem dksX0_labelAt_0 : cX0_labelAt.data.toList.drop 0 = dktX0_labelAt_0 := by decide +kernel
theorem dksX0_labelAt_1 : cX0_labelAt.data.toList.drop 24 = dktX0_labelAt_1 := dk_seg dksX0_labelAt_0 24 rfl rfl
theorem dksX0_labelAt_2 : cX0_labelAt.data.toList.drop 48 = dktX0_labelAt_2 := dk_seg dksX0_labelAt_1 24 rfl rfl
theorem dksX0_labelAt_3 : cX0_labelAt.data.toList.drop 70 = dktX0_labelAt_3 := dk_seg dksX0_labelAt_2 22 rfl rfl
theorem dX0_labelAt_0 : decode cX0_labelAt 0 = .ok (.iload_n 1, 1) := dk_27 (dk_at dksX0_labelAt_0 0 rfl rfl)
theorem dX0_labelAt_1 : decode cX0_labelAt 1 = .ok (.iconst 0, 1) := dk_3 (dk_at dksX0_labelAt_0 1 rfl rfl)
theorem dX0_labelAt_2 : decode cX0_labelAt 2 = .ok (.sipush 199, 3) := dk_17 0 199 (dk_at dksX0_labelAt_0 2 rfl rfl)
theorem dX0_labelAt_5 : decode cX0_labelAt 5 = .ok (.invokestatic 48, 3) := dk_184 0 48 (dk_at dksX0_labelAt_0 5 rfl rfl)
theorem dX0_labelAt_8 : decode cX0_labelAt 8 = .ok (.ifCond .eq 14, 3) := dk_153 0 14 (dk_at dksX0_labelAt_0 8 rfl rfl)
theorem dX0_labelAt_11 : decode cX0_labelAt 11 = .ok (.iload_n 2, 1) := dk_28 (dk_at dksX0_labelAt_0 11 rfl rfl)
theorem dX0_labelAt_12 : decode cX0_labelAt 12 = .ok (.iconst 0, 1) := dk_3 (dk_at dksX0_labelAt_0 12 rfl rfl)
theorem dX0_labelAt_13 : decode cX0_labelAt 13 = .ok (.sipush 199, 3) := dk_17 0 199 (dk_at dksX0_labelAt_0 13 rfl rfl)
theorem dX0_labelAt_16 : decode cX0_labelAt 16 = .ok (.invokestatic 48, 3) := dk_184 0 48 (dk_at dksX0_labelAt_0 16 rfl rfl)
theorem dX0_labelAt_19 : decode cX0_labelAt 19 = .ok (.ifCond .ne 6, 3) := dk_154 0 6 (dk_at dksX0_labelAt_0 19 rfl rfl)
theorem dX0_labelAt_22 : decode cX0_labelAt 22 = .ok (.bipush (-2), 2) := dk_16 254 (dk_at dksX0_labelAt_0 22 rfl rfl)
theorem dX0_labelAt_24 : decode cX0_labelAt 24 = .ok (.ireturn, 1) := dk_172 (dk_at dksX0_labelAt_1 0 rfl rfl)
theorem dX0_labelAt_25 : decode cX0_labelAt 25 = .ok (.iconst 0, 1) := dk_3 (dk_at dksX0_labelAt_1 1 rfl rfl)
theorem dX0_labelAt_26 : decode cX0_labelAt 26 = .ok (.istore_n 3, 1) := dk_62 (dk_at dksX0_labelAt_1 2 rfl rfl)
theorem dX0_labelAt_27 : decode cX0_labelAt 27 = .ok (.iload_n 3, 1) := dk_29 (dk_at dksX0_labelAt_1 3 rfl rfl)
theorem dX0_labelAt_28 : decode cX0_labelAt 28 = .ok (.aload_n 0, 1) := dk_42 (dk_at dksX0_labelAt_1 4 rfl rfl)
theorem dX0_labelAt_29 : decode cX0_labelAt 29 = .ok (.getfield 10, 3) := dk_180 0 10 (dk_at dksX0_labelAt_1 5 rfl rfl)
theorem dX0_labelAt_32 : decode cX0_labelAt 32 = .ok (.invokevirtual 44, 3) := dk_182 0 44 (dk_at dksX0_labelAt_1 8 rfl rfl)
theorem dX0_labelAt_35 : decode cX0_labelAt 35 = .ok (.if_icmp .ge 46, 3) := dk_162 0 46 (dk_at dksX0_labelAt_1 11 rfl rfl)
theorem dX0_labelAt_38 : decode cX0_labelAt 38 = .ok (.aload_n 0, 1) := dk_42 (dk_at dksX0_labelAt_1 14 rfl rfl)
theorem dX0_labelAt_39 : decode cX0_labelAt 39 = .ok (.iload_n 3, 1) := dk_29 (dk_at dksX0_labelAt_1 15 rfl rfl)
theorem dX0_labelAt_40 : decode cX0_labelAt 40 = .ok (.invokevirtual 115, 3) := dk_182 0 115 (dk_at dksX0_labelAt_1 16 rfl rfl)
theorem dX0_labelAt_43 : decode cX0_labelAt 43 = .ok (.ifCond .eq 32, 3) := dk_153 0 32 (dk_at dksX0_labelAt_1 19 rfl rfl)
theorem dX0_labelAt_46 : decode cX0_labelAt 46 = .ok (.aload_n 0, 1) := dk_42 (dk_at dksX0_labelAt_1 22 rfl rfl)
theorem dX0_labelAt_47 : decode cX0_labelAt 47 = .ok (.iload_n 3, 1) := dk_29 (dk_at dksX0_labelAt_1 23 rfl rfl)
theorem dX0_labelAt_48 : decode cX0_labelAt 48 = .ok (.aload_n 0, 1) := dk_42 (dk_at dksX0_labelAt_2 0 rfl rfl)
theorem dX0_labelAt_49 : decode cX0_labelAt 49 = .ok (.getfield 10, 3) := dk_180 0 10 (dk_at dksX0_labelAt_2 1 rfl rfl)
theorem dX0_labelAt_52 : decode cX0_labelAt 52 = .ok (.iload_n 3, 1) := dk_29 (dk_at dksX0_labelAt_2 4 rfl rfl)
theorem dX0_labelAt_53 : decode cX0_labelAt 53 = .ok (.invokevirtual 52, 3) := dk_182 0 52 (dk_at dksX0_labelAt_2 5 rfl rfl)
theorem dX0_labelAt_56 : decode cX0_labelAt 56 = .ok (.checkcast 56, 3) := dk_192 0 56 (dk_at dksX0_labelAt_2 8 rfl rfl)
theorem dX0_labelAt_59 : decode cX0_labelAt 59 = .ok (.getfield 112, 3) := dk_180 0 112 (dk_at dksX0_labelAt_2 11 rfl rfl)
theorem dX0_labelAt_62 : decode cX0_labelAt 62 = .ok (.invokevirtual 124, 3) := dk_182 0 124 (dk_at dksX0_labelAt_2 14 rfl rfl)
theorem dX0_labelAt_65 : decode cX0_labelAt 65 = .ok (.iload_n 1, 1) := dk_27 (dk_at dksX0_labelAt_2 17 rfl rfl)
theorem dX0_labelAt_66 : decode cX0_labelAt 66 = .ok (.iload_n 2, 1) := dk_28 (dk_at dksX0_labelAt_2 18 rfl rfl)
theorem dX0_labelAt_67 : decode cX0_labelAt 67 = .ok (.invokevirtual 65, 3) := dk_182 0 65 (dk_at dksX0_labelAt_2 19 rfl rfl)
theorem dX0_labelAt_70 : decode cX0_labelAt 70 = .ok (.ifCond .eq 5, 3) := dk_153 0 5 (dk_at dksX0_labelAt_3 0 rfl rfl)
theorem dX0_labelAt_73 : decode cX0_labelAt 73 = .ok (.iload_n 3, 1) := dk_29 (dk_at dksX0_labelAt_3 3 rfl rfl)
theorem dX0_labelAt_74 : decode cX0_labelAt 74 = .ok (.ireturn, 1) := dk_172 (dk_at dksX0_labelAt_3 4 rfl rfl)
theorem dX0_labelAt_75 : decode cX0_labelAt 75 = .ok (.iinc 3 1, 3) := dk_132 3 1 (dk_at dksX0_labelAt_3 5 rfl rfl)
theorem dX0_labelAt_78 : decode cX0_labelAt 78 = .ok (.goto (-51), 3) := dk_167 255 205 (dk_at dksX0_labelAt_3 8 rfl rfl)
theorem dX0_labelAt_81 : decode cX0_labelAt 81 = .ok (.iconst (-1), 1) := dk_2 (dk_at dksX0_labelAt_3 11 rfl rfl)
theorem dX0_labelAt_82 : decode cX0_labelAt 82 = .ok (.ireturn, 1) := dk_172 (dk_at dksX0_labelAt_3 12 rfl rfl)
abbrev cX0_improve : ByteArray := prog_1_method_33_code
def yX0_improve : MethodName := ⟨RX0, "improve", "()I"⟩
def dkwX0_improve_0 : List UInt8 := [42, 42, 186, 0, 254, 0, 0, 182, 0, 245, 172]
abbrev dktX0_improve_0 : List UInt8 := dkwX0_improve_0 ++ []
theorem dksX0_improve_0 : cX0_improve.data.toList.drop 0 = dktX0_improve_0 := by decide +kernel
theorem dX0_improve_0 : decode cX0_improve 0 = .ok (.aload_n 0, 1) := dk_42 (dk_at dksX0_improve_0 0 rfl rfl)
theorem dX0_improve_1 : decode cX0_improve 1 = .ok (.aload_n 0, 1) := dk_42 (dk_at dksX0_improve_0 1 rfl rfl)
theorem dX0_improve_2 : decode cX0_improve 2 = .ok (.invokedynamic 254, 5) := by decide +kernel
theorem dX0_improve_7 : decode cX0_improve 7 = .ok (.invokevirtual 245, 3) := dk_182 0 245 (dk_at dksX0_improve_0 7 rfl rfl)
theorem dX0_improve_10 : decode cX0_improve 10 = .ok (.ireturn, 1) := dk_172 (dk_at dksX0_improve_0 10 rfl rfl)
abbrev cX0_makesRoom : ByteArray := prog_1_method_32_code
def yX0_makesRoom : MethodName := ⟨RX0, "makesRoom", "(IILLabelPlacer$Box;)Z"⟩
def dkwX0_makesRoom_3 : List UInt8 := [192, 0, 56, 28, 181, 0, 112, 21, 5, 172]
abbrev dktX0_makesRoom_3 : List UInt8 := dkwX0_makesRoom_3 ++ []
def dkwX0_makesRoom_2 : List UInt8 := [153, 0, 7, 4, 167, 0, 4, 3, 54, 5, 21, 5, 153, 0, 18, 42, 180, 0, 10, 27, 182, 0, 52]
abbrev dktX0_makesRoom_2 : List UInt8 := dkwX0_makesRoom_2 ++ dktX0_makesRoom_3
def dkwX0_makesRoom_1 : List UInt8 := [160, 0, 31, 42, 25, 4, 182, 0, 249, 185, 0, 207, 1, 0, 192, 0, 132, 182, 0, 222, 45, 182, 0, 250]
abbrev dktX0_makesRoom_1 : List UInt8 := dkwX0_makesRoom_1 ++ dktX0_makesRoom_2
def dkwX0_makesRoom_0 : List UInt8 := [42, 45, 27, 182, 0, 161, 58, 4, 25, 4, 182, 0, 165, 154, 0, 36, 25, 4, 182, 0, 218, 4]
abbrev dktX0_makesRoom_0 : List UInt8 := dkwX0_makesRoom_0 ++ dktX0_makesRoom_1
theorem dksX0_makesRoom_0 : cX0_makesRoom.data.toList.drop 0 = dktX0_makesRoom_0 := by decide +kernel
theorem dksX0_makesRoom_1 : cX0_makesRoom.data.toList.drop 22 = dktX0_makesRoom_1 := dk_seg dksX0_makesRoom_0 22 rfl rfl
theorem dksX0_makesRoom_2 : cX0_makesRoom.data.toList.drop 46 = dktX0_makesRoom_2 := dk_seg dksX0_makesRoom_1 24 rfl rfl
theorem dksX0_makesRoom_3 : cX0_makesRoom.data.toList.drop 69 = dktX0_makesRoom_3 := dk_seg dksX0_makesRoom_2 23 rfl rfl
theorem dX0_makesRoom_0 : decode cX0_makesRoom 0 = .ok (.aload_n 0, 1) := dk_42 (dk_at dksX0_makesRoom_0 0 rfl rfl)
theorem dX0_makesRoom_1 : decode cX0_makesRoom 1 = .ok (.aload_n 3, 1) := dk_45 (dk_at dksX0_makesRoom_0 1 rfl rfl)
theorem dX0_makesRoom_2 : decode cX0_makesRoom 2 = .ok (.iload_n 1, 1) := dk_27 (dk_at dksX0_makesRoom_0 2 rfl rfl)
theorem dX0_makesRoom_3 : decode cX0_makesRoom 3 = .ok (.invokevirtual 161, 3) := dk_182 0 161 (dk_at dksX0_makesRoom_0 3 rfl rfl)
theorem dX0_makesRoom_6 : decode cX0_makesRoom 6 = .ok (.astore 4, 2) := dk_58 4 (dk_at dksX0_makesRoom_0 6 rfl rfl)
theorem dX0_makesRoom_8 : decode cX0_makesRoom 8 = .ok (.aload 4, 2) := dk_25 4 (dk_at dksX0_makesRoom_0 8 rfl rfl)
theorem dX0_makesRoom_10 : decode cX0_makesRoom 10 = .ok (.invokevirtual 165, 3) := dk_182 0 165 (dk_at dksX0_makesRoom_0 10 rfl rfl)
theorem dX0_makesRoom_13 : decode cX0_makesRoom 13 = .ok (.ifCond .ne 36, 3) := dk_154 0 36 (dk_at dksX0_makesRoom_0 13 rfl rfl)
theorem dX0_makesRoom_16 : decode cX0_makesRoom 16 = .ok (.aload 4, 2) := dk_25 4 (dk_at dksX0_makesRoom_0 16 rfl rfl)
theorem dX0_makesRoom_18 : decode cX0_makesRoom 18 = .ok (.invokevirtual 218, 3) := dk_182 0 218 (dk_at dksX0_makesRoom_0 18 rfl rfl)
theorem dX0_makesRoom_21 : decode cX0_makesRoom 21 = .ok (.iconst 1, 1) := dk_4 (dk_at dksX0_makesRoom_0 21 rfl rfl)
theorem dX0_makesRoom_22 : decode cX0_makesRoom 22 = .ok (.if_icmp .ne 31, 3) := dk_160 0 31 (dk_at dksX0_makesRoom_1 0 rfl rfl)
theorem dX0_makesRoom_25 : decode cX0_makesRoom 25 = .ok (.aload_n 0, 1) := dk_42 (dk_at dksX0_makesRoom_1 3 rfl rfl)
theorem dX0_makesRoom_26 : decode cX0_makesRoom 26 = .ok (.aload 4, 2) := dk_25 4 (dk_at dksX0_makesRoom_1 4 rfl rfl)
theorem dX0_makesRoom_28 : decode cX0_makesRoom 28 = .ok (.invokevirtual 249, 3) := dk_182 0 249 (dk_at dksX0_makesRoom_1 6 rfl rfl)
theorem dX0_makesRoom_31 : decode cX0_makesRoom 31 = .ok (.invokeinterface 207 1, 5) := by decide +kernel
theorem dX0_makesRoom_36 : decode cX0_makesRoom 36 = .ok (.checkcast 132, 3) := dk_192 0 132 (dk_at dksX0_makesRoom_1 14 rfl rfl)
theorem dX0_makesRoom_39 : decode cX0_makesRoom 39 = .ok (.invokevirtual 222, 3) := dk_182 0 222 (dk_at dksX0_makesRoom_1 17 rfl rfl)
theorem dX0_makesRoom_42 : decode cX0_makesRoom 42 = .ok (.aload_n 3, 1) := dk_45 (dk_at dksX0_makesRoom_1 20 rfl rfl)
theorem dX0_makesRoom_43 : decode cX0_makesRoom 43 = .ok (.invokevirtual 250, 3) := dk_182 0 250 (dk_at dksX0_makesRoom_1 21 rfl rfl)
theorem dX0_makesRoom_46 : decode cX0_makesRoom 46 = .ok (.ifCond .eq 7, 3) := dk_153 0 7 (dk_at dksX0_makesRoom_2 0 rfl rfl)
theorem dX0_makesRoom_49 : decode cX0_makesRoom 49 = .ok (.iconst 1, 1) := dk_4 (dk_at dksX0_makesRoom_2 3 rfl rfl)
theorem dX0_makesRoom_50 : decode cX0_makesRoom 50 = .ok (.goto 4, 3) := dk_167 0 4 (dk_at dksX0_makesRoom_2 4 rfl rfl)
theorem dX0_makesRoom_53 : decode cX0_makesRoom 53 = .ok (.iconst 0, 1) := dk_3 (dk_at dksX0_makesRoom_2 7 rfl rfl)
theorem dX0_makesRoom_54 : decode cX0_makesRoom 54 = .ok (.istore 5, 2) := dk_54 5 (dk_at dksX0_makesRoom_2 8 rfl rfl)
theorem dX0_makesRoom_56 : decode cX0_makesRoom 56 = .ok (.iload 5, 2) := dk_21 5 (dk_at dksX0_makesRoom_2 10 rfl rfl)
theorem dX0_makesRoom_58 : decode cX0_makesRoom 58 = .ok (.ifCond .eq 18, 3) := dk_153 0 18 (dk_at dksX0_makesRoom_2 12 rfl rfl)
theorem dX0_makesRoom_61 : decode cX0_makesRoom 61 = .ok (.aload_n 0, 1) := dk_42 (dk_at dksX0_makesRoom_2 15 rfl rfl)
theorem dX0_makesRoom_62 : decode cX0_makesRoom 62 = .ok (.getfield 10, 3) := dk_180 0 10 (dk_at dksX0_makesRoom_2 16 rfl rfl)
theorem dX0_makesRoom_65 : decode cX0_makesRoom 65 = .ok (.iload_n 1, 1) := dk_27 (dk_at dksX0_makesRoom_2 19 rfl rfl)
theorem dX0_makesRoom_66 : decode cX0_makesRoom 66 = .ok (.invokevirtual 52, 3) := dk_182 0 52 (dk_at dksX0_makesRoom_2 20 rfl rfl)
theorem dX0_makesRoom_69 : decode cX0_makesRoom 69 = .ok (.checkcast 56, 3) := dk_192 0 56 (dk_at dksX0_makesRoom_3 0 rfl rfl)
theorem dX0_makesRoom_72 : decode cX0_makesRoom 72 = .ok (.iload_n 2, 1) := dk_28 (dk_at dksX0_makesRoom_3 3 rfl rfl)
theorem dX0_makesRoom_73 : decode cX0_makesRoom 73 = .ok (.putfield 112, 3) := dk_181 0 112 (dk_at dksX0_makesRoom_3 4 rfl rfl)
theorem dX0_makesRoom_76 : decode cX0_makesRoom 76 = .ok (.iload 5, 2) := dk_21 5 (dk_at dksX0_makesRoom_3 7 rfl rfl)
theorem dX0_makesRoom_78 : decode cX0_makesRoom 78 = .ok (.ireturn, 1) := dk_172 (dk_at dksX0_makesRoom_3 9 rfl rfl)
abbrev cX0_moves : ByteArray := prog_1_method_31_code
def yX0_moves : MethodName := ⟨RX0, "moves", "(ILLabelPlacer$Box;)Z"⟩
def dkwX0_moves_2 : List UInt8 := [180, 0, 10, 27, 182, 0, 52, 192, 0, 56, 29, 181, 0, 112, 4, 172, 132, 3, 1, 167, 255, 191, 3, 172]
abbrev dktX0_moves_2 : List UInt8 := dkwX0_moves_2 ++ []
def dkwX0_moves_1 : List UInt8 := [182, 0, 128, 154, 0, 37, 42, 42, 27, 29, 182, 0, 124, 27, 182, 0, 161, 182, 0, 165, 153, 0, 20, 42]
abbrev dktX0_moves_1 : List UInt8 := dkwX0_moves_1 ++ dktX0_moves_2
def dkwX0_moves_0 : List UInt8 := [3, 62, 29, 16, 8, 162, 0, 65, 42, 27, 29, 182, 0, 118, 153, 0, 50, 42, 27, 29, 182, 0, 124, 44]
abbrev dktX0_moves_0 : List UInt8 := dkwX0_moves_0 ++ dktX0_moves_1
theorem dksX0_moves_0 : cX0_moves.data.toList.drop 0 = dktX0_moves_0 := by decide +kernel
theorem dksX0_moves_1 : cX0_moves.data.toList.drop 24 = dktX0_moves_1 := dk_seg dksX0_moves_0 24 rfl rfl
theorem dksX0_moves_2 : cX0_moves.data.toList.drop 48 = dktX0_moves_2 := dk_seg dksX0_moves_1 24 rfl rfl
theorem dX0_moves_0 : decode cX0_moves 0 = .ok (.iconst 0, 1) := dk_3 (dk_at dksX0_moves_0 0 rfl rfl)
theorem dX0_moves_1 : decode cX0_moves 1 = .ok (.istore_n 3, 1) := dk_62 (dk_at dksX0_moves_0 1 rfl rfl)
theorem dX0_moves_2 : decode cX0_moves 2 = .ok (.iload_n 3, 1) := dk_29 (dk_at dksX0_moves_0 2 rfl rfl)
theorem dX0_moves_3 : decode cX0_moves 3 = .ok (.bipush 8, 2) := dk_16 8 (dk_at dksX0_moves_0 3 rfl rfl)
theorem dX0_moves_5 : decode cX0_moves 5 = .ok (.if_icmp .ge 65, 3) := dk_162 0 65 (dk_at dksX0_moves_0 5 rfl rfl)
theorem dX0_moves_8 : decode cX0_moves 8 = .ok (.aload_n 0, 1) := dk_42 (dk_at dksX0_moves_0 8 rfl rfl)
theorem dX0_moves_9 : decode cX0_moves 9 = .ok (.iload_n 1, 1) := dk_27 (dk_at dksX0_moves_0 9 rfl rfl)
theorem dX0_moves_10 : decode cX0_moves 10 = .ok (.iload_n 3, 1) := dk_29 (dk_at dksX0_moves_0 10 rfl rfl)
theorem dX0_moves_11 : decode cX0_moves 11 = .ok (.invokevirtual 118, 3) := dk_182 0 118 (dk_at dksX0_moves_0 11 rfl rfl)
theorem dX0_moves_14 : decode cX0_moves 14 = .ok (.ifCond .eq 50, 3) := dk_153 0 50 (dk_at dksX0_moves_0 14 rfl rfl)
theorem dX0_moves_17 : decode cX0_moves 17 = .ok (.aload_n 0, 1) := dk_42 (dk_at dksX0_moves_0 17 rfl rfl)
theorem dX0_moves_18 : decode cX0_moves 18 = .ok (.iload_n 1, 1) := dk_27 (dk_at dksX0_moves_0 18 rfl rfl)
theorem dX0_moves_19 : decode cX0_moves 19 = .ok (.iload_n 3, 1) := dk_29 (dk_at dksX0_moves_0 19 rfl rfl)
theorem dX0_moves_20 : decode cX0_moves 20 = .ok (.invokevirtual 124, 3) := dk_182 0 124 (dk_at dksX0_moves_0 20 rfl rfl)
theorem dX0_moves_23 : decode cX0_moves 23 = .ok (.aload_n 2, 1) := dk_44 (dk_at dksX0_moves_0 23 rfl rfl)
theorem dX0_moves_24 : decode cX0_moves 24 = .ok (.invokevirtual 128, 3) := dk_182 0 128 (dk_at dksX0_moves_1 0 rfl rfl)
theorem dX0_moves_27 : decode cX0_moves 27 = .ok (.ifCond .ne 37, 3) := dk_154 0 37 (dk_at dksX0_moves_1 3 rfl rfl)
theorem dX0_moves_30 : decode cX0_moves 30 = .ok (.aload_n 0, 1) := dk_42 (dk_at dksX0_moves_1 6 rfl rfl)
theorem dX0_moves_31 : decode cX0_moves 31 = .ok (.aload_n 0, 1) := dk_42 (dk_at dksX0_moves_1 7 rfl rfl)
theorem dX0_moves_32 : decode cX0_moves 32 = .ok (.iload_n 1, 1) := dk_27 (dk_at dksX0_moves_1 8 rfl rfl)
theorem dX0_moves_33 : decode cX0_moves 33 = .ok (.iload_n 3, 1) := dk_29 (dk_at dksX0_moves_1 9 rfl rfl)
theorem dX0_moves_34 : decode cX0_moves 34 = .ok (.invokevirtual 124, 3) := dk_182 0 124 (dk_at dksX0_moves_1 10 rfl rfl)
theorem dX0_moves_37 : decode cX0_moves 37 = .ok (.iload_n 1, 1) := dk_27 (dk_at dksX0_moves_1 13 rfl rfl)
theorem dX0_moves_38 : decode cX0_moves 38 = .ok (.invokevirtual 161, 3) := dk_182 0 161 (dk_at dksX0_moves_1 14 rfl rfl)
theorem dX0_moves_41 : decode cX0_moves 41 = .ok (.invokevirtual 165, 3) := dk_182 0 165 (dk_at dksX0_moves_1 17 rfl rfl)
theorem dX0_moves_44 : decode cX0_moves 44 = .ok (.ifCond .eq 20, 3) := dk_153 0 20 (dk_at dksX0_moves_1 20 rfl rfl)
theorem dX0_moves_47 : decode cX0_moves 47 = .ok (.aload_n 0, 1) := dk_42 (dk_at dksX0_moves_1 23 rfl rfl)
theorem dX0_moves_48 : decode cX0_moves 48 = .ok (.getfield 10, 3) := dk_180 0 10 (dk_at dksX0_moves_2 0 rfl rfl)
theorem dX0_moves_51 : decode cX0_moves 51 = .ok (.iload_n 1, 1) := dk_27 (dk_at dksX0_moves_2 3 rfl rfl)
theorem dX0_moves_52 : decode cX0_moves 52 = .ok (.invokevirtual 52, 3) := dk_182 0 52 (dk_at dksX0_moves_2 4 rfl rfl)
theorem dX0_moves_55 : decode cX0_moves 55 = .ok (.checkcast 56, 3) := dk_192 0 56 (dk_at dksX0_moves_2 7 rfl rfl)
theorem dX0_moves_58 : decode cX0_moves 58 = .ok (.iload_n 3, 1) := dk_29 (dk_at dksX0_moves_2 10 rfl rfl)
theorem dX0_moves_59 : decode cX0_moves 59 = .ok (.putfield 112, 3) := dk_181 0 112 (dk_at dksX0_moves_2 11 rfl rfl)
theorem dX0_moves_62 : decode cX0_moves 62 = .ok (.iconst 1, 1) := dk_4 (dk_at dksX0_moves_2 14 rfl rfl)
theorem dX0_moves_63 : decode cX0_moves 63 = .ok (.ireturn, 1) := dk_172 (dk_at dksX0_moves_2 15 rfl rfl)
theorem dX0_moves_64 : decode cX0_moves 64 = .ok (.iinc 3 1, 3) := dk_132 3 1 (dk_at dksX0_moves_2 16 rfl rfl)
theorem dX0_moves_67 : decode cX0_moves 67 = .ok (.goto (-65), 3) := dk_167 255 191 (dk_at dksX0_moves_2 19 rfl rfl)
theorem dX0_moves_70 : decode cX0_moves 70 = .ok (.iconst 0, 1) := dk_3 (dk_at dksX0_moves_2 22 rfl rfl)
theorem dX0_moves_71 : decode cX0_moves 71 = .ok (.ireturn, 1) := dk_172 (dk_at dksX0_moves_2 23 rfl rfl)
abbrev cX0_push : ByteArray := prog_1_method_37_code
def yX0_push : MethodName := ⟨RX0, "push", "()I"⟩
def dkwX0_push_0 : List UInt8 := [3, 60, 42, 182, 1, 5, 153, 0, 9, 132, 1, 1, 167, 255, 246, 27, 172]
abbrev dktX0_push_0 : List UInt8 := dkwX0_push_0 ++ []
theorem dksX0_push_0 : cX0_push.data.toList.drop 0 = dktX0_push_0 := by decide +kernel
theorem dX0_push_0 : decode cX0_push 0 = .ok (.iconst 0, 1) := dk_3 (dk_at dksX0_push_0 0 rfl rfl)
theorem dX0_push_1 : decode cX0_push 1 = .ok (.istore_n 1, 1) := dk_60 (dk_at dksX0_push_0 1 rfl rfl)
theorem dX0_push_2 : decode cX0_push 2 = .ok (.aload_n 0, 1) := dk_42 (dk_at dksX0_push_0 2 rfl rfl)
theorem dX0_push_3 : decode cX0_push 3 = .ok (.invokevirtual 261, 3) := dk_182 1 5 (dk_at dksX0_push_0 3 rfl rfl)
theorem dX0_push_6 : decode cX0_push 6 = .ok (.ifCond .eq 9, 3) := dk_153 0 9 (dk_at dksX0_push_0 6 rfl rfl)
theorem dX0_push_9 : decode cX0_push 9 = .ok (.iinc 1 1, 3) := dk_132 1 1 (dk_at dksX0_push_0 9 rfl rfl)
theorem dX0_push_12 : decode cX0_push 12 = .ok (.goto (-10), 3) := dk_167 255 246 (dk_at dksX0_push_0 12 rfl rfl)
theorem dX0_push_15 : decode cX0_push 15 = .ok (.iload_n 1, 1) := dk_27 (dk_at dksX0_push_0 15 rfl rfl)
theorem dX0_push_16 : decode cX0_push 16 = .ok (.ireturn, 1) := dk_172 (dk_at dksX0_push_0 16 rfl rfl)
abbrev cX0_pushFirst : ByteArray := prog_1_method_36_code
def yX0_pushFirst : MethodName := ⟨RX0, "pushFirst", "()Z"⟩
def dkwX0_pushFirst_3 : List UInt8 := [172, 132, 3, 1, 167, 255, 213, 167, 255, 186, 3, 172]
abbrev dktX0_pushFirst_3 : List UInt8 := dkwX0_pushFirst_3 ++ []
def dkwX0_pushFirst_2 : List UInt8 := [28, 29, 182, 0, 118, 153, 0, 20, 42, 28, 29, 42, 28, 29, 182, 0, 124, 182, 1, 2, 153, 0, 5, 4]
abbrev dktX0_pushFirst_2 : List UInt8 := dkwX0_pushFirst_2 ++ dktX0_pushFirst_3
def dkwX0_pushFirst_1 : List UInt8 := [192, 0, 132, 182, 0, 222, 61, 3, 62, 29, 16, 8, 162, 0, 43, 42, 28, 182, 0, 115, 154, 0, 35, 42]
abbrev dktX0_pushFirst_1 : List UInt8 := dkwX0_pushFirst_1 ++ dktX0_pushFirst_2
def dkwX0_pushFirst_0 : List UInt8 := [42, 182, 0, 231, 182, 0, 235, 76, 43, 185, 0, 202, 1, 0, 153, 0, 67, 43, 185, 0, 207, 1, 0]
abbrev dktX0_pushFirst_0 : List UInt8 := dkwX0_pushFirst_0 ++ dktX0_pushFirst_1
theorem dksX0_pushFirst_0 : cX0_pushFirst.data.toList.drop 0 = dktX0_pushFirst_0 := by decide +kernel
theorem dksX0_pushFirst_1 : cX0_pushFirst.data.toList.drop 23 = dktX0_pushFirst_1 := dk_seg dksX0_pushFirst_0 23 rfl rfl
theorem dksX0_pushFirst_2 : cX0_pushFirst.data.toList.drop 47 = dktX0_pushFirst_2 := dk_seg dksX0_pushFirst_1 24 rfl rfl
theorem dksX0_pushFirst_3 : cX0_pushFirst.data.toList.drop 71 = dktX0_pushFirst_3 := dk_seg dksX0_pushFirst_2 24 rfl rfl
theorem dX0_pushFirst_0 : decode cX0_pushFirst 0 = .ok (.aload_n 0, 1) := dk_42 (dk_at dksX0_pushFirst_0 0 rfl rfl)
theorem dX0_pushFirst_1 : decode cX0_pushFirst 1 = .ok (.invokevirtual 231, 3) := dk_182 0 231 (dk_at dksX0_pushFirst_0 1 rfl rfl)
theorem dX0_pushFirst_4 : decode cX0_pushFirst 4 = .ok (.invokevirtual 235, 3) := dk_182 0 235 (dk_at dksX0_pushFirst_0 4 rfl rfl)
theorem dX0_pushFirst_7 : decode cX0_pushFirst 7 = .ok (.astore_n 1, 1) := dk_76 (dk_at dksX0_pushFirst_0 7 rfl rfl)
theorem dX0_pushFirst_8 : decode cX0_pushFirst 8 = .ok (.aload_n 1, 1) := dk_43 (dk_at dksX0_pushFirst_0 8 rfl rfl)
theorem dX0_pushFirst_9 : decode cX0_pushFirst 9 = .ok (.invokeinterface 202 1, 5) := by decide +kernel
theorem dX0_pushFirst_14 : decode cX0_pushFirst 14 = .ok (.ifCond .eq 67, 3) := dk_153 0 67 (dk_at dksX0_pushFirst_0 14 rfl rfl)
theorem dX0_pushFirst_17 : decode cX0_pushFirst 17 = .ok (.aload_n 1, 1) := dk_43 (dk_at dksX0_pushFirst_0 17 rfl rfl)
theorem dX0_pushFirst_18 : decode cX0_pushFirst 18 = .ok (.invokeinterface 207 1, 5) := by decide +kernel
theorem dX0_pushFirst_23 : decode cX0_pushFirst 23 = .ok (.checkcast 132, 3) := dk_192 0 132 (dk_at dksX0_pushFirst_1 0 rfl rfl)
theorem dX0_pushFirst_26 : decode cX0_pushFirst 26 = .ok (.invokevirtual 222, 3) := dk_182 0 222 (dk_at dksX0_pushFirst_1 3 rfl rfl)
theorem dX0_pushFirst_29 : decode cX0_pushFirst 29 = .ok (.istore_n 2, 1) := dk_61 (dk_at dksX0_pushFirst_1 6 rfl rfl)
theorem dX0_pushFirst_30 : decode cX0_pushFirst 30 = .ok (.iconst 0, 1) := dk_3 (dk_at dksX0_pushFirst_1 7 rfl rfl)
theorem dX0_pushFirst_31 : decode cX0_pushFirst 31 = .ok (.istore_n 3, 1) := dk_62 (dk_at dksX0_pushFirst_1 8 rfl rfl)
theorem dX0_pushFirst_32 : decode cX0_pushFirst 32 = .ok (.iload_n 3, 1) := dk_29 (dk_at dksX0_pushFirst_1 9 rfl rfl)
theorem dX0_pushFirst_33 : decode cX0_pushFirst 33 = .ok (.bipush 8, 2) := dk_16 8 (dk_at dksX0_pushFirst_1 10 rfl rfl)
theorem dX0_pushFirst_35 : decode cX0_pushFirst 35 = .ok (.if_icmp .ge 43, 3) := dk_162 0 43 (dk_at dksX0_pushFirst_1 12 rfl rfl)
theorem dX0_pushFirst_38 : decode cX0_pushFirst 38 = .ok (.aload_n 0, 1) := dk_42 (dk_at dksX0_pushFirst_1 15 rfl rfl)
theorem dX0_pushFirst_39 : decode cX0_pushFirst 39 = .ok (.iload_n 2, 1) := dk_28 (dk_at dksX0_pushFirst_1 16 rfl rfl)
theorem dX0_pushFirst_40 : decode cX0_pushFirst 40 = .ok (.invokevirtual 115, 3) := dk_182 0 115 (dk_at dksX0_pushFirst_1 17 rfl rfl)
theorem dX0_pushFirst_43 : decode cX0_pushFirst 43 = .ok (.ifCond .ne 35, 3) := dk_154 0 35 (dk_at dksX0_pushFirst_1 20 rfl rfl)
theorem dX0_pushFirst_46 : decode cX0_pushFirst 46 = .ok (.aload_n 0, 1) := dk_42 (dk_at dksX0_pushFirst_1 23 rfl rfl)
theorem dX0_pushFirst_47 : decode cX0_pushFirst 47 = .ok (.iload_n 2, 1) := dk_28 (dk_at dksX0_pushFirst_2 0 rfl rfl)
theorem dX0_pushFirst_48 : decode cX0_pushFirst 48 = .ok (.iload_n 3, 1) := dk_29 (dk_at dksX0_pushFirst_2 1 rfl rfl)
theorem dX0_pushFirst_49 : decode cX0_pushFirst 49 = .ok (.invokevirtual 118, 3) := dk_182 0 118 (dk_at dksX0_pushFirst_2 2 rfl rfl)
theorem dX0_pushFirst_52 : decode cX0_pushFirst 52 = .ok (.ifCond .eq 20, 3) := dk_153 0 20 (dk_at dksX0_pushFirst_2 5 rfl rfl)
theorem dX0_pushFirst_55 : decode cX0_pushFirst 55 = .ok (.aload_n 0, 1) := dk_42 (dk_at dksX0_pushFirst_2 8 rfl rfl)
theorem dX0_pushFirst_56 : decode cX0_pushFirst 56 = .ok (.iload_n 2, 1) := dk_28 (dk_at dksX0_pushFirst_2 9 rfl rfl)
theorem dX0_pushFirst_57 : decode cX0_pushFirst 57 = .ok (.iload_n 3, 1) := dk_29 (dk_at dksX0_pushFirst_2 10 rfl rfl)
theorem dX0_pushFirst_58 : decode cX0_pushFirst 58 = .ok (.aload_n 0, 1) := dk_42 (dk_at dksX0_pushFirst_2 11 rfl rfl)
theorem dX0_pushFirst_59 : decode cX0_pushFirst 59 = .ok (.iload_n 2, 1) := dk_28 (dk_at dksX0_pushFirst_2 12 rfl rfl)
theorem dX0_pushFirst_60 : decode cX0_pushFirst 60 = .ok (.iload_n 3, 1) := dk_29 (dk_at dksX0_pushFirst_2 13 rfl rfl)
theorem dX0_pushFirst_61 : decode cX0_pushFirst 61 = .ok (.invokevirtual 124, 3) := dk_182 0 124 (dk_at dksX0_pushFirst_2 14 rfl rfl)
theorem dX0_pushFirst_64 : decode cX0_pushFirst 64 = .ok (.invokevirtual 258, 3) := dk_182 1 2 (dk_at dksX0_pushFirst_2 17 rfl rfl)
theorem dX0_pushFirst_67 : decode cX0_pushFirst 67 = .ok (.ifCond .eq 5, 3) := dk_153 0 5 (dk_at dksX0_pushFirst_2 20 rfl rfl)
theorem dX0_pushFirst_70 : decode cX0_pushFirst 70 = .ok (.iconst 1, 1) := dk_4 (dk_at dksX0_pushFirst_2 23 rfl rfl)
theorem dX0_pushFirst_71 : decode cX0_pushFirst 71 = .ok (.ireturn, 1) := dk_172 (dk_at dksX0_pushFirst_3 0 rfl rfl)
theorem dX0_pushFirst_72 : decode cX0_pushFirst 72 = .ok (.iinc 3 1, 3) := dk_132 3 1 (dk_at dksX0_pushFirst_3 1 rfl rfl)
theorem dX0_pushFirst_75 : decode cX0_pushFirst 75 = .ok (.goto (-43), 3) := dk_167 255 213 (dk_at dksX0_pushFirst_3 4 rfl rfl)
theorem dX0_pushFirst_78 : decode cX0_pushFirst 78 = .ok (.goto (-70), 3) := dk_167 255 186 (dk_at dksX0_pushFirst_3 7 rfl rfl)
theorem dX0_pushFirst_81 : decode cX0_pushFirst 81 = .ok (.iconst 0, 1) := dk_3 (dk_at dksX0_pushFirst_3 10 rfl rfl)
theorem dX0_pushFirst_82 : decode cX0_pushFirst 82 = .ok (.ireturn, 1) := dk_172 (dk_at dksX0_pushFirst_3 11 rfl rfl)
abbrev cX0_pushes : ByteArray := prog_1_method_35_code
def yX0_pushes : MethodName := ⟨RX0, "pushes", "(IILLabelPlacer$Box;)Z"⟩
def dkwX0_pushes_3 : List UInt8 := [182, 0, 52, 192, 0, 56, 28, 181, 0, 112, 4, 172]
abbrev dktX0_pushes_3 : List UInt8 := dkwX0_pushes_3 ++ []
def dkwX0_pushes_2 : List UInt8 := [180, 0, 10, 21, 5, 182, 0, 52, 192, 0, 56, 2, 181, 0, 112, 167, 255, 215, 42, 180, 0, 10, 27]
abbrev dktX0_pushes_2 : List UInt8 := dkwX0_pushes_2 ++ dktX0_pushes_3
def dkwX0_pushes_1 : List UInt8 := [185, 0, 202, 1, 0, 153, 0, 37, 25, 4, 185, 0, 207, 1, 0, 192, 0, 132, 182, 0, 222, 54, 5, 42]
abbrev dktX0_pushes_1 : List UInt8 := dkwX0_pushes_1 ++ dktX0_pushes_2
def dkwX0_pushes_0 : List UInt8 := [42, 27, 45, 182, 0, 255, 154, 0, 5, 3, 172, 42, 45, 27, 182, 0, 161, 182, 0, 249, 58, 4, 25, 4]
abbrev dktX0_pushes_0 : List UInt8 := dkwX0_pushes_0 ++ dktX0_pushes_1
theorem dksX0_pushes_0 : cX0_pushes.data.toList.drop 0 = dktX0_pushes_0 := by decide +kernel
theorem dksX0_pushes_1 : cX0_pushes.data.toList.drop 24 = dktX0_pushes_1 := dk_seg dksX0_pushes_0 24 rfl rfl
theorem dksX0_pushes_2 : cX0_pushes.data.toList.drop 48 = dktX0_pushes_2 := dk_seg dksX0_pushes_1 24 rfl rfl
theorem dksX0_pushes_3 : cX0_pushes.data.toList.drop 71 = dktX0_pushes_3 := dk_seg dksX0_pushes_2 23 rfl rfl
theorem dX0_pushes_0 : decode cX0_pushes 0 = .ok (.aload_n 0, 1) := dk_42 (dk_at dksX0_pushes_0 0 rfl rfl)
theorem dX0_pushes_1 : decode cX0_pushes 1 = .ok (.iload_n 1, 1) := dk_27 (dk_at dksX0_pushes_0 1 rfl rfl)
theorem dX0_pushes_2 : decode cX0_pushes 2 = .ok (.aload_n 3, 1) := dk_45 (dk_at dksX0_pushes_0 2 rfl rfl)
theorem dX0_pushes_3 : decode cX0_pushes 3 = .ok (.invokevirtual 255, 3) := dk_182 0 255 (dk_at dksX0_pushes_0 3 rfl rfl)
theorem dX0_pushes_6 : decode cX0_pushes 6 = .ok (.ifCond .ne 5, 3) := dk_154 0 5 (dk_at dksX0_pushes_0 6 rfl rfl)
theorem dX0_pushes_9 : decode cX0_pushes 9 = .ok (.iconst 0, 1) := dk_3 (dk_at dksX0_pushes_0 9 rfl rfl)
theorem dX0_pushes_10 : decode cX0_pushes 10 = .ok (.ireturn, 1) := dk_172 (dk_at dksX0_pushes_0 10 rfl rfl)
theorem dX0_pushes_11 : decode cX0_pushes 11 = .ok (.aload_n 0, 1) := dk_42 (dk_at dksX0_pushes_0 11 rfl rfl)
theorem dX0_pushes_12 : decode cX0_pushes 12 = .ok (.aload_n 3, 1) := dk_45 (dk_at dksX0_pushes_0 12 rfl rfl)
theorem dX0_pushes_13 : decode cX0_pushes 13 = .ok (.iload_n 1, 1) := dk_27 (dk_at dksX0_pushes_0 13 rfl rfl)
theorem dX0_pushes_14 : decode cX0_pushes 14 = .ok (.invokevirtual 161, 3) := dk_182 0 161 (dk_at dksX0_pushes_0 14 rfl rfl)
theorem dX0_pushes_17 : decode cX0_pushes 17 = .ok (.invokevirtual 249, 3) := dk_182 0 249 (dk_at dksX0_pushes_0 17 rfl rfl)
theorem dX0_pushes_20 : decode cX0_pushes 20 = .ok (.astore 4, 2) := dk_58 4 (dk_at dksX0_pushes_0 20 rfl rfl)
theorem dX0_pushes_22 : decode cX0_pushes 22 = .ok (.aload 4, 2) := dk_25 4 (dk_at dksX0_pushes_0 22 rfl rfl)
theorem dX0_pushes_24 : decode cX0_pushes 24 = .ok (.invokeinterface 202 1, 5) := by decide +kernel
theorem dX0_pushes_29 : decode cX0_pushes 29 = .ok (.ifCond .eq 37, 3) := dk_153 0 37 (dk_at dksX0_pushes_1 5 rfl rfl)
theorem dX0_pushes_32 : decode cX0_pushes 32 = .ok (.aload 4, 2) := dk_25 4 (dk_at dksX0_pushes_1 8 rfl rfl)
theorem dX0_pushes_34 : decode cX0_pushes 34 = .ok (.invokeinterface 207 1, 5) := by decide +kernel
theorem dX0_pushes_39 : decode cX0_pushes 39 = .ok (.checkcast 132, 3) := dk_192 0 132 (dk_at dksX0_pushes_1 15 rfl rfl)
theorem dX0_pushes_42 : decode cX0_pushes 42 = .ok (.invokevirtual 222, 3) := dk_182 0 222 (dk_at dksX0_pushes_1 18 rfl rfl)
theorem dX0_pushes_45 : decode cX0_pushes 45 = .ok (.istore 5, 2) := dk_54 5 (dk_at dksX0_pushes_1 21 rfl rfl)
theorem dX0_pushes_47 : decode cX0_pushes 47 = .ok (.aload_n 0, 1) := dk_42 (dk_at dksX0_pushes_1 23 rfl rfl)
theorem dX0_pushes_48 : decode cX0_pushes 48 = .ok (.getfield 10, 3) := dk_180 0 10 (dk_at dksX0_pushes_2 0 rfl rfl)
theorem dX0_pushes_51 : decode cX0_pushes 51 = .ok (.iload 5, 2) := dk_21 5 (dk_at dksX0_pushes_2 3 rfl rfl)
theorem dX0_pushes_53 : decode cX0_pushes 53 = .ok (.invokevirtual 52, 3) := dk_182 0 52 (dk_at dksX0_pushes_2 5 rfl rfl)
theorem dX0_pushes_56 : decode cX0_pushes 56 = .ok (.checkcast 56, 3) := dk_192 0 56 (dk_at dksX0_pushes_2 8 rfl rfl)
theorem dX0_pushes_59 : decode cX0_pushes 59 = .ok (.iconst (-1), 1) := dk_2 (dk_at dksX0_pushes_2 11 rfl rfl)
theorem dX0_pushes_60 : decode cX0_pushes 60 = .ok (.putfield 112, 3) := dk_181 0 112 (dk_at dksX0_pushes_2 12 rfl rfl)
theorem dX0_pushes_63 : decode cX0_pushes 63 = .ok (.goto (-41), 3) := dk_167 255 215 (dk_at dksX0_pushes_2 15 rfl rfl)
theorem dX0_pushes_66 : decode cX0_pushes 66 = .ok (.aload_n 0, 1) := dk_42 (dk_at dksX0_pushes_2 18 rfl rfl)
theorem dX0_pushes_67 : decode cX0_pushes 67 = .ok (.getfield 10, 3) := dk_180 0 10 (dk_at dksX0_pushes_2 19 rfl rfl)
theorem dX0_pushes_70 : decode cX0_pushes 70 = .ok (.iload_n 1, 1) := dk_27 (dk_at dksX0_pushes_2 22 rfl rfl)
theorem dX0_pushes_71 : decode cX0_pushes 71 = .ok (.invokevirtual 52, 3) := dk_182 0 52 (dk_at dksX0_pushes_3 0 rfl rfl)
theorem dX0_pushes_74 : decode cX0_pushes 74 = .ok (.checkcast 56, 3) := dk_192 0 56 (dk_at dksX0_pushes_3 3 rfl rfl)
theorem dX0_pushes_77 : decode cX0_pushes 77 = .ok (.iload_n 2, 1) := dk_28 (dk_at dksX0_pushes_3 6 rfl rfl)
theorem dX0_pushes_78 : decode cX0_pushes 78 = .ok (.putfield 112, 3) := dk_181 0 112 (dk_at dksX0_pushes_3 7 rfl rfl)
theorem dX0_pushes_81 : decode cX0_pushes 81 = .ok (.iconst 1, 1) := dk_4 (dk_at dksX0_pushes_3 10 rfl rfl)
theorem dX0_pushes_82 : decode cX0_pushes 82 = .ok (.ireturn, 1) := dk_172 (dk_at dksX0_pushes_3 11 rfl rfl)
abbrev cX0_canPush : ByteArray := prog_1_method_34_code
def yX0_canPush : MethodName := ⟨RX0, "canPush", "(ILLabelPlacer$Box;)Z"⟩
def dkwX0_canPush_3 : List UInt8 := [162, 0, 7, 4, 167, 0, 4, 3, 126, 62, 167, 255, 191, 29, 172]
abbrev dktX0_canPush_3 : List UInt8 := dkwX0_canPush_3 ++ []
def dkwX0_canPush_2 : List UInt8 := [182, 0, 52, 192, 0, 56, 180, 0, 219, 42, 180, 0, 10, 27, 182, 0, 52, 192, 0, 56, 180, 0, 219]
abbrev dktX0_canPush_2 : List UInt8 := dkwX0_canPush_2 ++ dktX0_canPush_3
def dkwX0_canPush_1 : List UInt8 := [25, 4, 185, 0, 207, 1, 0, 192, 0, 132, 182, 0, 222, 54, 5, 29, 42, 180, 0, 10, 21, 5]
abbrev dktX0_canPush_1 : List UInt8 := dkwX0_canPush_1 ++ dktX0_canPush_2
def dkwX0_canPush_0 : List UInt8 := [4, 62, 42, 44, 27, 182, 0, 161, 182, 0, 249, 58, 4, 25, 4, 185, 0, 202, 1, 0, 153, 0, 61]
abbrev dktX0_canPush_0 : List UInt8 := dkwX0_canPush_0 ++ dktX0_canPush_1
theorem dksX0_canPush_0 : cX0_canPush.data.toList.drop 0 = dktX0_canPush_0 := by decide +kernel
theorem dksX0_canPush_1 : cX0_canPush.data.toList.drop 23 = dktX0_canPush_1 := dk_seg dksX0_canPush_0 23 rfl rfl
theorem dksX0_canPush_2 : cX0_canPush.data.toList.drop 45 = dktX0_canPush_2 := dk_seg dksX0_canPush_1 22 rfl rfl
theorem dksX0_canPush_3 : cX0_canPush.data.toList.drop 68 = dktX0_canPush_3 := dk_seg dksX0_canPush_2 23 rfl rfl
theorem dX0_canPush_0 : decode cX0_canPush 0 = .ok (.iconst 1, 1) := dk_4 (dk_at dksX0_canPush_0 0 rfl rfl)
theorem dX0_canPush_1 : decode cX0_canPush 1 = .ok (.istore_n 3, 1) := dk_62 (dk_at dksX0_canPush_0 1 rfl rfl)
theorem dX0_canPush_2 : decode cX0_canPush 2 = .ok (.aload_n 0, 1) := dk_42 (dk_at dksX0_canPush_0 2 rfl rfl)
theorem dX0_canPush_3 : decode cX0_canPush 3 = .ok (.aload_n 2, 1) := dk_44 (dk_at dksX0_canPush_0 3 rfl rfl)
theorem dX0_canPush_4 : decode cX0_canPush 4 = .ok (.iload_n 1, 1) := dk_27 (dk_at dksX0_canPush_0 4 rfl rfl)
theorem dX0_canPush_5 : decode cX0_canPush 5 = .ok (.invokevirtual 161, 3) := dk_182 0 161 (dk_at dksX0_canPush_0 5 rfl rfl)
theorem dX0_canPush_8 : decode cX0_canPush 8 = .ok (.invokevirtual 249, 3) := dk_182 0 249 (dk_at dksX0_canPush_0 8 rfl rfl)
theorem dX0_canPush_11 : decode cX0_canPush 11 = .ok (.astore 4, 2) := dk_58 4 (dk_at dksX0_canPush_0 11 rfl rfl)
theorem dX0_canPush_13 : decode cX0_canPush 13 = .ok (.aload 4, 2) := dk_25 4 (dk_at dksX0_canPush_0 13 rfl rfl)
theorem dX0_canPush_15 : decode cX0_canPush 15 = .ok (.invokeinterface 202 1, 5) := by decide +kernel
theorem dX0_canPush_20 : decode cX0_canPush 20 = .ok (.ifCond .eq 61, 3) := dk_153 0 61 (dk_at dksX0_canPush_0 20 rfl rfl)
theorem dX0_canPush_23 : decode cX0_canPush 23 = .ok (.aload 4, 2) := dk_25 4 (dk_at dksX0_canPush_1 0 rfl rfl)
theorem dX0_canPush_25 : decode cX0_canPush 25 = .ok (.invokeinterface 207 1, 5) := by decide +kernel
theorem dX0_canPush_30 : decode cX0_canPush 30 = .ok (.checkcast 132, 3) := dk_192 0 132 (dk_at dksX0_canPush_1 7 rfl rfl)
theorem dX0_canPush_33 : decode cX0_canPush 33 = .ok (.invokevirtual 222, 3) := dk_182 0 222 (dk_at dksX0_canPush_1 10 rfl rfl)
theorem dX0_canPush_36 : decode cX0_canPush 36 = .ok (.istore 5, 2) := dk_54 5 (dk_at dksX0_canPush_1 13 rfl rfl)
theorem dX0_canPush_38 : decode cX0_canPush 38 = .ok (.iload_n 3, 1) := dk_29 (dk_at dksX0_canPush_1 15 rfl rfl)
theorem dX0_canPush_39 : decode cX0_canPush 39 = .ok (.aload_n 0, 1) := dk_42 (dk_at dksX0_canPush_1 16 rfl rfl)
theorem dX0_canPush_40 : decode cX0_canPush 40 = .ok (.getfield 10, 3) := dk_180 0 10 (dk_at dksX0_canPush_1 17 rfl rfl)
theorem dX0_canPush_43 : decode cX0_canPush 43 = .ok (.iload 5, 2) := dk_21 5 (dk_at dksX0_canPush_1 20 rfl rfl)
theorem dX0_canPush_45 : decode cX0_canPush 45 = .ok (.invokevirtual 52, 3) := dk_182 0 52 (dk_at dksX0_canPush_2 0 rfl rfl)
theorem dX0_canPush_48 : decode cX0_canPush 48 = .ok (.checkcast 56, 3) := dk_192 0 56 (dk_at dksX0_canPush_2 3 rfl rfl)
theorem dX0_canPush_51 : decode cX0_canPush 51 = .ok (.getfield 219, 3) := dk_180 0 219 (dk_at dksX0_canPush_2 6 rfl rfl)
theorem dX0_canPush_54 : decode cX0_canPush 54 = .ok (.aload_n 0, 1) := dk_42 (dk_at dksX0_canPush_2 9 rfl rfl)
theorem dX0_canPush_55 : decode cX0_canPush 55 = .ok (.getfield 10, 3) := dk_180 0 10 (dk_at dksX0_canPush_2 10 rfl rfl)
theorem dX0_canPush_58 : decode cX0_canPush 58 = .ok (.iload_n 1, 1) := dk_27 (dk_at dksX0_canPush_2 13 rfl rfl)
theorem dX0_canPush_59 : decode cX0_canPush 59 = .ok (.invokevirtual 52, 3) := dk_182 0 52 (dk_at dksX0_canPush_2 14 rfl rfl)
theorem dX0_canPush_62 : decode cX0_canPush 62 = .ok (.checkcast 56, 3) := dk_192 0 56 (dk_at dksX0_canPush_2 17 rfl rfl)
theorem dX0_canPush_65 : decode cX0_canPush 65 = .ok (.getfield 219, 3) := dk_180 0 219 (dk_at dksX0_canPush_2 20 rfl rfl)
theorem dX0_canPush_68 : decode cX0_canPush 68 = .ok (.if_icmp .ge 7, 3) := dk_162 0 7 (dk_at dksX0_canPush_3 0 rfl rfl)
theorem dX0_canPush_71 : decode cX0_canPush 71 = .ok (.iconst 1, 1) := dk_4 (dk_at dksX0_canPush_3 3 rfl rfl)
theorem dX0_canPush_72 : decode cX0_canPush 72 = .ok (.goto 4, 3) := dk_167 0 4 (dk_at dksX0_canPush_3 4 rfl rfl)
theorem dX0_canPush_75 : decode cX0_canPush 75 = .ok (.iconst 0, 1) := dk_3 (dk_at dksX0_canPush_3 7 rfl rfl)
theorem dX0_canPush_76 : decode cX0_canPush 76 = .ok (.iand, 1) := dk_126 (dk_at dksX0_canPush_3 8 rfl rfl)
theorem dX0_canPush_77 : decode cX0_canPush 77 = .ok (.istore_n 3, 1) := dk_62 (dk_at dksX0_canPush_3 9 rfl rfl)
theorem dX0_canPush_78 : decode cX0_canPush 78 = .ok (.goto (-65), 3) := dk_167 255 191 (dk_at dksX0_canPush_3 10 rfl rfl)
theorem dX0_canPush_81 : decode cX0_canPush 81 = .ok (.iload_n 3, 1) := dk_29 (dk_at dksX0_canPush_3 13 rfl rfl)
theorem dX0_canPush_82 : decode cX0_canPush 82 = .ok (.ireturn, 1) := dk_172 (dk_at dksX0_canPush_3 14 rfl rfl)
abbrev cX0_show : ByteArray := prog_1_method_38_code
def yX0_show : MethodName := ⟨RX0, "show", "(II)I"⟩
def dkwX0_show_3 : List UInt8 := [42, 180, 0, 10, 27, 182, 0, 52, 192, 0, 56, 28, 181, 0, 112, 29, 172]
abbrev dktX0_show_3 : List UInt8 := dkwX0_show_3 ++ []
def dkwX0_show_2 : List UInt8 := [182, 0, 165, 154, 0, 6, 16, 253, 172, 42, 180, 0, 10, 27, 182, 0, 52, 192, 0, 56, 180, 0, 112, 62]
abbrev dktX0_show_2 : List UInt8 := dkwX0_show_2 ++ dktX0_show_3
def dkwX0_show_1 : List UInt8 := [159, 0, 32, 42, 27, 28, 182, 0, 118, 153, 0, 20, 42, 42, 27, 28, 182, 0, 124, 27, 182, 0, 161]
abbrev dktX0_show_1 : List UInt8 := dkwX0_show_1 ++ dktX0_show_2
def dkwX0_show_0 : List UInt8 := [42, 27, 182, 0, 151, 153, 0, 13, 28, 2, 16, 7, 184, 0, 48, 154, 0, 6, 16, 254, 172, 28, 2]
abbrev dktX0_show_0 : List UInt8 := dkwX0_show_0 ++ dktX0_show_1
theorem dksX0_show_0 : cX0_show.data.toList.drop 0 = dktX0_show_0 := by decide +kernel
theorem dksX0_show_1 : cX0_show.data.toList.drop 23 = dktX0_show_1 := dk_seg dksX0_show_0 23 rfl rfl
theorem dksX0_show_2 : cX0_show.data.toList.drop 46 = dktX0_show_2 := dk_seg dksX0_show_1 23 rfl rfl
theorem dksX0_show_3 : cX0_show.data.toList.drop 70 = dktX0_show_3 := dk_seg dksX0_show_2 24 rfl rfl
theorem dX0_show_0 : decode cX0_show 0 = .ok (.aload_n 0, 1) := dk_42 (dk_at dksX0_show_0 0 rfl rfl)
theorem dX0_show_1 : decode cX0_show 1 = .ok (.iload_n 1, 1) := dk_27 (dk_at dksX0_show_0 1 rfl rfl)
theorem dX0_show_2 : decode cX0_show 2 = .ok (.invokevirtual 151, 3) := dk_182 0 151 (dk_at dksX0_show_0 2 rfl rfl)
theorem dX0_show_5 : decode cX0_show 5 = .ok (.ifCond .eq 13, 3) := dk_153 0 13 (dk_at dksX0_show_0 5 rfl rfl)
theorem dX0_show_8 : decode cX0_show 8 = .ok (.iload_n 2, 1) := dk_28 (dk_at dksX0_show_0 8 rfl rfl)
theorem dX0_show_9 : decode cX0_show 9 = .ok (.iconst (-1), 1) := dk_2 (dk_at dksX0_show_0 9 rfl rfl)
theorem dX0_show_10 : decode cX0_show 10 = .ok (.bipush 7, 2) := dk_16 7 (dk_at dksX0_show_0 10 rfl rfl)
theorem dX0_show_12 : decode cX0_show 12 = .ok (.invokestatic 48, 3) := dk_184 0 48 (dk_at dksX0_show_0 12 rfl rfl)
theorem dX0_show_15 : decode cX0_show 15 = .ok (.ifCond .ne 6, 3) := dk_154 0 6 (dk_at dksX0_show_0 15 rfl rfl)
theorem dX0_show_18 : decode cX0_show 18 = .ok (.bipush (-2), 2) := dk_16 254 (dk_at dksX0_show_0 18 rfl rfl)
theorem dX0_show_20 : decode cX0_show 20 = .ok (.ireturn, 1) := dk_172 (dk_at dksX0_show_0 20 rfl rfl)
theorem dX0_show_21 : decode cX0_show 21 = .ok (.iload_n 2, 1) := dk_28 (dk_at dksX0_show_0 21 rfl rfl)
theorem dX0_show_22 : decode cX0_show 22 = .ok (.iconst (-1), 1) := dk_2 (dk_at dksX0_show_0 22 rfl rfl)
theorem dX0_show_23 : decode cX0_show 23 = .ok (.if_icmp .eq 32, 3) := dk_159 0 32 (dk_at dksX0_show_1 0 rfl rfl)
theorem dX0_show_26 : decode cX0_show 26 = .ok (.aload_n 0, 1) := dk_42 (dk_at dksX0_show_1 3 rfl rfl)
theorem dX0_show_27 : decode cX0_show 27 = .ok (.iload_n 1, 1) := dk_27 (dk_at dksX0_show_1 4 rfl rfl)
theorem dX0_show_28 : decode cX0_show 28 = .ok (.iload_n 2, 1) := dk_28 (dk_at dksX0_show_1 5 rfl rfl)
theorem dX0_show_29 : decode cX0_show 29 = .ok (.invokevirtual 118, 3) := dk_182 0 118 (dk_at dksX0_show_1 6 rfl rfl)
theorem dX0_show_32 : decode cX0_show 32 = .ok (.ifCond .eq 20, 3) := dk_153 0 20 (dk_at dksX0_show_1 9 rfl rfl)
theorem dX0_show_35 : decode cX0_show 35 = .ok (.aload_n 0, 1) := dk_42 (dk_at dksX0_show_1 12 rfl rfl)
theorem dX0_show_36 : decode cX0_show 36 = .ok (.aload_n 0, 1) := dk_42 (dk_at dksX0_show_1 13 rfl rfl)
theorem dX0_show_37 : decode cX0_show 37 = .ok (.iload_n 1, 1) := dk_27 (dk_at dksX0_show_1 14 rfl rfl)
theorem dX0_show_38 : decode cX0_show 38 = .ok (.iload_n 2, 1) := dk_28 (dk_at dksX0_show_1 15 rfl rfl)
theorem dX0_show_39 : decode cX0_show 39 = .ok (.invokevirtual 124, 3) := dk_182 0 124 (dk_at dksX0_show_1 16 rfl rfl)
theorem dX0_show_42 : decode cX0_show 42 = .ok (.iload_n 1, 1) := dk_27 (dk_at dksX0_show_1 19 rfl rfl)
theorem dX0_show_43 : decode cX0_show 43 = .ok (.invokevirtual 161, 3) := dk_182 0 161 (dk_at dksX0_show_1 20 rfl rfl)
theorem dX0_show_46 : decode cX0_show 46 = .ok (.invokevirtual 165, 3) := dk_182 0 165 (dk_at dksX0_show_2 0 rfl rfl)
theorem dX0_show_49 : decode cX0_show 49 = .ok (.ifCond .ne 6, 3) := dk_154 0 6 (dk_at dksX0_show_2 3 rfl rfl)
theorem dX0_show_52 : decode cX0_show 52 = .ok (.bipush (-3), 2) := dk_16 253 (dk_at dksX0_show_2 6 rfl rfl)
theorem dX0_show_54 : decode cX0_show 54 = .ok (.ireturn, 1) := dk_172 (dk_at dksX0_show_2 8 rfl rfl)
theorem dX0_show_55 : decode cX0_show 55 = .ok (.aload_n 0, 1) := dk_42 (dk_at dksX0_show_2 9 rfl rfl)
theorem dX0_show_56 : decode cX0_show 56 = .ok (.getfield 10, 3) := dk_180 0 10 (dk_at dksX0_show_2 10 rfl rfl)
theorem dX0_show_59 : decode cX0_show 59 = .ok (.iload_n 1, 1) := dk_27 (dk_at dksX0_show_2 13 rfl rfl)
theorem dX0_show_60 : decode cX0_show 60 = .ok (.invokevirtual 52, 3) := dk_182 0 52 (dk_at dksX0_show_2 14 rfl rfl)
theorem dX0_show_63 : decode cX0_show 63 = .ok (.checkcast 56, 3) := dk_192 0 56 (dk_at dksX0_show_2 17 rfl rfl)
theorem dX0_show_66 : decode cX0_show 66 = .ok (.getfield 112, 3) := dk_180 0 112 (dk_at dksX0_show_2 20 rfl rfl)
theorem dX0_show_69 : decode cX0_show 69 = .ok (.istore_n 3, 1) := dk_62 (dk_at dksX0_show_2 23 rfl rfl)
theorem dX0_show_70 : decode cX0_show 70 = .ok (.aload_n 0, 1) := dk_42 (dk_at dksX0_show_3 0 rfl rfl)
theorem dX0_show_71 : decode cX0_show 71 = .ok (.getfield 10, 3) := dk_180 0 10 (dk_at dksX0_show_3 1 rfl rfl)
theorem dX0_show_74 : decode cX0_show 74 = .ok (.iload_n 1, 1) := dk_27 (dk_at dksX0_show_3 4 rfl rfl)
theorem dX0_show_75 : decode cX0_show 75 = .ok (.invokevirtual 52, 3) := dk_182 0 52 (dk_at dksX0_show_3 5 rfl rfl)
theorem dX0_show_78 : decode cX0_show 78 = .ok (.checkcast 56, 3) := dk_192 0 56 (dk_at dksX0_show_3 8 rfl rfl)
theorem dX0_show_81 : decode cX0_show 81 = .ok (.iload_n 2, 1) := dk_28 (dk_at dksX0_show_3 11 rfl rfl)
theorem dX0_show_82 : decode cX0_show 82 = .ok (.putfield 112, 3) := dk_181 0 112 (dk_at dksX0_show_3 12 rfl rfl)
theorem dX0_show_85 : decode cX0_show 85 = .ok (.iload_n 3, 1) := dk_29 (dk_at dksX0_show_3 15 rfl rfl)
theorem dX0_show_86 : decode cX0_show 86 = .ok (.ireturn, 1) := dk_172 (dk_at dksX0_show_3 16 rfl rfl)
abbrev cX0_hideAll : ByteArray := prog_1_method_39_code
def yX0_hideAll : MethodName := ⟨RX0, "hideAll", "()I"⟩
def dkwX0_hideAll_1 : List UInt8 := [182, 0, 52, 192, 0, 56, 2, 181, 0, 112, 132, 2, 1, 167, 255, 227, 27, 172]
abbrev dktX0_hideAll_1 : List UInt8 := dkwX0_hideAll_1 ++ []
def dkwX0_hideAll_0 : List UInt8 := [42, 182, 0, 187, 60, 3, 61, 28, 42, 180, 0, 10, 182, 0, 44, 162, 0, 24, 42, 180, 0, 10, 28]
abbrev dktX0_hideAll_0 : List UInt8 := dkwX0_hideAll_0 ++ dktX0_hideAll_1
theorem dksX0_hideAll_0 : cX0_hideAll.data.toList.drop 0 = dktX0_hideAll_0 := by decide +kernel
theorem dksX0_hideAll_1 : cX0_hideAll.data.toList.drop 23 = dktX0_hideAll_1 := dk_seg dksX0_hideAll_0 23 rfl rfl
theorem dX0_hideAll_0 : decode cX0_hideAll 0 = .ok (.aload_n 0, 1) := dk_42 (dk_at dksX0_hideAll_0 0 rfl rfl)
theorem dX0_hideAll_1 : decode cX0_hideAll 1 = .ok (.invokevirtual 187, 3) := dk_182 0 187 (dk_at dksX0_hideAll_0 1 rfl rfl)
theorem dX0_hideAll_4 : decode cX0_hideAll 4 = .ok (.istore_n 1, 1) := dk_60 (dk_at dksX0_hideAll_0 4 rfl rfl)
theorem dX0_hideAll_5 : decode cX0_hideAll 5 = .ok (.iconst 0, 1) := dk_3 (dk_at dksX0_hideAll_0 5 rfl rfl)
theorem dX0_hideAll_6 : decode cX0_hideAll 6 = .ok (.istore_n 2, 1) := dk_61 (dk_at dksX0_hideAll_0 6 rfl rfl)
theorem dX0_hideAll_7 : decode cX0_hideAll 7 = .ok (.iload_n 2, 1) := dk_28 (dk_at dksX0_hideAll_0 7 rfl rfl)
theorem dX0_hideAll_8 : decode cX0_hideAll 8 = .ok (.aload_n 0, 1) := dk_42 (dk_at dksX0_hideAll_0 8 rfl rfl)
theorem dX0_hideAll_9 : decode cX0_hideAll 9 = .ok (.getfield 10, 3) := dk_180 0 10 (dk_at dksX0_hideAll_0 9 rfl rfl)
theorem dX0_hideAll_12 : decode cX0_hideAll 12 = .ok (.invokevirtual 44, 3) := dk_182 0 44 (dk_at dksX0_hideAll_0 12 rfl rfl)
theorem dX0_hideAll_15 : decode cX0_hideAll 15 = .ok (.if_icmp .ge 24, 3) := dk_162 0 24 (dk_at dksX0_hideAll_0 15 rfl rfl)
theorem dX0_hideAll_18 : decode cX0_hideAll 18 = .ok (.aload_n 0, 1) := dk_42 (dk_at dksX0_hideAll_0 18 rfl rfl)
theorem dX0_hideAll_19 : decode cX0_hideAll 19 = .ok (.getfield 10, 3) := dk_180 0 10 (dk_at dksX0_hideAll_0 19 rfl rfl)
theorem dX0_hideAll_22 : decode cX0_hideAll 22 = .ok (.iload_n 2, 1) := dk_28 (dk_at dksX0_hideAll_0 22 rfl rfl)
theorem dX0_hideAll_23 : decode cX0_hideAll 23 = .ok (.invokevirtual 52, 3) := dk_182 0 52 (dk_at dksX0_hideAll_1 0 rfl rfl)
theorem dX0_hideAll_26 : decode cX0_hideAll 26 = .ok (.checkcast 56, 3) := dk_192 0 56 (dk_at dksX0_hideAll_1 3 rfl rfl)
theorem dX0_hideAll_29 : decode cX0_hideAll 29 = .ok (.iconst (-1), 1) := dk_2 (dk_at dksX0_hideAll_1 6 rfl rfl)
theorem dX0_hideAll_30 : decode cX0_hideAll 30 = .ok (.putfield 112, 3) := dk_181 0 112 (dk_at dksX0_hideAll_1 7 rfl rfl)
theorem dX0_hideAll_33 : decode cX0_hideAll 33 = .ok (.iinc 2 1, 3) := dk_132 2 1 (dk_at dksX0_hideAll_1 10 rfl rfl)
theorem dX0_hideAll_36 : decode cX0_hideAll 36 = .ok (.goto (-29), 3) := dk_167 255 227 (dk_at dksX0_hideAll_1 13 rfl rfl)
theorem dX0_hideAll_39 : decode cX0_hideAll 39 = .ok (.iload_n 1, 1) := dk_27 (dk_at dksX0_hideAll_1 16 rfl rfl)
theorem dX0_hideAll_40 : decode cX0_hideAll 40 = .ok (.ireturn, 1) := dk_172 (dk_at dksX0_hideAll_1 17 rfl rfl)
abbrev cX0_greatest : ByteArray := prog_1_method_40_code
def yX0_greatest : MethodName := ⟨RX0, "greatest", "()I"⟩
def dkwX0_greatest_3 : List UInt8 := [3, 3, 182, 1, 19, 45, 180, 1, 22, 172]
abbrev dktX0_greatest_3 : List UInt8 := dkwX0_greatest_3 ++ []
def dkwX0_greatest_2 : List UInt8 := [28, 16, 6, 164, 0, 6, 16, 253, 172, 187, 1, 8, 89, 42, 43, 28, 184, 1, 10, 183, 1, 16, 78, 45]
abbrev dktX0_greatest_2 : List UInt8 := dkwX0_greatest_2 ++ dktX0_greatest_3
def dkwX0_greatest_1 : List UInt8 := [162, 0, 24, 42, 29, 182, 0, 169, 158, 0, 10, 43, 28, 29, 79, 132, 2, 1, 132, 3, 1, 167, 255, 227]
abbrev dktX0_greatest_1 : List UInt8 := dkwX0_greatest_1 ++ dktX0_greatest_2
def dkwX0_greatest_0 : List UInt8 := [42, 180, 0, 10, 182, 0, 44, 188, 10, 76, 3, 61, 3, 62, 29, 42, 180, 0, 10, 182, 0, 44]
abbrev dktX0_greatest_0 : List UInt8 := dkwX0_greatest_0 ++ dktX0_greatest_1
theorem dksX0_greatest_0 : cX0_greatest.data.toList.drop 0 = dktX0_greatest_0 := by decide +kernel
theorem dksX0_greatest_1 : cX0_greatest.data.toList.drop 22 = dktX0_greatest_1 := dk_seg dksX0_greatest_0 22 rfl rfl
theorem dksX0_greatest_2 : cX0_greatest.data.toList.drop 46 = dktX0_greatest_2 := dk_seg dksX0_greatest_1 24 rfl rfl
theorem dksX0_greatest_3 : cX0_greatest.data.toList.drop 70 = dktX0_greatest_3 := dk_seg dksX0_greatest_2 24 rfl rfl
theorem dX0_greatest_0 : decode cX0_greatest 0 = .ok (.aload_n 0, 1) := dk_42 (dk_at dksX0_greatest_0 0 rfl rfl)
theorem dX0_greatest_1 : decode cX0_greatest 1 = .ok (.getfield 10, 3) := dk_180 0 10 (dk_at dksX0_greatest_0 1 rfl rfl)
theorem dX0_greatest_4 : decode cX0_greatest 4 = .ok (.invokevirtual 44, 3) := dk_182 0 44 (dk_at dksX0_greatest_0 4 rfl rfl)
theorem dX0_greatest_7 : decode cX0_greatest 7 = .ok (.newarray .int, 2) := dk_188_10 (dk_at dksX0_greatest_0 7 rfl rfl)
theorem dX0_greatest_9 : decode cX0_greatest 9 = .ok (.astore_n 1, 1) := dk_76 (dk_at dksX0_greatest_0 9 rfl rfl)
theorem dX0_greatest_10 : decode cX0_greatest 10 = .ok (.iconst 0, 1) := dk_3 (dk_at dksX0_greatest_0 10 rfl rfl)
theorem dX0_greatest_11 : decode cX0_greatest 11 = .ok (.istore_n 2, 1) := dk_61 (dk_at dksX0_greatest_0 11 rfl rfl)
theorem dX0_greatest_12 : decode cX0_greatest 12 = .ok (.iconst 0, 1) := dk_3 (dk_at dksX0_greatest_0 12 rfl rfl)
theorem dX0_greatest_13 : decode cX0_greatest 13 = .ok (.istore_n 3, 1) := dk_62 (dk_at dksX0_greatest_0 13 rfl rfl)
theorem dX0_greatest_14 : decode cX0_greatest 14 = .ok (.iload_n 3, 1) := dk_29 (dk_at dksX0_greatest_0 14 rfl rfl)
theorem dX0_greatest_15 : decode cX0_greatest 15 = .ok (.aload_n 0, 1) := dk_42 (dk_at dksX0_greatest_0 15 rfl rfl)
theorem dX0_greatest_16 : decode cX0_greatest 16 = .ok (.getfield 10, 3) := dk_180 0 10 (dk_at dksX0_greatest_0 16 rfl rfl)
theorem dX0_greatest_19 : decode cX0_greatest 19 = .ok (.invokevirtual 44, 3) := dk_182 0 44 (dk_at dksX0_greatest_0 19 rfl rfl)
theorem dX0_greatest_22 : decode cX0_greatest 22 = .ok (.if_icmp .ge 24, 3) := dk_162 0 24 (dk_at dksX0_greatest_1 0 rfl rfl)
theorem dX0_greatest_25 : decode cX0_greatest 25 = .ok (.aload_n 0, 1) := dk_42 (dk_at dksX0_greatest_1 3 rfl rfl)
theorem dX0_greatest_26 : decode cX0_greatest 26 = .ok (.iload_n 3, 1) := dk_29 (dk_at dksX0_greatest_1 4 rfl rfl)
theorem dX0_greatest_27 : decode cX0_greatest 27 = .ok (.invokevirtual 169, 3) := dk_182 0 169 (dk_at dksX0_greatest_1 5 rfl rfl)
theorem dX0_greatest_30 : decode cX0_greatest 30 = .ok (.ifCond .le 10, 3) := dk_158 0 10 (dk_at dksX0_greatest_1 8 rfl rfl)
theorem dX0_greatest_33 : decode cX0_greatest 33 = .ok (.aload_n 1, 1) := dk_43 (dk_at dksX0_greatest_1 11 rfl rfl)
theorem dX0_greatest_34 : decode cX0_greatest 34 = .ok (.iload_n 2, 1) := dk_28 (dk_at dksX0_greatest_1 12 rfl rfl)
theorem dX0_greatest_35 : decode cX0_greatest 35 = .ok (.iload_n 3, 1) := dk_29 (dk_at dksX0_greatest_1 13 rfl rfl)
theorem dX0_greatest_36 : decode cX0_greatest 36 = .ok (.iastore, 1) := dk_79 (dk_at dksX0_greatest_1 14 rfl rfl)
theorem dX0_greatest_37 : decode cX0_greatest 37 = .ok (.iinc 2 1, 3) := dk_132 2 1 (dk_at dksX0_greatest_1 15 rfl rfl)
theorem dX0_greatest_40 : decode cX0_greatest 40 = .ok (.iinc 3 1, 3) := dk_132 3 1 (dk_at dksX0_greatest_1 18 rfl rfl)
theorem dX0_greatest_43 : decode cX0_greatest 43 = .ok (.goto (-29), 3) := dk_167 255 227 (dk_at dksX0_greatest_1 21 rfl rfl)
theorem dX0_greatest_46 : decode cX0_greatest 46 = .ok (.iload_n 2, 1) := dk_28 (dk_at dksX0_greatest_2 0 rfl rfl)
theorem dX0_greatest_47 : decode cX0_greatest 47 = .ok (.bipush 6, 2) := dk_16 6 (dk_at dksX0_greatest_2 1 rfl rfl)
theorem dX0_greatest_49 : decode cX0_greatest 49 = .ok (.if_icmp .le 6, 3) := dk_164 0 6 (dk_at dksX0_greatest_2 3 rfl rfl)
theorem dX0_greatest_52 : decode cX0_greatest 52 = .ok (.bipush (-3), 2) := dk_16 253 (dk_at dksX0_greatest_2 6 rfl rfl)
theorem dX0_greatest_54 : decode cX0_greatest 54 = .ok (.ireturn, 1) := dk_172 (dk_at dksX0_greatest_2 8 rfl rfl)
theorem dX0_greatest_55 : decode cX0_greatest 55 = .ok (.new 264, 3) := dk_187 1 8 (dk_at dksX0_greatest_2 9 rfl rfl)
theorem dX0_greatest_58 : decode cX0_greatest 58 = .ok (.dup, 1) := dk_89 (dk_at dksX0_greatest_2 12 rfl rfl)
theorem dX0_greatest_59 : decode cX0_greatest 59 = .ok (.aload_n 0, 1) := dk_42 (dk_at dksX0_greatest_2 13 rfl rfl)
theorem dX0_greatest_60 : decode cX0_greatest 60 = .ok (.aload_n 1, 1) := dk_43 (dk_at dksX0_greatest_2 14 rfl rfl)
theorem dX0_greatest_61 : decode cX0_greatest 61 = .ok (.iload_n 2, 1) := dk_28 (dk_at dksX0_greatest_2 15 rfl rfl)
theorem dX0_greatest_62 : decode cX0_greatest 62 = .ok (.invokestatic 266, 3) := dk_184 1 10 (dk_at dksX0_greatest_2 16 rfl rfl)
theorem dX0_greatest_65 : decode cX0_greatest 65 = .ok (.invokespecial 272, 3) := dk_183 1 16 (dk_at dksX0_greatest_2 19 rfl rfl)
theorem dX0_greatest_68 : decode cX0_greatest 68 = .ok (.astore_n 3, 1) := dk_78 (dk_at dksX0_greatest_2 22 rfl rfl)
theorem dX0_greatest_69 : decode cX0_greatest 69 = .ok (.aload_n 3, 1) := dk_45 (dk_at dksX0_greatest_2 23 rfl rfl)
theorem dX0_greatest_70 : decode cX0_greatest 70 = .ok (.iconst 0, 1) := dk_3 (dk_at dksX0_greatest_3 0 rfl rfl)
theorem dX0_greatest_71 : decode cX0_greatest 71 = .ok (.iconst 0, 1) := dk_3 (dk_at dksX0_greatest_3 1 rfl rfl)
theorem dX0_greatest_72 : decode cX0_greatest 72 = .ok (.invokevirtual 275, 3) := dk_182 1 19 (dk_at dksX0_greatest_3 2 rfl rfl)
theorem dX0_greatest_75 : decode cX0_greatest 75 = .ok (.aload_n 3, 1) := dk_45 (dk_at dksX0_greatest_3 5 rfl rfl)
theorem dX0_greatest_76 : decode cX0_greatest 76 = .ok (.getfield 278, 3) := dk_180 1 22 (dk_at dksX0_greatest_3 6 rfl rfl)
theorem dX0_greatest_79 : decode cX0_greatest 79 = .ok (.ireturn, 1) := dk_172 (dk_at dksX0_greatest_3 9 rfl rfl)
abbrev cX0_leaders : ByteArray := prog_1_method_43_code
def yX0_leaders : MethodName := ⟨RX0, "leaders", "()I"⟩
def dkwX0_leaders_9 : List UInt8 := [172]
abbrev dktX0_leaders_9 : List UInt8 := dkwX0_leaders_9 ++ []
def dkwX0_leaders_8 : List UInt8 := [184, 1, 34, 96, 183, 1, 39, 182, 0, 147, 87, 132, 6, 1, 167, 255, 138, 42, 25, 5, 181, 0, 31, 28]
abbrev dktX0_leaders_8 : List UInt8 := dkwX0_leaders_8 ++ dktX0_leaders_9
def dkwX0_leaders_7 : List UInt8 := [21, 8, 21, 9, 21, 4, 28, 96, 25, 7, 180, 0, 58, 100, 21, 8, 25, 7, 180, 0, 62, 100]
abbrev dktX0_leaders_7 : List UInt8 := dkwX0_leaders_7 ++ dktX0_leaders_8
def dkwX0_leaders_6 : List UInt8 := [21, 6, 100, 96, 54, 9, 25, 5, 187, 1, 32, 89, 43, 21, 6, 182, 0, 52, 192, 0, 132, 182, 0, 222]
abbrev dktX0_leaders_6 : List UInt8 := dkwX0_leaders_6 ++ dktX0_leaders_7
def dkwX0_leaders_5 : List UInt8 := [100, 54, 8, 21, 4, 21, 8, 25, 7, 180, 0, 62, 164, 0, 8, 21, 6, 167, 0, 9, 28, 4, 100]
abbrev dktX0_leaders_5 : List UInt8 := dkwX0_leaders_5 ++ dktX0_leaders_6
def dkwX0_leaders_4 : List UInt8 := [21, 6, 182, 0, 52, 192, 0, 132, 182, 0, 222, 182, 0, 52, 192, 0, 56, 58, 7, 29, 5, 21, 6, 104]
abbrev dktX0_leaders_4 : List UInt8 := dkwX0_leaders_4 ++ dktX0_leaders_5
def dkwX0_leaders_3 : List UInt8 := [187, 0, 7, 89, 183, 0, 9, 58, 5, 3, 54, 6, 21, 6, 28, 162, 0, 118, 42, 180, 0, 10, 43]
abbrev dktX0_leaders_3 : List UInt8 := dkwX0_leaders_3 ++ dktX0_leaders_4
def dkwX0_leaders_2 : List UInt8 := [158, 0, 23, 29, 5, 28, 4, 100, 104, 100, 42, 180, 0, 21, 180, 0, 181, 162, 0, 6, 16, 253, 172]
abbrev dktX0_leaders_2 : List UInt8 := dkwX0_leaders_2 ++ dktX0_leaders_3
def dkwX0_leaders_1 : List UInt8 := [96, 4, 100, 62, 42, 180, 0, 21, 180, 0, 175, 42, 180, 0, 21, 180, 0, 178, 96, 54, 4, 28]
abbrev dktX0_leaders_1 : List UInt8 := dkwX0_leaders_1 ++ dktX0_leaders_2
def dkwX0_leaders_0 : List UInt8 := [42, 182, 1, 29, 76, 43, 182, 0, 44, 61, 42, 180, 0, 21, 180, 0, 181, 42, 180, 0, 21, 180, 0, 184]
abbrev dktX0_leaders_0 : List UInt8 := dkwX0_leaders_0 ++ dktX0_leaders_1
theorem dksX0_leaders_0 : cX0_leaders.data.toList.drop 0 = dktX0_leaders_0 := by decide +kernel
theorem dksX0_leaders_1 : cX0_leaders.data.toList.drop 24 = dktX0_leaders_1 := dk_seg dksX0_leaders_0 24 rfl rfl
theorem dksX0_leaders_2 : cX0_leaders.data.toList.drop 46 = dktX0_leaders_2 := dk_seg dksX0_leaders_1 22 rfl rfl
theorem dksX0_leaders_3 : cX0_leaders.data.toList.drop 69 = dktX0_leaders_3 := dk_seg dksX0_leaders_2 23 rfl rfl
theorem dksX0_leaders_4 : cX0_leaders.data.toList.drop 92 = dktX0_leaders_4 := dk_seg dksX0_leaders_3 23 rfl rfl
theorem dksX0_leaders_5 : cX0_leaders.data.toList.drop 116 = dktX0_leaders_5 := dk_seg dksX0_leaders_4 24 rfl rfl
theorem dksX0_leaders_6 : cX0_leaders.data.toList.drop 139 = dktX0_leaders_6 := dk_seg dksX0_leaders_5 23 rfl rfl
theorem dksX0_leaders_7 : cX0_leaders.data.toList.drop 163 = dktX0_leaders_7 := dk_seg dksX0_leaders_6 24 rfl rfl
theorem dksX0_leaders_8 : cX0_leaders.data.toList.drop 185 = dktX0_leaders_8 := dk_seg dksX0_leaders_7 22 rfl rfl
theorem dksX0_leaders_9 : cX0_leaders.data.toList.drop 209 = dktX0_leaders_9 := dk_seg dksX0_leaders_8 24 rfl rfl
theorem dX0_leaders_0 : decode cX0_leaders 0 = .ok (.aload_n 0, 1) := dk_42 (dk_at dksX0_leaders_0 0 rfl rfl)
theorem dX0_leaders_1 : decode cX0_leaders 1 = .ok (.invokevirtual 285, 3) := dk_182 1 29 (dk_at dksX0_leaders_0 1 rfl rfl)
theorem dX0_leaders_4 : decode cX0_leaders 4 = .ok (.astore_n 1, 1) := dk_76 (dk_at dksX0_leaders_0 4 rfl rfl)
theorem dX0_leaders_5 : decode cX0_leaders 5 = .ok (.aload_n 1, 1) := dk_43 (dk_at dksX0_leaders_0 5 rfl rfl)
theorem dX0_leaders_6 : decode cX0_leaders 6 = .ok (.invokevirtual 44, 3) := dk_182 0 44 (dk_at dksX0_leaders_0 6 rfl rfl)
theorem dX0_leaders_9 : decode cX0_leaders 9 = .ok (.istore_n 2, 1) := dk_61 (dk_at dksX0_leaders_0 9 rfl rfl)
theorem dX0_leaders_10 : decode cX0_leaders 10 = .ok (.aload_n 0, 1) := dk_42 (dk_at dksX0_leaders_0 10 rfl rfl)
theorem dX0_leaders_11 : decode cX0_leaders 11 = .ok (.getfield 21, 3) := dk_180 0 21 (dk_at dksX0_leaders_0 11 rfl rfl)
theorem dX0_leaders_14 : decode cX0_leaders 14 = .ok (.getfield 181, 3) := dk_180 0 181 (dk_at dksX0_leaders_0 14 rfl rfl)
theorem dX0_leaders_17 : decode cX0_leaders 17 = .ok (.aload_n 0, 1) := dk_42 (dk_at dksX0_leaders_0 17 rfl rfl)
theorem dX0_leaders_18 : decode cX0_leaders 18 = .ok (.getfield 21, 3) := dk_180 0 21 (dk_at dksX0_leaders_0 18 rfl rfl)
theorem dX0_leaders_21 : decode cX0_leaders 21 = .ok (.getfield 184, 3) := dk_180 0 184 (dk_at dksX0_leaders_0 21 rfl rfl)
theorem dX0_leaders_24 : decode cX0_leaders 24 = .ok (.iadd, 1) := dk_96 (dk_at dksX0_leaders_1 0 rfl rfl)
theorem dX0_leaders_25 : decode cX0_leaders 25 = .ok (.iconst 1, 1) := dk_4 (dk_at dksX0_leaders_1 1 rfl rfl)
theorem dX0_leaders_26 : decode cX0_leaders 26 = .ok (.isub, 1) := dk_100 (dk_at dksX0_leaders_1 2 rfl rfl)
theorem dX0_leaders_27 : decode cX0_leaders 27 = .ok (.istore_n 3, 1) := dk_62 (dk_at dksX0_leaders_1 3 rfl rfl)
theorem dX0_leaders_28 : decode cX0_leaders 28 = .ok (.aload_n 0, 1) := dk_42 (dk_at dksX0_leaders_1 4 rfl rfl)
theorem dX0_leaders_29 : decode cX0_leaders 29 = .ok (.getfield 21, 3) := dk_180 0 21 (dk_at dksX0_leaders_1 5 rfl rfl)
theorem dX0_leaders_32 : decode cX0_leaders 32 = .ok (.getfield 175, 3) := dk_180 0 175 (dk_at dksX0_leaders_1 8 rfl rfl)
theorem dX0_leaders_35 : decode cX0_leaders 35 = .ok (.aload_n 0, 1) := dk_42 (dk_at dksX0_leaders_1 11 rfl rfl)
theorem dX0_leaders_36 : decode cX0_leaders 36 = .ok (.getfield 21, 3) := dk_180 0 21 (dk_at dksX0_leaders_1 12 rfl rfl)
theorem dX0_leaders_39 : decode cX0_leaders 39 = .ok (.getfield 178, 3) := dk_180 0 178 (dk_at dksX0_leaders_1 15 rfl rfl)
theorem dX0_leaders_42 : decode cX0_leaders 42 = .ok (.iadd, 1) := dk_96 (dk_at dksX0_leaders_1 18 rfl rfl)
theorem dX0_leaders_43 : decode cX0_leaders 43 = .ok (.istore 4, 2) := dk_54 4 (dk_at dksX0_leaders_1 19 rfl rfl)
theorem dX0_leaders_45 : decode cX0_leaders 45 = .ok (.iload_n 2, 1) := dk_28 (dk_at dksX0_leaders_1 21 rfl rfl)
theorem dX0_leaders_46 : decode cX0_leaders 46 = .ok (.ifCond .le 23, 3) := dk_158 0 23 (dk_at dksX0_leaders_2 0 rfl rfl)
theorem dX0_leaders_49 : decode cX0_leaders 49 = .ok (.iload_n 3, 1) := dk_29 (dk_at dksX0_leaders_2 3 rfl rfl)
theorem dX0_leaders_50 : decode cX0_leaders 50 = .ok (.iconst 2, 1) := dk_5 (dk_at dksX0_leaders_2 4 rfl rfl)
theorem dX0_leaders_51 : decode cX0_leaders 51 = .ok (.iload_n 2, 1) := dk_28 (dk_at dksX0_leaders_2 5 rfl rfl)
theorem dX0_leaders_52 : decode cX0_leaders 52 = .ok (.iconst 1, 1) := dk_4 (dk_at dksX0_leaders_2 6 rfl rfl)
theorem dX0_leaders_53 : decode cX0_leaders 53 = .ok (.isub, 1) := dk_100 (dk_at dksX0_leaders_2 7 rfl rfl)
theorem dX0_leaders_54 : decode cX0_leaders 54 = .ok (.imul, 1) := dk_104 (dk_at dksX0_leaders_2 8 rfl rfl)
theorem dX0_leaders_55 : decode cX0_leaders 55 = .ok (.isub, 1) := dk_100 (dk_at dksX0_leaders_2 9 rfl rfl)
theorem dX0_leaders_56 : decode cX0_leaders 56 = .ok (.aload_n 0, 1) := dk_42 (dk_at dksX0_leaders_2 10 rfl rfl)
theorem dX0_leaders_57 : decode cX0_leaders 57 = .ok (.getfield 21, 3) := dk_180 0 21 (dk_at dksX0_leaders_2 11 rfl rfl)
theorem dX0_leaders_60 : decode cX0_leaders 60 = .ok (.getfield 181, 3) := dk_180 0 181 (dk_at dksX0_leaders_2 14 rfl rfl)
theorem dX0_leaders_63 : decode cX0_leaders 63 = .ok (.if_icmp .ge 6, 3) := dk_162 0 6 (dk_at dksX0_leaders_2 17 rfl rfl)
theorem dX0_leaders_66 : decode cX0_leaders 66 = .ok (.bipush (-3), 2) := dk_16 253 (dk_at dksX0_leaders_2 20 rfl rfl)
theorem dX0_leaders_68 : decode cX0_leaders 68 = .ok (.ireturn, 1) := dk_172 (dk_at dksX0_leaders_2 22 rfl rfl)
theorem dX0_leaders_69 : decode cX0_leaders 69 = .ok (.new 7, 3) := dk_187 0 7 (dk_at dksX0_leaders_3 0 rfl rfl)
theorem dX0_leaders_72 : decode cX0_leaders 72 = .ok (.dup, 1) := dk_89 (dk_at dksX0_leaders_3 3 rfl rfl)
theorem dX0_leaders_73 : decode cX0_leaders 73 = .ok (.invokespecial 9, 3) := dk_183 0 9 (dk_at dksX0_leaders_3 4 rfl rfl)
theorem dX0_leaders_76 : decode cX0_leaders 76 = .ok (.astore 5, 2) := dk_58 5 (dk_at dksX0_leaders_3 7 rfl rfl)
theorem dX0_leaders_78 : decode cX0_leaders 78 = .ok (.iconst 0, 1) := dk_3 (dk_at dksX0_leaders_3 9 rfl rfl)
theorem dX0_leaders_79 : decode cX0_leaders 79 = .ok (.istore 6, 2) := dk_54 6 (dk_at dksX0_leaders_3 10 rfl rfl)
theorem dX0_leaders_81 : decode cX0_leaders 81 = .ok (.iload 6, 2) := dk_21 6 (dk_at dksX0_leaders_3 12 rfl rfl)
theorem dX0_leaders_83 : decode cX0_leaders 83 = .ok (.iload_n 2, 1) := dk_28 (dk_at dksX0_leaders_3 14 rfl rfl)
theorem dX0_leaders_84 : decode cX0_leaders 84 = .ok (.if_icmp .ge 118, 3) := dk_162 0 118 (dk_at dksX0_leaders_3 15 rfl rfl)
theorem dX0_leaders_87 : decode cX0_leaders 87 = .ok (.aload_n 0, 1) := dk_42 (dk_at dksX0_leaders_3 18 rfl rfl)
theorem dX0_leaders_88 : decode cX0_leaders 88 = .ok (.getfield 10, 3) := dk_180 0 10 (dk_at dksX0_leaders_3 19 rfl rfl)
theorem dX0_leaders_91 : decode cX0_leaders 91 = .ok (.aload_n 1, 1) := dk_43 (dk_at dksX0_leaders_3 22 rfl rfl)
theorem dX0_leaders_92 : decode cX0_leaders 92 = .ok (.iload 6, 2) := dk_21 6 (dk_at dksX0_leaders_4 0 rfl rfl)
theorem dX0_leaders_94 : decode cX0_leaders 94 = .ok (.invokevirtual 52, 3) := dk_182 0 52 (dk_at dksX0_leaders_4 2 rfl rfl)
theorem dX0_leaders_97 : decode cX0_leaders 97 = .ok (.checkcast 132, 3) := dk_192 0 132 (dk_at dksX0_leaders_4 5 rfl rfl)
theorem dX0_leaders_100 : decode cX0_leaders 100 = .ok (.invokevirtual 222, 3) := dk_182 0 222 (dk_at dksX0_leaders_4 8 rfl rfl)
theorem dX0_leaders_103 : decode cX0_leaders 103 = .ok (.invokevirtual 52, 3) := dk_182 0 52 (dk_at dksX0_leaders_4 11 rfl rfl)
theorem dX0_leaders_106 : decode cX0_leaders 106 = .ok (.checkcast 56, 3) := dk_192 0 56 (dk_at dksX0_leaders_4 14 rfl rfl)
theorem dX0_leaders_109 : decode cX0_leaders 109 = .ok (.astore 7, 2) := dk_58 7 (dk_at dksX0_leaders_4 17 rfl rfl)
theorem dX0_leaders_111 : decode cX0_leaders 111 = .ok (.iload_n 3, 1) := dk_29 (dk_at dksX0_leaders_4 19 rfl rfl)
theorem dX0_leaders_112 : decode cX0_leaders 112 = .ok (.iconst 2, 1) := dk_5 (dk_at dksX0_leaders_4 20 rfl rfl)
theorem dX0_leaders_113 : decode cX0_leaders 113 = .ok (.iload 6, 2) := dk_21 6 (dk_at dksX0_leaders_4 21 rfl rfl)
theorem dX0_leaders_115 : decode cX0_leaders 115 = .ok (.imul, 1) := dk_104 (dk_at dksX0_leaders_4 23 rfl rfl)
theorem dX0_leaders_116 : decode cX0_leaders 116 = .ok (.isub, 1) := dk_100 (dk_at dksX0_leaders_5 0 rfl rfl)
theorem dX0_leaders_117 : decode cX0_leaders 117 = .ok (.istore 8, 2) := dk_54 8 (dk_at dksX0_leaders_5 1 rfl rfl)
theorem dX0_leaders_119 : decode cX0_leaders 119 = .ok (.iload 4, 2) := dk_21 4 (dk_at dksX0_leaders_5 3 rfl rfl)
theorem dX0_leaders_121 : decode cX0_leaders 121 = .ok (.iload 8, 2) := dk_21 8 (dk_at dksX0_leaders_5 5 rfl rfl)
theorem dX0_leaders_123 : decode cX0_leaders 123 = .ok (.aload 7, 2) := dk_25 7 (dk_at dksX0_leaders_5 7 rfl rfl)
theorem dX0_leaders_125 : decode cX0_leaders 125 = .ok (.getfield 62, 3) := dk_180 0 62 (dk_at dksX0_leaders_5 9 rfl rfl)
theorem dX0_leaders_128 : decode cX0_leaders 128 = .ok (.if_icmp .le 8, 3) := dk_164 0 8 (dk_at dksX0_leaders_5 12 rfl rfl)
theorem dX0_leaders_131 : decode cX0_leaders 131 = .ok (.iload 6, 2) := dk_21 6 (dk_at dksX0_leaders_5 15 rfl rfl)
theorem dX0_leaders_133 : decode cX0_leaders 133 = .ok (.goto 9, 3) := dk_167 0 9 (dk_at dksX0_leaders_5 17 rfl rfl)
theorem dX0_leaders_136 : decode cX0_leaders 136 = .ok (.iload_n 2, 1) := dk_28 (dk_at dksX0_leaders_5 20 rfl rfl)
theorem dX0_leaders_137 : decode cX0_leaders 137 = .ok (.iconst 1, 1) := dk_4 (dk_at dksX0_leaders_5 21 rfl rfl)
theorem dX0_leaders_138 : decode cX0_leaders 138 = .ok (.isub, 1) := dk_100 (dk_at dksX0_leaders_5 22 rfl rfl)
theorem dX0_leaders_139 : decode cX0_leaders 139 = .ok (.iload 6, 2) := dk_21 6 (dk_at dksX0_leaders_6 0 rfl rfl)
theorem dX0_leaders_141 : decode cX0_leaders 141 = .ok (.isub, 1) := dk_100 (dk_at dksX0_leaders_6 2 rfl rfl)
theorem dX0_leaders_142 : decode cX0_leaders 142 = .ok (.iadd, 1) := dk_96 (dk_at dksX0_leaders_6 3 rfl rfl)
theorem dX0_leaders_143 : decode cX0_leaders 143 = .ok (.istore 9, 2) := dk_54 9 (dk_at dksX0_leaders_6 4 rfl rfl)
theorem dX0_leaders_145 : decode cX0_leaders 145 = .ok (.aload 5, 2) := dk_25 5 (dk_at dksX0_leaders_6 6 rfl rfl)
theorem dX0_leaders_147 : decode cX0_leaders 147 = .ok (.new 288, 3) := dk_187 1 32 (dk_at dksX0_leaders_6 8 rfl rfl)
theorem dX0_leaders_150 : decode cX0_leaders 150 = .ok (.dup, 1) := dk_89 (dk_at dksX0_leaders_6 11 rfl rfl)
theorem dX0_leaders_151 : decode cX0_leaders 151 = .ok (.aload_n 1, 1) := dk_43 (dk_at dksX0_leaders_6 12 rfl rfl)
theorem dX0_leaders_152 : decode cX0_leaders 152 = .ok (.iload 6, 2) := dk_21 6 (dk_at dksX0_leaders_6 13 rfl rfl)
theorem dX0_leaders_154 : decode cX0_leaders 154 = .ok (.invokevirtual 52, 3) := dk_182 0 52 (dk_at dksX0_leaders_6 15 rfl rfl)
theorem dX0_leaders_157 : decode cX0_leaders 157 = .ok (.checkcast 132, 3) := dk_192 0 132 (dk_at dksX0_leaders_6 18 rfl rfl)
theorem dX0_leaders_160 : decode cX0_leaders 160 = .ok (.invokevirtual 222, 3) := dk_182 0 222 (dk_at dksX0_leaders_6 21 rfl rfl)
theorem dX0_leaders_163 : decode cX0_leaders 163 = .ok (.iload 8, 2) := dk_21 8 (dk_at dksX0_leaders_7 0 rfl rfl)
theorem dX0_leaders_165 : decode cX0_leaders 165 = .ok (.iload 9, 2) := dk_21 9 (dk_at dksX0_leaders_7 2 rfl rfl)
theorem dX0_leaders_167 : decode cX0_leaders 167 = .ok (.iload 4, 2) := dk_21 4 (dk_at dksX0_leaders_7 4 rfl rfl)
theorem dX0_leaders_169 : decode cX0_leaders 169 = .ok (.iload_n 2, 1) := dk_28 (dk_at dksX0_leaders_7 6 rfl rfl)
theorem dX0_leaders_170 : decode cX0_leaders 170 = .ok (.iadd, 1) := dk_96 (dk_at dksX0_leaders_7 7 rfl rfl)
theorem dX0_leaders_171 : decode cX0_leaders 171 = .ok (.aload 7, 2) := dk_25 7 (dk_at dksX0_leaders_7 8 rfl rfl)
theorem dX0_leaders_173 : decode cX0_leaders 173 = .ok (.getfield 58, 3) := dk_180 0 58 (dk_at dksX0_leaders_7 10 rfl rfl)
theorem dX0_leaders_176 : decode cX0_leaders 176 = .ok (.isub, 1) := dk_100 (dk_at dksX0_leaders_7 13 rfl rfl)
theorem dX0_leaders_177 : decode cX0_leaders 177 = .ok (.iload 8, 2) := dk_21 8 (dk_at dksX0_leaders_7 14 rfl rfl)
theorem dX0_leaders_179 : decode cX0_leaders 179 = .ok (.aload 7, 2) := dk_25 7 (dk_at dksX0_leaders_7 16 rfl rfl)
theorem dX0_leaders_181 : decode cX0_leaders 181 = .ok (.getfield 62, 3) := dk_180 0 62 (dk_at dksX0_leaders_7 18 rfl rfl)
theorem dX0_leaders_184 : decode cX0_leaders 184 = .ok (.isub, 1) := dk_100 (dk_at dksX0_leaders_7 21 rfl rfl)
theorem dX0_leaders_185 : decode cX0_leaders 185 = .ok (.invokestatic 290, 3) := dk_184 1 34 (dk_at dksX0_leaders_8 0 rfl rfl)
theorem dX0_leaders_188 : decode cX0_leaders 188 = .ok (.iadd, 1) := dk_96 (dk_at dksX0_leaders_8 3 rfl rfl)
theorem dX0_leaders_189 : decode cX0_leaders 189 = .ok (.invokespecial 295, 3) := dk_183 1 39 (dk_at dksX0_leaders_8 4 rfl rfl)
theorem dX0_leaders_192 : decode cX0_leaders 192 = .ok (.invokevirtual 147, 3) := dk_182 0 147 (dk_at dksX0_leaders_8 7 rfl rfl)
theorem dX0_leaders_195 : decode cX0_leaders 195 = .ok (.pop, 1) := dk_87 (dk_at dksX0_leaders_8 10 rfl rfl)
theorem dX0_leaders_196 : decode cX0_leaders 196 = .ok (.iinc 6 1, 3) := dk_132 6 1 (dk_at dksX0_leaders_8 11 rfl rfl)
theorem dX0_leaders_199 : decode cX0_leaders 199 = .ok (.goto (-118), 3) := dk_167 255 138 (dk_at dksX0_leaders_8 14 rfl rfl)
theorem dX0_leaders_202 : decode cX0_leaders 202 = .ok (.aload_n 0, 1) := dk_42 (dk_at dksX0_leaders_8 17 rfl rfl)
theorem dX0_leaders_203 : decode cX0_leaders 203 = .ok (.aload 5, 2) := dk_25 5 (dk_at dksX0_leaders_8 18 rfl rfl)
theorem dX0_leaders_205 : decode cX0_leaders 205 = .ok (.putfield 31, 3) := dk_181 0 31 (dk_at dksX0_leaders_8 20 rfl rfl)
theorem dX0_leaders_208 : decode cX0_leaders 208 = .ok (.iload_n 2, 1) := dk_28 (dk_at dksX0_leaders_8 23 rfl rfl)
theorem dX0_leaders_209 : decode cX0_leaders 209 = .ok (.ireturn, 1) := dk_172 (dk_at dksX0_leaders_9 0 rfl rfl)
abbrev cX0_unlabeled : ByteArray := prog_1_method_42_code
def yX0_unlabeled : MethodName := ⟨RX0, "unlabeled", "()Ljava/util/ArrayList;"⟩
def dkwX0_unlabeled_4 : List UInt8 := [28, 184, 0, 131, 182, 0, 228, 132, 2, 1, 167, 255, 162, 43, 176]
abbrev dktX0_unlabeled_4 : List UInt8 := dkwX0_unlabeled_4 ++ []
def dkwX0_unlabeled_3 : List UInt8 := [180, 0, 10, 28, 182, 0, 52, 192, 0, 56, 182, 1, 25, 153, 0, 9, 132, 3, 1, 167, 255, 206, 43, 29]
abbrev dktX0_unlabeled_3 : List UInt8 := dkwX0_unlabeled_3 ++ dktX0_unlabeled_4
def dkwX0_unlabeled_2 : List UInt8 := [42, 42, 180, 0, 10, 43, 29, 182, 0, 52, 192, 0, 132, 182, 0, 222, 182, 0, 52, 192, 0, 56, 42]
abbrev dktX0_unlabeled_2 : List UInt8 := dkwX0_unlabeled_2 ++ dktX0_unlabeled_3
def dkwX0_unlabeled_1 : List UInt8 := [182, 0, 80, 153, 0, 75, 42, 28, 182, 0, 115, 154, 0, 67, 3, 62, 29, 43, 182, 0, 44, 162, 0, 48]
abbrev dktX0_unlabeled_1 : List UInt8 := dkwX0_unlabeled_1 ++ dktX0_unlabeled_2
def dkwX0_unlabeled_0 : List UInt8 := [187, 0, 7, 89, 183, 0, 9, 76, 3, 61, 28, 42, 180, 0, 10, 182, 0, 44, 162, 0, 89, 42, 28]
abbrev dktX0_unlabeled_0 : List UInt8 := dkwX0_unlabeled_0 ++ dktX0_unlabeled_1
theorem dksX0_unlabeled_0 : cX0_unlabeled.data.toList.drop 0 = dktX0_unlabeled_0 := by decide +kernel
theorem dksX0_unlabeled_1 : cX0_unlabeled.data.toList.drop 23 = dktX0_unlabeled_1 := dk_seg dksX0_unlabeled_0 23 rfl rfl
theorem dksX0_unlabeled_2 : cX0_unlabeled.data.toList.drop 47 = dktX0_unlabeled_2 := dk_seg dksX0_unlabeled_1 24 rfl rfl
theorem dksX0_unlabeled_3 : cX0_unlabeled.data.toList.drop 70 = dktX0_unlabeled_3 := dk_seg dksX0_unlabeled_2 23 rfl rfl
theorem dksX0_unlabeled_4 : cX0_unlabeled.data.toList.drop 94 = dktX0_unlabeled_4 := dk_seg dksX0_unlabeled_3 24 rfl rfl
theorem dX0_unlabeled_0 : decode cX0_unlabeled 0 = .ok (.new 7, 3) := dk_187 0 7 (dk_at dksX0_unlabeled_0 0 rfl rfl)
theorem dX0_unlabeled_3 : decode cX0_unlabeled 3 = .ok (.dup, 1) := dk_89 (dk_at dksX0_unlabeled_0 3 rfl rfl)
theorem dX0_unlabeled_4 : decode cX0_unlabeled 4 = .ok (.invokespecial 9, 3) := dk_183 0 9 (dk_at dksX0_unlabeled_0 4 rfl rfl)
theorem dX0_unlabeled_7 : decode cX0_unlabeled 7 = .ok (.astore_n 1, 1) := dk_76 (dk_at dksX0_unlabeled_0 7 rfl rfl)
theorem dX0_unlabeled_8 : decode cX0_unlabeled 8 = .ok (.iconst 0, 1) := dk_3 (dk_at dksX0_unlabeled_0 8 rfl rfl)
theorem dX0_unlabeled_9 : decode cX0_unlabeled 9 = .ok (.istore_n 2, 1) := dk_61 (dk_at dksX0_unlabeled_0 9 rfl rfl)
theorem dX0_unlabeled_10 : decode cX0_unlabeled 10 = .ok (.iload_n 2, 1) := dk_28 (dk_at dksX0_unlabeled_0 10 rfl rfl)
theorem dX0_unlabeled_11 : decode cX0_unlabeled 11 = .ok (.aload_n 0, 1) := dk_42 (dk_at dksX0_unlabeled_0 11 rfl rfl)
theorem dX0_unlabeled_12 : decode cX0_unlabeled 12 = .ok (.getfield 10, 3) := dk_180 0 10 (dk_at dksX0_unlabeled_0 12 rfl rfl)
theorem dX0_unlabeled_15 : decode cX0_unlabeled 15 = .ok (.invokevirtual 44, 3) := dk_182 0 44 (dk_at dksX0_unlabeled_0 15 rfl rfl)
theorem dX0_unlabeled_18 : decode cX0_unlabeled 18 = .ok (.if_icmp .ge 89, 3) := dk_162 0 89 (dk_at dksX0_unlabeled_0 18 rfl rfl)
theorem dX0_unlabeled_21 : decode cX0_unlabeled 21 = .ok (.aload_n 0, 1) := dk_42 (dk_at dksX0_unlabeled_0 21 rfl rfl)
theorem dX0_unlabeled_22 : decode cX0_unlabeled 22 = .ok (.iload_n 2, 1) := dk_28 (dk_at dksX0_unlabeled_0 22 rfl rfl)
theorem dX0_unlabeled_23 : decode cX0_unlabeled 23 = .ok (.invokevirtual 80, 3) := dk_182 0 80 (dk_at dksX0_unlabeled_1 0 rfl rfl)
theorem dX0_unlabeled_26 : decode cX0_unlabeled 26 = .ok (.ifCond .eq 75, 3) := dk_153 0 75 (dk_at dksX0_unlabeled_1 3 rfl rfl)
theorem dX0_unlabeled_29 : decode cX0_unlabeled 29 = .ok (.aload_n 0, 1) := dk_42 (dk_at dksX0_unlabeled_1 6 rfl rfl)
theorem dX0_unlabeled_30 : decode cX0_unlabeled 30 = .ok (.iload_n 2, 1) := dk_28 (dk_at dksX0_unlabeled_1 7 rfl rfl)
theorem dX0_unlabeled_31 : decode cX0_unlabeled 31 = .ok (.invokevirtual 115, 3) := dk_182 0 115 (dk_at dksX0_unlabeled_1 8 rfl rfl)
theorem dX0_unlabeled_34 : decode cX0_unlabeled 34 = .ok (.ifCond .ne 67, 3) := dk_154 0 67 (dk_at dksX0_unlabeled_1 11 rfl rfl)
theorem dX0_unlabeled_37 : decode cX0_unlabeled 37 = .ok (.iconst 0, 1) := dk_3 (dk_at dksX0_unlabeled_1 14 rfl rfl)
theorem dX0_unlabeled_38 : decode cX0_unlabeled 38 = .ok (.istore_n 3, 1) := dk_62 (dk_at dksX0_unlabeled_1 15 rfl rfl)
theorem dX0_unlabeled_39 : decode cX0_unlabeled 39 = .ok (.iload_n 3, 1) := dk_29 (dk_at dksX0_unlabeled_1 16 rfl rfl)
theorem dX0_unlabeled_40 : decode cX0_unlabeled 40 = .ok (.aload_n 1, 1) := dk_43 (dk_at dksX0_unlabeled_1 17 rfl rfl)
theorem dX0_unlabeled_41 : decode cX0_unlabeled 41 = .ok (.invokevirtual 44, 3) := dk_182 0 44 (dk_at dksX0_unlabeled_1 18 rfl rfl)
theorem dX0_unlabeled_44 : decode cX0_unlabeled 44 = .ok (.if_icmp .ge 48, 3) := dk_162 0 48 (dk_at dksX0_unlabeled_1 21 rfl rfl)
theorem dX0_unlabeled_47 : decode cX0_unlabeled 47 = .ok (.aload_n 0, 1) := dk_42 (dk_at dksX0_unlabeled_2 0 rfl rfl)
theorem dX0_unlabeled_48 : decode cX0_unlabeled 48 = .ok (.aload_n 0, 1) := dk_42 (dk_at dksX0_unlabeled_2 1 rfl rfl)
theorem dX0_unlabeled_49 : decode cX0_unlabeled 49 = .ok (.getfield 10, 3) := dk_180 0 10 (dk_at dksX0_unlabeled_2 2 rfl rfl)
theorem dX0_unlabeled_52 : decode cX0_unlabeled 52 = .ok (.aload_n 1, 1) := dk_43 (dk_at dksX0_unlabeled_2 5 rfl rfl)
theorem dX0_unlabeled_53 : decode cX0_unlabeled 53 = .ok (.iload_n 3, 1) := dk_29 (dk_at dksX0_unlabeled_2 6 rfl rfl)
theorem dX0_unlabeled_54 : decode cX0_unlabeled 54 = .ok (.invokevirtual 52, 3) := dk_182 0 52 (dk_at dksX0_unlabeled_2 7 rfl rfl)
theorem dX0_unlabeled_57 : decode cX0_unlabeled 57 = .ok (.checkcast 132, 3) := dk_192 0 132 (dk_at dksX0_unlabeled_2 10 rfl rfl)
theorem dX0_unlabeled_60 : decode cX0_unlabeled 60 = .ok (.invokevirtual 222, 3) := dk_182 0 222 (dk_at dksX0_unlabeled_2 13 rfl rfl)
theorem dX0_unlabeled_63 : decode cX0_unlabeled 63 = .ok (.invokevirtual 52, 3) := dk_182 0 52 (dk_at dksX0_unlabeled_2 16 rfl rfl)
theorem dX0_unlabeled_66 : decode cX0_unlabeled 66 = .ok (.checkcast 56, 3) := dk_192 0 56 (dk_at dksX0_unlabeled_2 19 rfl rfl)
theorem dX0_unlabeled_69 : decode cX0_unlabeled 69 = .ok (.aload_n 0, 1) := dk_42 (dk_at dksX0_unlabeled_2 22 rfl rfl)
theorem dX0_unlabeled_70 : decode cX0_unlabeled 70 = .ok (.getfield 10, 3) := dk_180 0 10 (dk_at dksX0_unlabeled_3 0 rfl rfl)
theorem dX0_unlabeled_73 : decode cX0_unlabeled 73 = .ok (.iload_n 2, 1) := dk_28 (dk_at dksX0_unlabeled_3 3 rfl rfl)
theorem dX0_unlabeled_74 : decode cX0_unlabeled 74 = .ok (.invokevirtual 52, 3) := dk_182 0 52 (dk_at dksX0_unlabeled_3 4 rfl rfl)
theorem dX0_unlabeled_77 : decode cX0_unlabeled 77 = .ok (.checkcast 56, 3) := dk_192 0 56 (dk_at dksX0_unlabeled_3 7 rfl rfl)
theorem dX0_unlabeled_80 : decode cX0_unlabeled 80 = .ok (.invokevirtual 281, 3) := dk_182 1 25 (dk_at dksX0_unlabeled_3 10 rfl rfl)
theorem dX0_unlabeled_83 : decode cX0_unlabeled 83 = .ok (.ifCond .eq 9, 3) := dk_153 0 9 (dk_at dksX0_unlabeled_3 13 rfl rfl)
theorem dX0_unlabeled_86 : decode cX0_unlabeled 86 = .ok (.iinc 3 1, 3) := dk_132 3 1 (dk_at dksX0_unlabeled_3 16 rfl rfl)
theorem dX0_unlabeled_89 : decode cX0_unlabeled 89 = .ok (.goto (-50), 3) := dk_167 255 206 (dk_at dksX0_unlabeled_3 19 rfl rfl)
theorem dX0_unlabeled_92 : decode cX0_unlabeled 92 = .ok (.aload_n 1, 1) := dk_43 (dk_at dksX0_unlabeled_3 22 rfl rfl)
theorem dX0_unlabeled_93 : decode cX0_unlabeled 93 = .ok (.iload_n 3, 1) := dk_29 (dk_at dksX0_unlabeled_3 23 rfl rfl)
theorem dX0_unlabeled_94 : decode cX0_unlabeled 94 = .ok (.iload_n 2, 1) := dk_28 (dk_at dksX0_unlabeled_4 0 rfl rfl)
theorem dX0_unlabeled_95 : decode cX0_unlabeled 95 = .ok (.invokestatic 131, 3) := dk_184 0 131 (dk_at dksX0_unlabeled_4 1 rfl rfl)
theorem dX0_unlabeled_98 : decode cX0_unlabeled 98 = .ok (.invokevirtual 228, 3) := dk_182 0 228 (dk_at dksX0_unlabeled_4 4 rfl rfl)
theorem dX0_unlabeled_101 : decode cX0_unlabeled 101 = .ok (.iinc 2 1, 3) := dk_132 2 1 (dk_at dksX0_unlabeled_4 7 rfl rfl)
theorem dX0_unlabeled_104 : decode cX0_unlabeled 104 = .ok (.goto (-94), 3) := dk_167 255 162 (dk_at dksX0_unlabeled_4 10 rfl rfl)
theorem dX0_unlabeled_107 : decode cX0_unlabeled 107 = .ok (.aload_n 1, 1) := dk_43 (dk_at dksX0_unlabeled_4 13 rfl rfl)
theorem dX0_unlabeled_108 : decode cX0_unlabeled 108 = .ok (.areturn, 1) := dk_176 (dk_at dksX0_unlabeled_4 14 rfl rfl)
abbrev cX0_isAbove : ByteArray := prog_1_method_41_code
def yX0_isAbove : MethodName := ⟨RX0, "isAbove", "(LLabelPlacer$Point;LLabelPlacer$Point;)Z"⟩
def dkwX0_isAbove_1 : List UInt8 := [167, 0, 23, 3, 167, 0, 19, 43, 180, 0, 58, 44, 180, 0, 58, 162, 0, 7, 4, 167, 0, 4, 3, 172]
abbrev dktX0_isAbove_1 : List UInt8 := dkwX0_isAbove_1 ++ []
def dkwX0_isAbove_0 : List UInt8 := [43, 180, 0, 62, 44, 180, 0, 62, 159, 0, 22, 43, 180, 0, 62, 44, 180, 0, 62, 164, 0, 7, 4]
abbrev dktX0_isAbove_0 : List UInt8 := dkwX0_isAbove_0 ++ dktX0_isAbove_1
theorem dksX0_isAbove_0 : cX0_isAbove.data.toList.drop 0 = dktX0_isAbove_0 := by decide +kernel
theorem dksX0_isAbove_1 : cX0_isAbove.data.toList.drop 23 = dktX0_isAbove_1 := dk_seg dksX0_isAbove_0 23 rfl rfl
theorem dX0_isAbove_0 : decode cX0_isAbove 0 = .ok (.aload_n 1, 1) := dk_43 (dk_at dksX0_isAbove_0 0 rfl rfl)
theorem dX0_isAbove_1 : decode cX0_isAbove 1 = .ok (.getfield 62, 3) := dk_180 0 62 (dk_at dksX0_isAbove_0 1 rfl rfl)
theorem dX0_isAbove_4 : decode cX0_isAbove 4 = .ok (.aload_n 2, 1) := dk_44 (dk_at dksX0_isAbove_0 4 rfl rfl)
theorem dX0_isAbove_5 : decode cX0_isAbove 5 = .ok (.getfield 62, 3) := dk_180 0 62 (dk_at dksX0_isAbove_0 5 rfl rfl)
theorem dX0_isAbove_8 : decode cX0_isAbove 8 = .ok (.if_icmp .eq 22, 3) := dk_159 0 22 (dk_at dksX0_isAbove_0 8 rfl rfl)
theorem dX0_isAbove_11 : decode cX0_isAbove 11 = .ok (.aload_n 1, 1) := dk_43 (dk_at dksX0_isAbove_0 11 rfl rfl)
theorem dX0_isAbove_12 : decode cX0_isAbove 12 = .ok (.getfield 62, 3) := dk_180 0 62 (dk_at dksX0_isAbove_0 12 rfl rfl)
theorem dX0_isAbove_15 : decode cX0_isAbove 15 = .ok (.aload_n 2, 1) := dk_44 (dk_at dksX0_isAbove_0 15 rfl rfl)
theorem dX0_isAbove_16 : decode cX0_isAbove 16 = .ok (.getfield 62, 3) := dk_180 0 62 (dk_at dksX0_isAbove_0 16 rfl rfl)
theorem dX0_isAbove_19 : decode cX0_isAbove 19 = .ok (.if_icmp .le 7, 3) := dk_164 0 7 (dk_at dksX0_isAbove_0 19 rfl rfl)
theorem dX0_isAbove_22 : decode cX0_isAbove 22 = .ok (.iconst 1, 1) := dk_4 (dk_at dksX0_isAbove_0 22 rfl rfl)
theorem dX0_isAbove_23 : decode cX0_isAbove 23 = .ok (.goto 23, 3) := dk_167 0 23 (dk_at dksX0_isAbove_1 0 rfl rfl)
theorem dX0_isAbove_26 : decode cX0_isAbove 26 = .ok (.iconst 0, 1) := dk_3 (dk_at dksX0_isAbove_1 3 rfl rfl)
theorem dX0_isAbove_27 : decode cX0_isAbove 27 = .ok (.goto 19, 3) := dk_167 0 19 (dk_at dksX0_isAbove_1 4 rfl rfl)
theorem dX0_isAbove_30 : decode cX0_isAbove 30 = .ok (.aload_n 1, 1) := dk_43 (dk_at dksX0_isAbove_1 7 rfl rfl)
theorem dX0_isAbove_31 : decode cX0_isAbove 31 = .ok (.getfield 58, 3) := dk_180 0 58 (dk_at dksX0_isAbove_1 8 rfl rfl)
theorem dX0_isAbove_34 : decode cX0_isAbove 34 = .ok (.aload_n 2, 1) := dk_44 (dk_at dksX0_isAbove_1 11 rfl rfl)
theorem dX0_isAbove_35 : decode cX0_isAbove 35 = .ok (.getfield 58, 3) := dk_180 0 58 (dk_at dksX0_isAbove_1 12 rfl rfl)
theorem dX0_isAbove_38 : decode cX0_isAbove 38 = .ok (.if_icmp .ge 7, 3) := dk_162 0 7 (dk_at dksX0_isAbove_1 15 rfl rfl)
theorem dX0_isAbove_41 : decode cX0_isAbove 41 = .ok (.iconst 1, 1) := dk_4 (dk_at dksX0_isAbove_1 18 rfl rfl)
theorem dX0_isAbove_42 : decode cX0_isAbove 42 = .ok (.goto 4, 3) := dk_167 0 4 (dk_at dksX0_isAbove_1 19 rfl rfl)
theorem dX0_isAbove_45 : decode cX0_isAbove 45 = .ok (.iconst 0, 1) := dk_3 (dk_at dksX0_isAbove_1 22 rfl rfl)
theorem dX0_isAbove_46 : decode cX0_isAbove 46 = .ok (.ireturn, 1) := dk_172 (dk_at dksX0_isAbove_1 23 rfl rfl)
abbrev cX0_leader : ByteArray := prog_1_method_44_code
def yX0_leader : MethodName := ⟨RX0, "leader", "(II)I"⟩
def dkwX0_leader_3 : List UInt8 := [180, 1, 44, 167, 0, 7, 45, 180, 1, 47, 172]
abbrev dktX0_leader_3 : List UInt8 := dkwX0_leader_3 ++ []
def dkwX0_leader_2 : List UInt8 := [180, 1, 40, 167, 0, 31, 28, 4, 160, 0, 10, 45, 180, 1, 41, 167, 0, 19, 28, 5, 160, 0, 10, 45]
abbrev dktX0_leader_2 : List UInt8 := dkwX0_leader_2 ++ dktX0_leader_3
def dkwX0_leader_1 : List UInt8 := [161, 0, 5, 2, 172, 42, 180, 0, 31, 27, 182, 0, 52, 192, 1, 32, 78, 28, 154, 0, 10, 45]
abbrev dktX0_leader_1 : List UInt8 := dkwX0_leader_1 ++ dktX0_leader_2
def dkwX0_leader_0 : List UInt8 := [28, 3, 6, 184, 0, 48, 153, 0, 7, 27, 156, 0, 6, 16, 254, 172, 27, 42, 180, 0, 31, 182, 0, 44]
abbrev dktX0_leader_0 : List UInt8 := dkwX0_leader_0 ++ dktX0_leader_1
theorem dksX0_leader_0 : cX0_leader.data.toList.drop 0 = dktX0_leader_0 := by decide +kernel
theorem dksX0_leader_1 : cX0_leader.data.toList.drop 24 = dktX0_leader_1 := dk_seg dksX0_leader_0 24 rfl rfl
theorem dksX0_leader_2 : cX0_leader.data.toList.drop 46 = dktX0_leader_2 := dk_seg dksX0_leader_1 22 rfl rfl
theorem dksX0_leader_3 : cX0_leader.data.toList.drop 70 = dktX0_leader_3 := dk_seg dksX0_leader_2 24 rfl rfl
theorem dX0_leader_0 : decode cX0_leader 0 = .ok (.iload_n 2, 1) := dk_28 (dk_at dksX0_leader_0 0 rfl rfl)
theorem dX0_leader_1 : decode cX0_leader 1 = .ok (.iconst 0, 1) := dk_3 (dk_at dksX0_leader_0 1 rfl rfl)
theorem dX0_leader_2 : decode cX0_leader 2 = .ok (.iconst 3, 1) := dk_6 (dk_at dksX0_leader_0 2 rfl rfl)
theorem dX0_leader_3 : decode cX0_leader 3 = .ok (.invokestatic 48, 3) := dk_184 0 48 (dk_at dksX0_leader_0 3 rfl rfl)
theorem dX0_leader_6 : decode cX0_leader 6 = .ok (.ifCond .eq 7, 3) := dk_153 0 7 (dk_at dksX0_leader_0 6 rfl rfl)
theorem dX0_leader_9 : decode cX0_leader 9 = .ok (.iload_n 1, 1) := dk_27 (dk_at dksX0_leader_0 9 rfl rfl)
theorem dX0_leader_10 : decode cX0_leader 10 = .ok (.ifCond .ge 6, 3) := dk_156 0 6 (dk_at dksX0_leader_0 10 rfl rfl)
theorem dX0_leader_13 : decode cX0_leader 13 = .ok (.bipush (-2), 2) := dk_16 254 (dk_at dksX0_leader_0 13 rfl rfl)
theorem dX0_leader_15 : decode cX0_leader 15 = .ok (.ireturn, 1) := dk_172 (dk_at dksX0_leader_0 15 rfl rfl)
theorem dX0_leader_16 : decode cX0_leader 16 = .ok (.iload_n 1, 1) := dk_27 (dk_at dksX0_leader_0 16 rfl rfl)
theorem dX0_leader_17 : decode cX0_leader 17 = .ok (.aload_n 0, 1) := dk_42 (dk_at dksX0_leader_0 17 rfl rfl)
theorem dX0_leader_18 : decode cX0_leader 18 = .ok (.getfield 31, 3) := dk_180 0 31 (dk_at dksX0_leader_0 18 rfl rfl)
theorem dX0_leader_21 : decode cX0_leader 21 = .ok (.invokevirtual 44, 3) := dk_182 0 44 (dk_at dksX0_leader_0 21 rfl rfl)
theorem dX0_leader_24 : decode cX0_leader 24 = .ok (.if_icmp .lt 5, 3) := dk_161 0 5 (dk_at dksX0_leader_1 0 rfl rfl)
theorem dX0_leader_27 : decode cX0_leader 27 = .ok (.iconst (-1), 1) := dk_2 (dk_at dksX0_leader_1 3 rfl rfl)
theorem dX0_leader_28 : decode cX0_leader 28 = .ok (.ireturn, 1) := dk_172 (dk_at dksX0_leader_1 4 rfl rfl)
theorem dX0_leader_29 : decode cX0_leader 29 = .ok (.aload_n 0, 1) := dk_42 (dk_at dksX0_leader_1 5 rfl rfl)
theorem dX0_leader_30 : decode cX0_leader 30 = .ok (.getfield 31, 3) := dk_180 0 31 (dk_at dksX0_leader_1 6 rfl rfl)
theorem dX0_leader_33 : decode cX0_leader 33 = .ok (.iload_n 1, 1) := dk_27 (dk_at dksX0_leader_1 9 rfl rfl)
theorem dX0_leader_34 : decode cX0_leader 34 = .ok (.invokevirtual 52, 3) := dk_182 0 52 (dk_at dksX0_leader_1 10 rfl rfl)
theorem dX0_leader_37 : decode cX0_leader 37 = .ok (.checkcast 288, 3) := dk_192 1 32 (dk_at dksX0_leader_1 13 rfl rfl)
theorem dX0_leader_40 : decode cX0_leader 40 = .ok (.astore_n 3, 1) := dk_78 (dk_at dksX0_leader_1 16 rfl rfl)
theorem dX0_leader_41 : decode cX0_leader 41 = .ok (.iload_n 2, 1) := dk_28 (dk_at dksX0_leader_1 17 rfl rfl)
theorem dX0_leader_42 : decode cX0_leader 42 = .ok (.ifCond .ne 10, 3) := dk_154 0 10 (dk_at dksX0_leader_1 18 rfl rfl)
theorem dX0_leader_45 : decode cX0_leader 45 = .ok (.aload_n 3, 1) := dk_45 (dk_at dksX0_leader_1 21 rfl rfl)
theorem dX0_leader_46 : decode cX0_leader 46 = .ok (.getfield 296, 3) := dk_180 1 40 (dk_at dksX0_leader_2 0 rfl rfl)
theorem dX0_leader_49 : decode cX0_leader 49 = .ok (.goto 31, 3) := dk_167 0 31 (dk_at dksX0_leader_2 3 rfl rfl)
theorem dX0_leader_52 : decode cX0_leader 52 = .ok (.iload_n 2, 1) := dk_28 (dk_at dksX0_leader_2 6 rfl rfl)
theorem dX0_leader_53 : decode cX0_leader 53 = .ok (.iconst 1, 1) := dk_4 (dk_at dksX0_leader_2 7 rfl rfl)
theorem dX0_leader_54 : decode cX0_leader 54 = .ok (.if_icmp .ne 10, 3) := dk_160 0 10 (dk_at dksX0_leader_2 8 rfl rfl)
theorem dX0_leader_57 : decode cX0_leader 57 = .ok (.aload_n 3, 1) := dk_45 (dk_at dksX0_leader_2 11 rfl rfl)
theorem dX0_leader_58 : decode cX0_leader 58 = .ok (.getfield 297, 3) := dk_180 1 41 (dk_at dksX0_leader_2 12 rfl rfl)
theorem dX0_leader_61 : decode cX0_leader 61 = .ok (.goto 19, 3) := dk_167 0 19 (dk_at dksX0_leader_2 15 rfl rfl)
theorem dX0_leader_64 : decode cX0_leader 64 = .ok (.iload_n 2, 1) := dk_28 (dk_at dksX0_leader_2 18 rfl rfl)
theorem dX0_leader_65 : decode cX0_leader 65 = .ok (.iconst 2, 1) := dk_5 (dk_at dksX0_leader_2 19 rfl rfl)
theorem dX0_leader_66 : decode cX0_leader 66 = .ok (.if_icmp .ne 10, 3) := dk_160 0 10 (dk_at dksX0_leader_2 20 rfl rfl)
theorem dX0_leader_69 : decode cX0_leader 69 = .ok (.aload_n 3, 1) := dk_45 (dk_at dksX0_leader_2 23 rfl rfl)
theorem dX0_leader_70 : decode cX0_leader 70 = .ok (.getfield 300, 3) := dk_180 1 44 (dk_at dksX0_leader_3 0 rfl rfl)
theorem dX0_leader_73 : decode cX0_leader 73 = .ok (.goto 7, 3) := dk_167 0 7 (dk_at dksX0_leader_3 3 rfl rfl)
theorem dX0_leader_76 : decode cX0_leader 76 = .ok (.aload_n 3, 1) := dk_45 (dk_at dksX0_leader_3 6 rfl rfl)
theorem dX0_leader_77 : decode cX0_leader 77 = .ok (.getfield 303, 3) := dk_180 1 47 (dk_at dksX0_leader_3 7 rfl rfl)
theorem dX0_leader_80 : decode cX0_leader 80 = .ok (.ireturn, 1) := dk_172 (dk_at dksX0_leader_3 10 rfl rfl)
abbrev cX0_type : ByteArray := prog_1_method_45_code
def yX0_type : MethodName := ⟨RX0, "type", "(I)I"⟩
def dkwX0_type_2 : List UInt8 := [180, 0, 37, 89, 180, 1, 50, 4, 96, 181, 1, 50, 42, 180, 0, 37, 180, 1, 50, 172]
abbrev dktX0_type_2 : List UInt8 := dkwX0_type_2 ++ []
def dkwX0_type_1 : List UInt8 := [160, 0, 6, 16, 252, 172, 42, 180, 0, 37, 180, 1, 51, 42, 180, 0, 37, 180, 1, 50, 27, 145, 84, 42]
abbrev dktX0_type_1 : List UInt8 := dkwX0_type_1 ++ dktX0_type_2
def dkwX0_type_0 : List UInt8 := [27, 3, 16, 127, 184, 0, 48, 154, 0, 6, 16, 254, 172, 42, 180, 0, 37, 180, 1, 50, 16, 80]
abbrev dktX0_type_0 : List UInt8 := dkwX0_type_0 ++ dktX0_type_1
theorem dksX0_type_0 : cX0_type.data.toList.drop 0 = dktX0_type_0 := by decide +kernel
theorem dksX0_type_1 : cX0_type.data.toList.drop 22 = dktX0_type_1 := dk_seg dksX0_type_0 22 rfl rfl
theorem dksX0_type_2 : cX0_type.data.toList.drop 46 = dktX0_type_2 := dk_seg dksX0_type_1 24 rfl rfl
theorem dX0_type_0 : decode cX0_type 0 = .ok (.iload_n 1, 1) := dk_27 (dk_at dksX0_type_0 0 rfl rfl)
theorem dX0_type_1 : decode cX0_type 1 = .ok (.iconst 0, 1) := dk_3 (dk_at dksX0_type_0 1 rfl rfl)
theorem dX0_type_2 : decode cX0_type 2 = .ok (.bipush 127, 2) := dk_16 127 (dk_at dksX0_type_0 2 rfl rfl)
theorem dX0_type_4 : decode cX0_type 4 = .ok (.invokestatic 48, 3) := dk_184 0 48 (dk_at dksX0_type_0 4 rfl rfl)
theorem dX0_type_7 : decode cX0_type 7 = .ok (.ifCond .ne 6, 3) := dk_154 0 6 (dk_at dksX0_type_0 7 rfl rfl)
theorem dX0_type_10 : decode cX0_type 10 = .ok (.bipush (-2), 2) := dk_16 254 (dk_at dksX0_type_0 10 rfl rfl)
theorem dX0_type_12 : decode cX0_type 12 = .ok (.ireturn, 1) := dk_172 (dk_at dksX0_type_0 12 rfl rfl)
theorem dX0_type_13 : decode cX0_type 13 = .ok (.aload_n 0, 1) := dk_42 (dk_at dksX0_type_0 13 rfl rfl)
theorem dX0_type_14 : decode cX0_type 14 = .ok (.getfield 37, 3) := dk_180 0 37 (dk_at dksX0_type_0 14 rfl rfl)
theorem dX0_type_17 : decode cX0_type 17 = .ok (.getfield 306, 3) := dk_180 1 50 (dk_at dksX0_type_0 17 rfl rfl)
theorem dX0_type_20 : decode cX0_type 20 = .ok (.bipush 80, 2) := dk_16 80 (dk_at dksX0_type_0 20 rfl rfl)
theorem dX0_type_22 : decode cX0_type 22 = .ok (.if_icmp .ne 6, 3) := dk_160 0 6 (dk_at dksX0_type_1 0 rfl rfl)
theorem dX0_type_25 : decode cX0_type 25 = .ok (.bipush (-4), 2) := dk_16 252 (dk_at dksX0_type_1 3 rfl rfl)
theorem dX0_type_27 : decode cX0_type 27 = .ok (.ireturn, 1) := dk_172 (dk_at dksX0_type_1 5 rfl rfl)
theorem dX0_type_28 : decode cX0_type 28 = .ok (.aload_n 0, 1) := dk_42 (dk_at dksX0_type_1 6 rfl rfl)
theorem dX0_type_29 : decode cX0_type 29 = .ok (.getfield 37, 3) := dk_180 0 37 (dk_at dksX0_type_1 7 rfl rfl)
theorem dX0_type_32 : decode cX0_type 32 = .ok (.getfield 307, 3) := dk_180 1 51 (dk_at dksX0_type_1 10 rfl rfl)
theorem dX0_type_35 : decode cX0_type 35 = .ok (.aload_n 0, 1) := dk_42 (dk_at dksX0_type_1 13 rfl rfl)
theorem dX0_type_36 : decode cX0_type 36 = .ok (.getfield 37, 3) := dk_180 0 37 (dk_at dksX0_type_1 14 rfl rfl)
theorem dX0_type_39 : decode cX0_type 39 = .ok (.getfield 306, 3) := dk_180 1 50 (dk_at dksX0_type_1 17 rfl rfl)
theorem dX0_type_42 : decode cX0_type 42 = .ok (.iload_n 1, 1) := dk_27 (dk_at dksX0_type_1 20 rfl rfl)
theorem dX0_type_43 : decode cX0_type 43 = .ok (.i2b, 1) := dk_145 (dk_at dksX0_type_1 21 rfl rfl)
theorem dX0_type_44 : decode cX0_type 44 = .ok (.bastore, 1) := dk_84 (dk_at dksX0_type_1 22 rfl rfl)
theorem dX0_type_45 : decode cX0_type 45 = .ok (.aload_n 0, 1) := dk_42 (dk_at dksX0_type_1 23 rfl rfl)
theorem dX0_type_46 : decode cX0_type 46 = .ok (.getfield 37, 3) := dk_180 0 37 (dk_at dksX0_type_2 0 rfl rfl)
theorem dX0_type_49 : decode cX0_type 49 = .ok (.dup, 1) := dk_89 (dk_at dksX0_type_2 3 rfl rfl)
theorem dX0_type_50 : decode cX0_type 50 = .ok (.getfield 306, 3) := dk_180 1 50 (dk_at dksX0_type_2 4 rfl rfl)
theorem dX0_type_53 : decode cX0_type 53 = .ok (.iconst 1, 1) := dk_4 (dk_at dksX0_type_2 7 rfl rfl)
theorem dX0_type_54 : decode cX0_type 54 = .ok (.iadd, 1) := dk_96 (dk_at dksX0_type_2 8 rfl rfl)
theorem dX0_type_55 : decode cX0_type 55 = .ok (.putfield 306, 3) := dk_181 1 50 (dk_at dksX0_type_2 9 rfl rfl)
theorem dX0_type_58 : decode cX0_type 58 = .ok (.aload_n 0, 1) := dk_42 (dk_at dksX0_type_2 12 rfl rfl)
theorem dX0_type_59 : decode cX0_type 59 = .ok (.getfield 37, 3) := dk_180 0 37 (dk_at dksX0_type_2 13 rfl rfl)
theorem dX0_type_62 : decode cX0_type 62 = .ok (.getfield 306, 3) := dk_180 1 50 (dk_at dksX0_type_2 16 rfl rfl)
theorem dX0_type_65 : decode cX0_type 65 = .ok (.ireturn, 1) := dk_172 (dk_at dksX0_type_2 19 rfl rfl)
abbrev cX0_clear : ByteArray := prog_1_method_46_code
def yX0_clear : MethodName := ⟨RX0, "clear", "()I"⟩
def dkwX0_clear_0 : List UInt8 := [42, 180, 0, 37, 180, 1, 50, 60, 42, 180, 0, 37, 3, 181, 1, 50, 27, 172]
abbrev dktX0_clear_0 : List UInt8 := dkwX0_clear_0 ++ []
theorem dksX0_clear_0 : cX0_clear.data.toList.drop 0 = dktX0_clear_0 := by decide +kernel
theorem dX0_clear_0 : decode cX0_clear 0 = .ok (.aload_n 0, 1) := dk_42 (dk_at dksX0_clear_0 0 rfl rfl)
theorem dX0_clear_1 : decode cX0_clear 1 = .ok (.getfield 37, 3) := dk_180 0 37 (dk_at dksX0_clear_0 1 rfl rfl)
theorem dX0_clear_4 : decode cX0_clear 4 = .ok (.getfield 306, 3) := dk_180 1 50 (dk_at dksX0_clear_0 4 rfl rfl)
theorem dX0_clear_7 : decode cX0_clear 7 = .ok (.istore_n 1, 1) := dk_60 (dk_at dksX0_clear_0 7 rfl rfl)
theorem dX0_clear_8 : decode cX0_clear 8 = .ok (.aload_n 0, 1) := dk_42 (dk_at dksX0_clear_0 8 rfl rfl)
theorem dX0_clear_9 : decode cX0_clear 9 = .ok (.getfield 37, 3) := dk_180 0 37 (dk_at dksX0_clear_0 9 rfl rfl)
theorem dX0_clear_12 : decode cX0_clear 12 = .ok (.iconst 0, 1) := dk_3 (dk_at dksX0_clear_0 12 rfl rfl)
theorem dX0_clear_13 : decode cX0_clear 13 = .ok (.putfield 306, 3) := dk_181 1 50 (dk_at dksX0_clear_0 13 rfl rfl)
theorem dX0_clear_16 : decode cX0_clear 16 = .ok (.iload_n 1, 1) := dk_27 (dk_at dksX0_clear_0 16 rfl rfl)
theorem dX0_clear_17 : decode cX0_clear 17 = .ok (.ireturn, 1) := dk_172 (dk_at dksX0_clear_0 17 rfl rfl)
abbrev cX0_run : ByteArray := prog_1_method_47_code
def yX0_run : MethodName := ⟨RX0, "run", "()I"⟩
def dkwX0_run_2 : List UInt8 := [172]
abbrev dktX0_run_2 : List UInt8 := dkwX0_run_2 ++ []
def dkwX0_run_1 : List UInt8 := [100, 172, 42, 180, 0, 37, 3, 181, 1, 50, 43, 180, 1, 68, 42, 43, 180, 1, 72, 185, 1, 76, 3, 0]
abbrev dktX0_run_1 : List UInt8 := dkwX0_run_1 ++ dktX0_run_2
def dkwX0_run_0 : List UInt8 := [187, 1, 55, 89, 42, 183, 1, 57, 76, 43, 182, 1, 60, 167, 0, 13, 77, 17, 248, 48, 44, 180, 1, 65]
abbrev dktX0_run_0 : List UInt8 := dkwX0_run_0 ++ dktX0_run_1
theorem dksX0_run_0 : cX0_run.data.toList.drop 0 = dktX0_run_0 := by decide +kernel
theorem dksX0_run_1 : cX0_run.data.toList.drop 24 = dktX0_run_1 := dk_seg dksX0_run_0 24 rfl rfl
theorem dksX0_run_2 : cX0_run.data.toList.drop 48 = dktX0_run_2 := dk_seg dksX0_run_1 24 rfl rfl
theorem dX0_run_0 : decode cX0_run 0 = .ok (.new 311, 3) := dk_187 1 55 (dk_at dksX0_run_0 0 rfl rfl)
theorem dX0_run_3 : decode cX0_run 3 = .ok (.dup, 1) := dk_89 (dk_at dksX0_run_0 3 rfl rfl)
theorem dX0_run_4 : decode cX0_run 4 = .ok (.aload_n 0, 1) := dk_42 (dk_at dksX0_run_0 4 rfl rfl)
theorem dX0_run_5 : decode cX0_run 5 = .ok (.invokespecial 313, 3) := dk_183 1 57 (dk_at dksX0_run_0 5 rfl rfl)
theorem dX0_run_8 : decode cX0_run 8 = .ok (.astore_n 1, 1) := dk_76 (dk_at dksX0_run_0 8 rfl rfl)
theorem dX0_run_9 : decode cX0_run 9 = .ok (.aload_n 1, 1) := dk_43 (dk_at dksX0_run_0 9 rfl rfl)
theorem dX0_run_10 : decode cX0_run 10 = .ok (.invokevirtual 316, 3) := dk_182 1 60 (dk_at dksX0_run_0 10 rfl rfl)
theorem dX0_run_13 : decode cX0_run 13 = .ok (.goto 13, 3) := dk_167 0 13 (dk_at dksX0_run_0 13 rfl rfl)
theorem dX0_run_16 : decode cX0_run 16 = .ok (.astore_n 2, 1) := dk_77 (dk_at dksX0_run_0 16 rfl rfl)
theorem dX0_run_17 : decode cX0_run 17 = .ok (.sipush (-2000), 3) := dk_17 248 48 (dk_at dksX0_run_0 17 rfl rfl)
theorem dX0_run_20 : decode cX0_run 20 = .ok (.aload_n 2, 1) := dk_44 (dk_at dksX0_run_0 20 rfl rfl)
theorem dX0_run_21 : decode cX0_run 21 = .ok (.getfield 321, 3) := dk_180 1 65 (dk_at dksX0_run_0 21 rfl rfl)
theorem dX0_run_24 : decode cX0_run 24 = .ok (.isub, 1) := dk_100 (dk_at dksX0_run_1 0 rfl rfl)
theorem dX0_run_25 : decode cX0_run 25 = .ok (.ireturn, 1) := dk_172 (dk_at dksX0_run_1 1 rfl rfl)
theorem dX0_run_26 : decode cX0_run 26 = .ok (.aload_n 0, 1) := dk_42 (dk_at dksX0_run_1 2 rfl rfl)
theorem dX0_run_27 : decode cX0_run 27 = .ok (.getfield 37, 3) := dk_180 0 37 (dk_at dksX0_run_1 3 rfl rfl)
theorem dX0_run_30 : decode cX0_run 30 = .ok (.iconst 0, 1) := dk_3 (dk_at dksX0_run_1 6 rfl rfl)
theorem dX0_run_31 : decode cX0_run 31 = .ok (.putfield 306, 3) := dk_181 1 50 (dk_at dksX0_run_1 7 rfl rfl)
theorem dX0_run_34 : decode cX0_run 34 = .ok (.aload_n 1, 1) := dk_43 (dk_at dksX0_run_1 10 rfl rfl)
theorem dX0_run_35 : decode cX0_run 35 = .ok (.getfield 324, 3) := dk_180 1 68 (dk_at dksX0_run_1 11 rfl rfl)
theorem dX0_run_38 : decode cX0_run 38 = .ok (.aload_n 0, 1) := dk_42 (dk_at dksX0_run_1 14 rfl rfl)
theorem dX0_run_39 : decode cX0_run 39 = .ok (.aload_n 1, 1) := dk_43 (dk_at dksX0_run_1 15 rfl rfl)
theorem dX0_run_40 : decode cX0_run 40 = .ok (.getfield 328, 3) := dk_180 1 72 (dk_at dksX0_run_1 16 rfl rfl)
theorem dX0_run_43 : decode cX0_run 43 = .ok (.invokeinterface 332 3, 5) := by decide +kernel
theorem dX0_run_48 : decode cX0_run 48 = .ok (.ireturn, 1) := dk_172 (dk_at dksX0_run_2 0 rfl rfl)
abbrev cX0_count : ByteArray := prog_1_method_51_code
def yX0_count : MethodName := ⟨RX0, "count", "(I)I"⟩
def dkwX0_count_6 : List UInt8 := [167, 0, 22, 42, 180, 0, 37, 180, 1, 50, 167, 0, 12, 42, 182, 1, 89, 167, 0, 5, 16, 254, 172]
abbrev dktX0_count_6 : List UInt8 := dkwX0_count_6 ++ []
def dkwX0_count_5 : List UInt8 := [180, 0, 178, 167, 0, 42, 42, 180, 0, 21, 180, 0, 184, 167, 0, 32, 42, 180, 0, 31, 182, 0, 44]
abbrev dktX0_count_5 : List UInt8 := dkwX0_count_5 ++ dktX0_count_6
def dkwX0_count_4 : List UInt8 := [42, 180, 0, 21, 180, 0, 175, 167, 0, 62, 42, 180, 0, 21, 180, 0, 181, 167, 0, 52, 42, 180, 0, 21]
abbrev dktX0_count_4 : List UInt8 := dkwX0_count_4 ++ dktX0_count_5
def dkwX0_count_3 : List UInt8 := [167, 0, 93, 42, 182, 1, 83, 167, 0, 86, 42, 182, 0, 187, 167, 0, 79, 42, 182, 1, 86, 167, 0, 72]
abbrev dktX0_count_3 : List UInt8 := dkwX0_count_3 ++ dktX0_count_4
def dkwX0_count_2 : List UInt8 := [42, 180, 0, 10, 182, 0, 44, 167, 0, 110, 42, 182, 0, 172, 167, 0, 103, 42, 182, 0, 102, 182, 1, 82]
abbrev dktX0_count_2 : List UInt8 := dkwX0_count_2 ++ dktX0_count_3
def dkwX0_count_1 : List UInt8 := [170, 0, 0, 0, 0, 0, 182, 0, 0, 0, 0, 0, 0, 0, 12, 0, 0, 0, 67, 0, 0, 0, 77, 0, 0, 0, 84, 0, 0, 0, 94, 0, 0, 0, 101, 0, 0, 0, 108, 0, 0, 0, 115, 0, 0, 0, 125, 0, 0, 0, 135, 0, 0, 0, 145, 0, 0, 0, 155, 0, 0, 0, 165, 0, 0, 0, 175]
abbrev dktX0_count_1 : List UInt8 := dkwX0_count_1 ++ dktX0_count_2
def dkwX0_count_0 : List UInt8 := [27]
abbrev dktX0_count_0 : List UInt8 := dkwX0_count_0 ++ dktX0_count_1
theorem dksX0_count_0 : cX0_count.data.toList.drop 0 = dktX0_count_0 := by decide +kernel
theorem dksX0_count_1 : cX0_count.data.toList.drop 1 = dktX0_count_1 := dk_seg dksX0_count_0 1 rfl rfl
theorem dksX0_count_2 : cX0_count.data.toList.drop 68 = dktX0_count_2 := dk_seg dksX0_count_1 67 rfl rfl
theorem dksX0_count_3 : cX0_count.data.toList.drop 92 = dktX0_count_3 := dk_seg dksX0_count_2 24 rfl rfl
theorem dksX0_count_4 : cX0_count.data.toList.drop 116 = dktX0_count_4 := dk_seg dksX0_count_3 24 rfl rfl
theorem dksX0_count_5 : cX0_count.data.toList.drop 140 = dktX0_count_5 := dk_seg dksX0_count_4 24 rfl rfl
theorem dksX0_count_6 : cX0_count.data.toList.drop 163 = dktX0_count_6 := dk_seg dksX0_count_5 23 rfl rfl
theorem dX0_count_0 : decode cX0_count 0 = .ok (.iload_n 1, 1) := dk_27 (dk_at dksX0_count_0 0 rfl rfl)
theorem dX0_count_1 : decode cX0_count 1 = .ok (.tableswitch 182 0 12 #[67, 77, 84, 94, 101, 108, 115, 125, 135, 145, 155, 165, 175], 67) := by decide +kernel
theorem dX0_count_68 : decode cX0_count 68 = .ok (.aload_n 0, 1) := dk_42 (dk_at dksX0_count_2 0 rfl rfl)
theorem dX0_count_69 : decode cX0_count 69 = .ok (.getfield 10, 3) := dk_180 0 10 (dk_at dksX0_count_2 1 rfl rfl)
theorem dX0_count_72 : decode cX0_count 72 = .ok (.invokevirtual 44, 3) := dk_182 0 44 (dk_at dksX0_count_2 4 rfl rfl)
theorem dX0_count_75 : decode cX0_count 75 = .ok (.goto 110, 3) := dk_167 0 110 (dk_at dksX0_count_2 7 rfl rfl)
theorem dX0_count_78 : decode cX0_count 78 = .ok (.aload_n 0, 1) := dk_42 (dk_at dksX0_count_2 10 rfl rfl)
theorem dX0_count_79 : decode cX0_count 79 = .ok (.invokevirtual 172, 3) := dk_182 0 172 (dk_at dksX0_count_2 11 rfl rfl)
theorem dX0_count_82 : decode cX0_count 82 = .ok (.goto 103, 3) := dk_167 0 103 (dk_at dksX0_count_2 14 rfl rfl)
theorem dX0_count_85 : decode cX0_count 85 = .ok (.aload_n 0, 1) := dk_42 (dk_at dksX0_count_2 17 rfl rfl)
theorem dX0_count_86 : decode cX0_count 86 = .ok (.invokevirtual 102, 3) := dk_182 0 102 (dk_at dksX0_count_2 18 rfl rfl)
theorem dX0_count_89 : decode cX0_count 89 = .ok (.invokevirtual 338, 3) := dk_182 1 82 (dk_at dksX0_count_2 21 rfl rfl)
theorem dX0_count_92 : decode cX0_count 92 = .ok (.goto 93, 3) := dk_167 0 93 (dk_at dksX0_count_3 0 rfl rfl)
theorem dX0_count_95 : decode cX0_count 95 = .ok (.aload_n 0, 1) := dk_42 (dk_at dksX0_count_3 3 rfl rfl)
theorem dX0_count_96 : decode cX0_count 96 = .ok (.invokevirtual 339, 3) := dk_182 1 83 (dk_at dksX0_count_3 4 rfl rfl)
theorem dX0_count_99 : decode cX0_count 99 = .ok (.goto 86, 3) := dk_167 0 86 (dk_at dksX0_count_3 7 rfl rfl)
theorem dX0_count_102 : decode cX0_count 102 = .ok (.aload_n 0, 1) := dk_42 (dk_at dksX0_count_3 10 rfl rfl)
theorem dX0_count_103 : decode cX0_count 103 = .ok (.invokevirtual 187, 3) := dk_182 0 187 (dk_at dksX0_count_3 11 rfl rfl)
theorem dX0_count_106 : decode cX0_count 106 = .ok (.goto 79, 3) := dk_167 0 79 (dk_at dksX0_count_3 14 rfl rfl)
theorem dX0_count_109 : decode cX0_count 109 = .ok (.aload_n 0, 1) := dk_42 (dk_at dksX0_count_3 17 rfl rfl)
theorem dX0_count_110 : decode cX0_count 110 = .ok (.invokevirtual 342, 3) := dk_182 1 86 (dk_at dksX0_count_3 18 rfl rfl)
theorem dX0_count_113 : decode cX0_count 113 = .ok (.goto 72, 3) := dk_167 0 72 (dk_at dksX0_count_3 21 rfl rfl)
theorem dX0_count_116 : decode cX0_count 116 = .ok (.aload_n 0, 1) := dk_42 (dk_at dksX0_count_4 0 rfl rfl)
theorem dX0_count_117 : decode cX0_count 117 = .ok (.getfield 21, 3) := dk_180 0 21 (dk_at dksX0_count_4 1 rfl rfl)
theorem dX0_count_120 : decode cX0_count 120 = .ok (.getfield 175, 3) := dk_180 0 175 (dk_at dksX0_count_4 4 rfl rfl)
theorem dX0_count_123 : decode cX0_count 123 = .ok (.goto 62, 3) := dk_167 0 62 (dk_at dksX0_count_4 7 rfl rfl)
theorem dX0_count_126 : decode cX0_count 126 = .ok (.aload_n 0, 1) := dk_42 (dk_at dksX0_count_4 10 rfl rfl)
theorem dX0_count_127 : decode cX0_count 127 = .ok (.getfield 21, 3) := dk_180 0 21 (dk_at dksX0_count_4 11 rfl rfl)
theorem dX0_count_130 : decode cX0_count 130 = .ok (.getfield 181, 3) := dk_180 0 181 (dk_at dksX0_count_4 14 rfl rfl)
theorem dX0_count_133 : decode cX0_count 133 = .ok (.goto 52, 3) := dk_167 0 52 (dk_at dksX0_count_4 17 rfl rfl)
theorem dX0_count_136 : decode cX0_count 136 = .ok (.aload_n 0, 1) := dk_42 (dk_at dksX0_count_4 20 rfl rfl)
theorem dX0_count_137 : decode cX0_count 137 = .ok (.getfield 21, 3) := dk_180 0 21 (dk_at dksX0_count_4 21 rfl rfl)
theorem dX0_count_140 : decode cX0_count 140 = .ok (.getfield 178, 3) := dk_180 0 178 (dk_at dksX0_count_5 0 rfl rfl)
theorem dX0_count_143 : decode cX0_count 143 = .ok (.goto 42, 3) := dk_167 0 42 (dk_at dksX0_count_5 3 rfl rfl)
theorem dX0_count_146 : decode cX0_count 146 = .ok (.aload_n 0, 1) := dk_42 (dk_at dksX0_count_5 6 rfl rfl)
theorem dX0_count_147 : decode cX0_count 147 = .ok (.getfield 21, 3) := dk_180 0 21 (dk_at dksX0_count_5 7 rfl rfl)
theorem dX0_count_150 : decode cX0_count 150 = .ok (.getfield 184, 3) := dk_180 0 184 (dk_at dksX0_count_5 10 rfl rfl)
theorem dX0_count_153 : decode cX0_count 153 = .ok (.goto 32, 3) := dk_167 0 32 (dk_at dksX0_count_5 13 rfl rfl)
theorem dX0_count_156 : decode cX0_count 156 = .ok (.aload_n 0, 1) := dk_42 (dk_at dksX0_count_5 16 rfl rfl)
theorem dX0_count_157 : decode cX0_count 157 = .ok (.getfield 31, 3) := dk_180 0 31 (dk_at dksX0_count_5 17 rfl rfl)
theorem dX0_count_160 : decode cX0_count 160 = .ok (.invokevirtual 44, 3) := dk_182 0 44 (dk_at dksX0_count_5 20 rfl rfl)
theorem dX0_count_163 : decode cX0_count 163 = .ok (.goto 22, 3) := dk_167 0 22 (dk_at dksX0_count_6 0 rfl rfl)
theorem dX0_count_166 : decode cX0_count 166 = .ok (.aload_n 0, 1) := dk_42 (dk_at dksX0_count_6 3 rfl rfl)
theorem dX0_count_167 : decode cX0_count 167 = .ok (.getfield 37, 3) := dk_180 0 37 (dk_at dksX0_count_6 4 rfl rfl)
theorem dX0_count_170 : decode cX0_count 170 = .ok (.getfield 306, 3) := dk_180 1 50 (dk_at dksX0_count_6 7 rfl rfl)
theorem dX0_count_173 : decode cX0_count 173 = .ok (.goto 12, 3) := dk_167 0 12 (dk_at dksX0_count_6 10 rfl rfl)
theorem dX0_count_176 : decode cX0_count 176 = .ok (.aload_n 0, 1) := dk_42 (dk_at dksX0_count_6 13 rfl rfl)
theorem dX0_count_177 : decode cX0_count 177 = .ok (.invokevirtual 345, 3) := dk_182 1 89 (dk_at dksX0_count_6 14 rfl rfl)
theorem dX0_count_180 : decode cX0_count 180 = .ok (.goto 5, 3) := dk_167 0 5 (dk_at dksX0_count_6 17 rfl rfl)
theorem dX0_count_183 : decode cX0_count 183 = .ok (.bipush (-2), 2) := dk_16 254 (dk_at dksX0_count_6 20 rfl rfl)
theorem dX0_count_185 : decode cX0_count 185 = .ok (.ireturn, 1) := dk_172 (dk_at dksX0_count_6 22 rfl rfl)
abbrev cX0_clashingPairs : ByteArray := prog_1_method_48_code
def yX0_clashingPairs : MethodName := ⟨RX0, "clashingPairs", "()I"⟩
def dkwX0_clashingPairs_2 : List UInt8 := [182, 0, 214, 96, 60, 167, 255, 218, 27, 5, 108, 172]
abbrev dktX0_clashingPairs_2 : List UInt8 := dkwX0_clashingPairs_2 ++ []
def dkwX0_clashingPairs_1 : List UInt8 := [44, 185, 0, 207, 1, 0, 192, 0, 25, 78, 27, 42, 45, 42, 182, 0, 102, 45, 182, 0, 109, 192, 0, 16]
abbrev dktX0_clashingPairs_1 : List UInt8 := dkwX0_clashingPairs_1 ++ dktX0_clashingPairs_2
def dkwX0_clashingPairs_0 : List UInt8 := [3, 60, 42, 182, 0, 102, 182, 0, 192, 185, 0, 196, 1, 0, 77, 44, 185, 0, 202, 1, 0, 153, 0, 35]
abbrev dktX0_clashingPairs_0 : List UInt8 := dkwX0_clashingPairs_0 ++ dktX0_clashingPairs_1
theorem dksX0_clashingPairs_0 : cX0_clashingPairs.data.toList.drop 0 = dktX0_clashingPairs_0 := by decide +kernel
theorem dksX0_clashingPairs_1 : cX0_clashingPairs.data.toList.drop 24 = dktX0_clashingPairs_1 := dk_seg dksX0_clashingPairs_0 24 rfl rfl
theorem dksX0_clashingPairs_2 : cX0_clashingPairs.data.toList.drop 48 = dktX0_clashingPairs_2 := dk_seg dksX0_clashingPairs_1 24 rfl rfl
theorem dX0_clashingPairs_0 : decode cX0_clashingPairs 0 = .ok (.iconst 0, 1) := dk_3 (dk_at dksX0_clashingPairs_0 0 rfl rfl)
theorem dX0_clashingPairs_1 : decode cX0_clashingPairs 1 = .ok (.istore_n 1, 1) := dk_60 (dk_at dksX0_clashingPairs_0 1 rfl rfl)
theorem dX0_clashingPairs_2 : decode cX0_clashingPairs 2 = .ok (.aload_n 0, 1) := dk_42 (dk_at dksX0_clashingPairs_0 2 rfl rfl)
theorem dX0_clashingPairs_3 : decode cX0_clashingPairs 3 = .ok (.invokevirtual 102, 3) := dk_182 0 102 (dk_at dksX0_clashingPairs_0 3 rfl rfl)
theorem dX0_clashingPairs_6 : decode cX0_clashingPairs 6 = .ok (.invokevirtual 192, 3) := dk_182 0 192 (dk_at dksX0_clashingPairs_0 6 rfl rfl)
theorem dX0_clashingPairs_9 : decode cX0_clashingPairs 9 = .ok (.invokeinterface 196 1, 5) := by decide +kernel
theorem dX0_clashingPairs_14 : decode cX0_clashingPairs 14 = .ok (.astore_n 2, 1) := dk_77 (dk_at dksX0_clashingPairs_0 14 rfl rfl)
theorem dX0_clashingPairs_15 : decode cX0_clashingPairs 15 = .ok (.aload_n 2, 1) := dk_44 (dk_at dksX0_clashingPairs_0 15 rfl rfl)
theorem dX0_clashingPairs_16 : decode cX0_clashingPairs 16 = .ok (.invokeinterface 202 1, 5) := by decide +kernel
theorem dX0_clashingPairs_21 : decode cX0_clashingPairs 21 = .ok (.ifCond .eq 35, 3) := dk_153 0 35 (dk_at dksX0_clashingPairs_0 21 rfl rfl)
theorem dX0_clashingPairs_24 : decode cX0_clashingPairs 24 = .ok (.aload_n 2, 1) := dk_44 (dk_at dksX0_clashingPairs_1 0 rfl rfl)
theorem dX0_clashingPairs_25 : decode cX0_clashingPairs 25 = .ok (.invokeinterface 207 1, 5) := by decide +kernel
theorem dX0_clashingPairs_30 : decode cX0_clashingPairs 30 = .ok (.checkcast 25, 3) := dk_192 0 25 (dk_at dksX0_clashingPairs_1 6 rfl rfl)
theorem dX0_clashingPairs_33 : decode cX0_clashingPairs 33 = .ok (.astore_n 3, 1) := dk_78 (dk_at dksX0_clashingPairs_1 9 rfl rfl)
theorem dX0_clashingPairs_34 : decode cX0_clashingPairs 34 = .ok (.iload_n 1, 1) := dk_27 (dk_at dksX0_clashingPairs_1 10 rfl rfl)
theorem dX0_clashingPairs_35 : decode cX0_clashingPairs 35 = .ok (.aload_n 0, 1) := dk_42 (dk_at dksX0_clashingPairs_1 11 rfl rfl)
theorem dX0_clashingPairs_36 : decode cX0_clashingPairs 36 = .ok (.aload_n 3, 1) := dk_45 (dk_at dksX0_clashingPairs_1 12 rfl rfl)
theorem dX0_clashingPairs_37 : decode cX0_clashingPairs 37 = .ok (.aload_n 0, 1) := dk_42 (dk_at dksX0_clashingPairs_1 13 rfl rfl)
theorem dX0_clashingPairs_38 : decode cX0_clashingPairs 38 = .ok (.invokevirtual 102, 3) := dk_182 0 102 (dk_at dksX0_clashingPairs_1 14 rfl rfl)
theorem dX0_clashingPairs_41 : decode cX0_clashingPairs 41 = .ok (.aload_n 3, 1) := dk_45 (dk_at dksX0_clashingPairs_1 17 rfl rfl)
theorem dX0_clashingPairs_42 : decode cX0_clashingPairs 42 = .ok (.invokevirtual 109, 3) := dk_182 0 109 (dk_at dksX0_clashingPairs_1 18 rfl rfl)
theorem dX0_clashingPairs_45 : decode cX0_clashingPairs 45 = .ok (.checkcast 16, 3) := dk_192 0 16 (dk_at dksX0_clashingPairs_1 21 rfl rfl)
theorem dX0_clashingPairs_48 : decode cX0_clashingPairs 48 = .ok (.invokevirtual 214, 3) := dk_182 0 214 (dk_at dksX0_clashingPairs_2 0 rfl rfl)
theorem dX0_clashingPairs_51 : decode cX0_clashingPairs 51 = .ok (.iadd, 1) := dk_96 (dk_at dksX0_clashingPairs_2 3 rfl rfl)
theorem dX0_clashingPairs_52 : decode cX0_clashingPairs 52 = .ok (.istore_n 1, 1) := dk_60 (dk_at dksX0_clashingPairs_2 4 rfl rfl)
theorem dX0_clashingPairs_53 : decode cX0_clashingPairs 53 = .ok (.goto (-38), 3) := dk_167 255 218 (dk_at dksX0_clashingPairs_2 5 rfl rfl)
theorem dX0_clashingPairs_56 : decode cX0_clashingPairs 56 = .ok (.iload_n 1, 1) := dk_27 (dk_at dksX0_clashingPairs_2 8 rfl rfl)
theorem dX0_clashingPairs_57 : decode cX0_clashingPairs 57 = .ok (.iconst 2, 1) := dk_5 (dk_at dksX0_clashingPairs_2 9 rfl rfl)
theorem dX0_clashingPairs_58 : decode cX0_clashingPairs 58 = .ok (.idiv, 1) := dk_108 (dk_at dksX0_clashingPairs_2 10 rfl rfl)
theorem dX0_clashingPairs_59 : decode cX0_clashingPairs 59 = .ok (.ireturn, 1) := dk_172 (dk_at dksX0_clashingPairs_2 11 rfl rfl)
abbrev cX0_prioritySum : ByteArray := prog_1_method_49_code
def yX0_prioritySum : MethodName := ⟨RX0, "prioritySum", "()I"⟩
def dkwX0_prioritySum_2 : List UInt8 := [167, 255, 213, 27, 172]
abbrev dktX0_prioritySum_2 : List UInt8 := dkwX0_prioritySum_2 ++ []
def dkwX0_prioritySum_1 : List UInt8 := [42, 180, 0, 10, 28, 182, 0, 52, 192, 0, 56, 180, 0, 219, 167, 0, 4, 3, 96, 60, 132, 2, 1]
abbrev dktX0_prioritySum_1 : List UInt8 := dkwX0_prioritySum_1 ++ dktX0_prioritySum_2
def dkwX0_prioritySum_0 : List UInt8 := [3, 60, 3, 61, 28, 42, 180, 0, 10, 182, 0, 44, 162, 0, 38, 27, 42, 28, 182, 0, 115, 153, 0, 20]
abbrev dktX0_prioritySum_0 : List UInt8 := dkwX0_prioritySum_0 ++ dktX0_prioritySum_1
theorem dksX0_prioritySum_0 : cX0_prioritySum.data.toList.drop 0 = dktX0_prioritySum_0 := by decide +kernel
theorem dksX0_prioritySum_1 : cX0_prioritySum.data.toList.drop 24 = dktX0_prioritySum_1 := dk_seg dksX0_prioritySum_0 24 rfl rfl
theorem dksX0_prioritySum_2 : cX0_prioritySum.data.toList.drop 47 = dktX0_prioritySum_2 := dk_seg dksX0_prioritySum_1 23 rfl rfl
theorem dX0_prioritySum_0 : decode cX0_prioritySum 0 = .ok (.iconst 0, 1) := dk_3 (dk_at dksX0_prioritySum_0 0 rfl rfl)
theorem dX0_prioritySum_1 : decode cX0_prioritySum 1 = .ok (.istore_n 1, 1) := dk_60 (dk_at dksX0_prioritySum_0 1 rfl rfl)
theorem dX0_prioritySum_2 : decode cX0_prioritySum 2 = .ok (.iconst 0, 1) := dk_3 (dk_at dksX0_prioritySum_0 2 rfl rfl)
theorem dX0_prioritySum_3 : decode cX0_prioritySum 3 = .ok (.istore_n 2, 1) := dk_61 (dk_at dksX0_prioritySum_0 3 rfl rfl)
theorem dX0_prioritySum_4 : decode cX0_prioritySum 4 = .ok (.iload_n 2, 1) := dk_28 (dk_at dksX0_prioritySum_0 4 rfl rfl)
theorem dX0_prioritySum_5 : decode cX0_prioritySum 5 = .ok (.aload_n 0, 1) := dk_42 (dk_at dksX0_prioritySum_0 5 rfl rfl)
theorem dX0_prioritySum_6 : decode cX0_prioritySum 6 = .ok (.getfield 10, 3) := dk_180 0 10 (dk_at dksX0_prioritySum_0 6 rfl rfl)
theorem dX0_prioritySum_9 : decode cX0_prioritySum 9 = .ok (.invokevirtual 44, 3) := dk_182 0 44 (dk_at dksX0_prioritySum_0 9 rfl rfl)
theorem dX0_prioritySum_12 : decode cX0_prioritySum 12 = .ok (.if_icmp .ge 38, 3) := dk_162 0 38 (dk_at dksX0_prioritySum_0 12 rfl rfl)
theorem dX0_prioritySum_15 : decode cX0_prioritySum 15 = .ok (.iload_n 1, 1) := dk_27 (dk_at dksX0_prioritySum_0 15 rfl rfl)
theorem dX0_prioritySum_16 : decode cX0_prioritySum 16 = .ok (.aload_n 0, 1) := dk_42 (dk_at dksX0_prioritySum_0 16 rfl rfl)
theorem dX0_prioritySum_17 : decode cX0_prioritySum 17 = .ok (.iload_n 2, 1) := dk_28 (dk_at dksX0_prioritySum_0 17 rfl rfl)
theorem dX0_prioritySum_18 : decode cX0_prioritySum 18 = .ok (.invokevirtual 115, 3) := dk_182 0 115 (dk_at dksX0_prioritySum_0 18 rfl rfl)
theorem dX0_prioritySum_21 : decode cX0_prioritySum 21 = .ok (.ifCond .eq 20, 3) := dk_153 0 20 (dk_at dksX0_prioritySum_0 21 rfl rfl)
theorem dX0_prioritySum_24 : decode cX0_prioritySum 24 = .ok (.aload_n 0, 1) := dk_42 (dk_at dksX0_prioritySum_1 0 rfl rfl)
theorem dX0_prioritySum_25 : decode cX0_prioritySum 25 = .ok (.getfield 10, 3) := dk_180 0 10 (dk_at dksX0_prioritySum_1 1 rfl rfl)
theorem dX0_prioritySum_28 : decode cX0_prioritySum 28 = .ok (.iload_n 2, 1) := dk_28 (dk_at dksX0_prioritySum_1 4 rfl rfl)
theorem dX0_prioritySum_29 : decode cX0_prioritySum 29 = .ok (.invokevirtual 52, 3) := dk_182 0 52 (dk_at dksX0_prioritySum_1 5 rfl rfl)
theorem dX0_prioritySum_32 : decode cX0_prioritySum 32 = .ok (.checkcast 56, 3) := dk_192 0 56 (dk_at dksX0_prioritySum_1 8 rfl rfl)
theorem dX0_prioritySum_35 : decode cX0_prioritySum 35 = .ok (.getfield 219, 3) := dk_180 0 219 (dk_at dksX0_prioritySum_1 11 rfl rfl)
theorem dX0_prioritySum_38 : decode cX0_prioritySum 38 = .ok (.goto 4, 3) := dk_167 0 4 (dk_at dksX0_prioritySum_1 14 rfl rfl)
theorem dX0_prioritySum_41 : decode cX0_prioritySum 41 = .ok (.iconst 0, 1) := dk_3 (dk_at dksX0_prioritySum_1 17 rfl rfl)
theorem dX0_prioritySum_42 : decode cX0_prioritySum 42 = .ok (.iadd, 1) := dk_96 (dk_at dksX0_prioritySum_1 18 rfl rfl)
theorem dX0_prioritySum_43 : decode cX0_prioritySum 43 = .ok (.istore_n 1, 1) := dk_60 (dk_at dksX0_prioritySum_1 19 rfl rfl)
theorem dX0_prioritySum_44 : decode cX0_prioritySum 44 = .ok (.iinc 2 1, 3) := dk_132 2 1 (dk_at dksX0_prioritySum_1 20 rfl rfl)
theorem dX0_prioritySum_47 : decode cX0_prioritySum 47 = .ok (.goto (-43), 3) := dk_167 255 213 (dk_at dksX0_prioritySum_2 0 rfl rfl)
theorem dX0_prioritySum_50 : decode cX0_prioritySum 50 = .ok (.iload_n 1, 1) := dk_27 (dk_at dksX0_prioritySum_2 3 rfl rfl)
theorem dX0_prioritySum_51 : decode cX0_prioritySum 51 = .ok (.ireturn, 1) := dk_172 (dk_at dksX0_prioritySum_2 4 rfl rfl)
abbrev cX0_pushable : ByteArray := prog_1_method_50_code
def yX0_pushable : MethodName := ⟨RX0, "pushable", "()I"⟩
def dkwX0_pushable_3 : List UInt8 := [167, 255, 205, 27, 29, 153, 0, 7, 4, 167, 0, 4, 3, 96, 60, 132, 2, 1, 167, 255, 171, 27, 172]
abbrev dktX0_pushable_3 : List UInt8 := dkwX0_pushable_3 ++ []
def dkwX0_pushable_2 : List UInt8 := [42, 28, 21, 4, 182, 0, 124, 182, 0, 255, 153, 0, 7, 4, 167, 0, 4, 3, 128, 62, 132, 4, 1]
abbrev dktX0_pushable_2 : List UInt8 := dkwX0_pushable_2 ++ dktX0_pushable_3
def dkwX0_pushable_1 : List UInt8 := [162, 0, 50, 42, 28, 182, 0, 115, 154, 0, 42, 29, 42, 28, 21, 4, 182, 0, 118, 153, 0, 22, 42, 28]
abbrev dktX0_pushable_1 : List UInt8 := dkwX0_pushable_1 ++ dktX0_pushable_2
def dkwX0_pushable_0 : List UInt8 := [3, 60, 3, 61, 28, 42, 180, 0, 10, 182, 0, 44, 162, 0, 80, 3, 62, 3, 54, 4, 21, 4, 16, 8]
abbrev dktX0_pushable_0 : List UInt8 := dkwX0_pushable_0 ++ dktX0_pushable_1
theorem dksX0_pushable_0 : cX0_pushable.data.toList.drop 0 = dktX0_pushable_0 := by decide +kernel
theorem dksX0_pushable_1 : cX0_pushable.data.toList.drop 24 = dktX0_pushable_1 := dk_seg dksX0_pushable_0 24 rfl rfl
theorem dksX0_pushable_2 : cX0_pushable.data.toList.drop 48 = dktX0_pushable_2 := dk_seg dksX0_pushable_1 24 rfl rfl
theorem dksX0_pushable_3 : cX0_pushable.data.toList.drop 71 = dktX0_pushable_3 := dk_seg dksX0_pushable_2 23 rfl rfl
theorem dX0_pushable_0 : decode cX0_pushable 0 = .ok (.iconst 0, 1) := dk_3 (dk_at dksX0_pushable_0 0 rfl rfl)
theorem dX0_pushable_1 : decode cX0_pushable 1 = .ok (.istore_n 1, 1) := dk_60 (dk_at dksX0_pushable_0 1 rfl rfl)
theorem dX0_pushable_2 : decode cX0_pushable 2 = .ok (.iconst 0, 1) := dk_3 (dk_at dksX0_pushable_0 2 rfl rfl)
theorem dX0_pushable_3 : decode cX0_pushable 3 = .ok (.istore_n 2, 1) := dk_61 (dk_at dksX0_pushable_0 3 rfl rfl)
theorem dX0_pushable_4 : decode cX0_pushable 4 = .ok (.iload_n 2, 1) := dk_28 (dk_at dksX0_pushable_0 4 rfl rfl)
theorem dX0_pushable_5 : decode cX0_pushable 5 = .ok (.aload_n 0, 1) := dk_42 (dk_at dksX0_pushable_0 5 rfl rfl)
theorem dX0_pushable_6 : decode cX0_pushable 6 = .ok (.getfield 10, 3) := dk_180 0 10 (dk_at dksX0_pushable_0 6 rfl rfl)
theorem dX0_pushable_9 : decode cX0_pushable 9 = .ok (.invokevirtual 44, 3) := dk_182 0 44 (dk_at dksX0_pushable_0 9 rfl rfl)
theorem dX0_pushable_12 : decode cX0_pushable 12 = .ok (.if_icmp .ge 80, 3) := dk_162 0 80 (dk_at dksX0_pushable_0 12 rfl rfl)
theorem dX0_pushable_15 : decode cX0_pushable 15 = .ok (.iconst 0, 1) := dk_3 (dk_at dksX0_pushable_0 15 rfl rfl)
theorem dX0_pushable_16 : decode cX0_pushable 16 = .ok (.istore_n 3, 1) := dk_62 (dk_at dksX0_pushable_0 16 rfl rfl)
theorem dX0_pushable_17 : decode cX0_pushable 17 = .ok (.iconst 0, 1) := dk_3 (dk_at dksX0_pushable_0 17 rfl rfl)
theorem dX0_pushable_18 : decode cX0_pushable 18 = .ok (.istore 4, 2) := dk_54 4 (dk_at dksX0_pushable_0 18 rfl rfl)
theorem dX0_pushable_20 : decode cX0_pushable 20 = .ok (.iload 4, 2) := dk_21 4 (dk_at dksX0_pushable_0 20 rfl rfl)
theorem dX0_pushable_22 : decode cX0_pushable 22 = .ok (.bipush 8, 2) := dk_16 8 (dk_at dksX0_pushable_0 22 rfl rfl)
theorem dX0_pushable_24 : decode cX0_pushable 24 = .ok (.if_icmp .ge 50, 3) := dk_162 0 50 (dk_at dksX0_pushable_1 0 rfl rfl)
theorem dX0_pushable_27 : decode cX0_pushable 27 = .ok (.aload_n 0, 1) := dk_42 (dk_at dksX0_pushable_1 3 rfl rfl)
theorem dX0_pushable_28 : decode cX0_pushable 28 = .ok (.iload_n 2, 1) := dk_28 (dk_at dksX0_pushable_1 4 rfl rfl)
theorem dX0_pushable_29 : decode cX0_pushable 29 = .ok (.invokevirtual 115, 3) := dk_182 0 115 (dk_at dksX0_pushable_1 5 rfl rfl)
theorem dX0_pushable_32 : decode cX0_pushable 32 = .ok (.ifCond .ne 42, 3) := dk_154 0 42 (dk_at dksX0_pushable_1 8 rfl rfl)
theorem dX0_pushable_35 : decode cX0_pushable 35 = .ok (.iload_n 3, 1) := dk_29 (dk_at dksX0_pushable_1 11 rfl rfl)
theorem dX0_pushable_36 : decode cX0_pushable 36 = .ok (.aload_n 0, 1) := dk_42 (dk_at dksX0_pushable_1 12 rfl rfl)
theorem dX0_pushable_37 : decode cX0_pushable 37 = .ok (.iload_n 2, 1) := dk_28 (dk_at dksX0_pushable_1 13 rfl rfl)
theorem dX0_pushable_38 : decode cX0_pushable 38 = .ok (.iload 4, 2) := dk_21 4 (dk_at dksX0_pushable_1 14 rfl rfl)
theorem dX0_pushable_40 : decode cX0_pushable 40 = .ok (.invokevirtual 118, 3) := dk_182 0 118 (dk_at dksX0_pushable_1 16 rfl rfl)
theorem dX0_pushable_43 : decode cX0_pushable 43 = .ok (.ifCond .eq 22, 3) := dk_153 0 22 (dk_at dksX0_pushable_1 19 rfl rfl)
theorem dX0_pushable_46 : decode cX0_pushable 46 = .ok (.aload_n 0, 1) := dk_42 (dk_at dksX0_pushable_1 22 rfl rfl)
theorem dX0_pushable_47 : decode cX0_pushable 47 = .ok (.iload_n 2, 1) := dk_28 (dk_at dksX0_pushable_1 23 rfl rfl)
theorem dX0_pushable_48 : decode cX0_pushable 48 = .ok (.aload_n 0, 1) := dk_42 (dk_at dksX0_pushable_2 0 rfl rfl)
theorem dX0_pushable_49 : decode cX0_pushable 49 = .ok (.iload_n 2, 1) := dk_28 (dk_at dksX0_pushable_2 1 rfl rfl)
theorem dX0_pushable_50 : decode cX0_pushable 50 = .ok (.iload 4, 2) := dk_21 4 (dk_at dksX0_pushable_2 2 rfl rfl)
theorem dX0_pushable_52 : decode cX0_pushable 52 = .ok (.invokevirtual 124, 3) := dk_182 0 124 (dk_at dksX0_pushable_2 4 rfl rfl)
theorem dX0_pushable_55 : decode cX0_pushable 55 = .ok (.invokevirtual 255, 3) := dk_182 0 255 (dk_at dksX0_pushable_2 7 rfl rfl)
theorem dX0_pushable_58 : decode cX0_pushable 58 = .ok (.ifCond .eq 7, 3) := dk_153 0 7 (dk_at dksX0_pushable_2 10 rfl rfl)
theorem dX0_pushable_61 : decode cX0_pushable 61 = .ok (.iconst 1, 1) := dk_4 (dk_at dksX0_pushable_2 13 rfl rfl)
theorem dX0_pushable_62 : decode cX0_pushable 62 = .ok (.goto 4, 3) := dk_167 0 4 (dk_at dksX0_pushable_2 14 rfl rfl)
theorem dX0_pushable_65 : decode cX0_pushable 65 = .ok (.iconst 0, 1) := dk_3 (dk_at dksX0_pushable_2 17 rfl rfl)
theorem dX0_pushable_66 : decode cX0_pushable 66 = .ok (.ior, 1) := dk_128 (dk_at dksX0_pushable_2 18 rfl rfl)
theorem dX0_pushable_67 : decode cX0_pushable 67 = .ok (.istore_n 3, 1) := dk_62 (dk_at dksX0_pushable_2 19 rfl rfl)
theorem dX0_pushable_68 : decode cX0_pushable 68 = .ok (.iinc 4 1, 3) := dk_132 4 1 (dk_at dksX0_pushable_2 20 rfl rfl)
theorem dX0_pushable_71 : decode cX0_pushable 71 = .ok (.goto (-51), 3) := dk_167 255 205 (dk_at dksX0_pushable_3 0 rfl rfl)
theorem dX0_pushable_74 : decode cX0_pushable 74 = .ok (.iload_n 1, 1) := dk_27 (dk_at dksX0_pushable_3 3 rfl rfl)
theorem dX0_pushable_75 : decode cX0_pushable 75 = .ok (.iload_n 3, 1) := dk_29 (dk_at dksX0_pushable_3 4 rfl rfl)
theorem dX0_pushable_76 : decode cX0_pushable 76 = .ok (.ifCond .eq 7, 3) := dk_153 0 7 (dk_at dksX0_pushable_3 5 rfl rfl)
theorem dX0_pushable_79 : decode cX0_pushable 79 = .ok (.iconst 1, 1) := dk_4 (dk_at dksX0_pushable_3 8 rfl rfl)
theorem dX0_pushable_80 : decode cX0_pushable 80 = .ok (.goto 4, 3) := dk_167 0 4 (dk_at dksX0_pushable_3 9 rfl rfl)
theorem dX0_pushable_83 : decode cX0_pushable 83 = .ok (.iconst 0, 1) := dk_3 (dk_at dksX0_pushable_3 12 rfl rfl)
theorem dX0_pushable_84 : decode cX0_pushable 84 = .ok (.iadd, 1) := dk_96 (dk_at dksX0_pushable_3 13 rfl rfl)
theorem dX0_pushable_85 : decode cX0_pushable 85 = .ok (.istore_n 1, 1) := dk_60 (dk_at dksX0_pushable_3 14 rfl rfl)
theorem dX0_pushable_86 : decode cX0_pushable 86 = .ok (.iinc 2 1, 3) := dk_132 2 1 (dk_at dksX0_pushable_3 15 rfl rfl)
theorem dX0_pushable_89 : decode cX0_pushable 89 = .ok (.goto (-85), 3) := dk_167 255 171 (dk_at dksX0_pushable_3 18 rfl rfl)
theorem dX0_pushable_92 : decode cX0_pushable 92 = .ok (.iload_n 1, 1) := dk_27 (dk_at dksX0_pushable_3 21 rfl rfl)
theorem dX0_pushable_93 : decode cX0_pushable 93 = .ok (.ireturn, 1) := dk_172 (dk_at dksX0_pushable_3 22 rfl rfl)
abbrev cX0_digest : ByteArray := prog_1_method_54_code
def yX0_digest : MethodName := ⟨RX0, "digest", "()J"⟩
def dkwX0_digest_5 : List UInt8 := [180, 1, 51, 27, 51, 133, 182, 1, 101, 132, 1, 1, 167, 255, 228, 42, 180, 1, 94, 173]
abbrev dktX0_digest_5 : List UInt8 := dkwX0_digest_5 ++ []
def dkwX0_digest_4 : List UInt8 := [132, 1, 1, 167, 255, 218, 3, 60, 27, 42, 180, 0, 37, 180, 1, 50, 162, 0, 23, 42, 42, 180, 0, 37]
abbrev dktX0_digest_4 : List UInt8 := dkwX0_digest_4 ++ dktX0_digest_5
def dkwX0_digest_3 : List UInt8 := [28, 6, 163, 0, 20, 42, 42, 27, 28, 182, 1, 118, 133, 182, 1, 101, 132, 2, 1, 167, 255, 237]
abbrev dktX0_digest_3 : List UInt8 := dkwX0_digest_3 ++ dktX0_digest_4
def dkwX0_digest_2 : List UInt8 := [182, 1, 114, 132, 1, 1, 167, 255, 237, 3, 60, 27, 42, 180, 0, 31, 182, 0, 44, 162, 0, 33, 3, 61]
abbrev dktX0_digest_2 : List UInt8 := dkwX0_digest_2 ++ dktX0_digest_3
def dkwX0_digest_1 : List UInt8 := [182, 1, 101, 132, 1, 1, 167, 255, 237, 3, 60, 27, 42, 180, 0, 10, 182, 0, 44, 162, 0, 14, 42, 27]
abbrev dktX0_digest_1 : List UInt8 := dkwX0_digest_1 ++ dktX0_digest_2
def dkwX0_digest_0 : List UInt8 := [42, 20, 1, 109, 181, 1, 94, 3, 60, 27, 16, 12, 163, 0, 19, 42, 42, 27, 182, 1, 111, 133]
abbrev dktX0_digest_0 : List UInt8 := dkwX0_digest_0 ++ dktX0_digest_1
theorem dksX0_digest_0 : cX0_digest.data.toList.drop 0 = dktX0_digest_0 := by decide +kernel
theorem dksX0_digest_1 : cX0_digest.data.toList.drop 22 = dktX0_digest_1 := dk_seg dksX0_digest_0 22 rfl rfl
theorem dksX0_digest_2 : cX0_digest.data.toList.drop 46 = dktX0_digest_2 := dk_seg dksX0_digest_1 24 rfl rfl
theorem dksX0_digest_3 : cX0_digest.data.toList.drop 70 = dktX0_digest_3 := dk_seg dksX0_digest_2 24 rfl rfl
theorem dksX0_digest_4 : cX0_digest.data.toList.drop 92 = dktX0_digest_4 := dk_seg dksX0_digest_3 22 rfl rfl
theorem dksX0_digest_5 : cX0_digest.data.toList.drop 116 = dktX0_digest_5 := dk_seg dksX0_digest_4 24 rfl rfl
theorem dX0_digest_0 : decode cX0_digest 0 = .ok (.aload_n 0, 1) := dk_42 (dk_at dksX0_digest_0 0 rfl rfl)
theorem dX0_digest_1 : decode cX0_digest 1 = .ok (.ldc2_w 365, 3) := dk_20 1 109 (dk_at dksX0_digest_0 1 rfl rfl)
theorem dX0_digest_4 : decode cX0_digest 4 = .ok (.putfield 350, 3) := dk_181 1 94 (dk_at dksX0_digest_0 4 rfl rfl)
theorem dX0_digest_7 : decode cX0_digest 7 = .ok (.iconst 0, 1) := dk_3 (dk_at dksX0_digest_0 7 rfl rfl)
theorem dX0_digest_8 : decode cX0_digest 8 = .ok (.istore_n 1, 1) := dk_60 (dk_at dksX0_digest_0 8 rfl rfl)
theorem dX0_digest_9 : decode cX0_digest 9 = .ok (.iload_n 1, 1) := dk_27 (dk_at dksX0_digest_0 9 rfl rfl)
theorem dX0_digest_10 : decode cX0_digest 10 = .ok (.bipush 12, 2) := dk_16 12 (dk_at dksX0_digest_0 10 rfl rfl)
theorem dX0_digest_12 : decode cX0_digest 12 = .ok (.if_icmp .gt 19, 3) := dk_163 0 19 (dk_at dksX0_digest_0 12 rfl rfl)
theorem dX0_digest_15 : decode cX0_digest 15 = .ok (.aload_n 0, 1) := dk_42 (dk_at dksX0_digest_0 15 rfl rfl)
theorem dX0_digest_16 : decode cX0_digest 16 = .ok (.aload_n 0, 1) := dk_42 (dk_at dksX0_digest_0 16 rfl rfl)
theorem dX0_digest_17 : decode cX0_digest 17 = .ok (.iload_n 1, 1) := dk_27 (dk_at dksX0_digest_0 17 rfl rfl)
theorem dX0_digest_18 : decode cX0_digest 18 = .ok (.invokevirtual 367, 3) := dk_182 1 111 (dk_at dksX0_digest_0 18 rfl rfl)
theorem dX0_digest_21 : decode cX0_digest 21 = .ok (.i2l, 1) := dk_133 (dk_at dksX0_digest_0 21 rfl rfl)
theorem dX0_digest_22 : decode cX0_digest 22 = .ok (.invokevirtual 357, 3) := dk_182 1 101 (dk_at dksX0_digest_1 0 rfl rfl)
theorem dX0_digest_25 : decode cX0_digest 25 = .ok (.iinc 1 1, 3) := dk_132 1 1 (dk_at dksX0_digest_1 3 rfl rfl)
theorem dX0_digest_28 : decode cX0_digest 28 = .ok (.goto (-19), 3) := dk_167 255 237 (dk_at dksX0_digest_1 6 rfl rfl)
theorem dX0_digest_31 : decode cX0_digest 31 = .ok (.iconst 0, 1) := dk_3 (dk_at dksX0_digest_1 9 rfl rfl)
theorem dX0_digest_32 : decode cX0_digest 32 = .ok (.istore_n 1, 1) := dk_60 (dk_at dksX0_digest_1 10 rfl rfl)
theorem dX0_digest_33 : decode cX0_digest 33 = .ok (.iload_n 1, 1) := dk_27 (dk_at dksX0_digest_1 11 rfl rfl)
theorem dX0_digest_34 : decode cX0_digest 34 = .ok (.aload_n 0, 1) := dk_42 (dk_at dksX0_digest_1 12 rfl rfl)
theorem dX0_digest_35 : decode cX0_digest 35 = .ok (.getfield 10, 3) := dk_180 0 10 (dk_at dksX0_digest_1 13 rfl rfl)
theorem dX0_digest_38 : decode cX0_digest 38 = .ok (.invokevirtual 44, 3) := dk_182 0 44 (dk_at dksX0_digest_1 16 rfl rfl)
theorem dX0_digest_41 : decode cX0_digest 41 = .ok (.if_icmp .ge 14, 3) := dk_162 0 14 (dk_at dksX0_digest_1 19 rfl rfl)
theorem dX0_digest_44 : decode cX0_digest 44 = .ok (.aload_n 0, 1) := dk_42 (dk_at dksX0_digest_1 22 rfl rfl)
theorem dX0_digest_45 : decode cX0_digest 45 = .ok (.iload_n 1, 1) := dk_27 (dk_at dksX0_digest_1 23 rfl rfl)
theorem dX0_digest_46 : decode cX0_digest 46 = .ok (.invokevirtual 370, 3) := dk_182 1 114 (dk_at dksX0_digest_2 0 rfl rfl)
theorem dX0_digest_49 : decode cX0_digest 49 = .ok (.iinc 1 1, 3) := dk_132 1 1 (dk_at dksX0_digest_2 3 rfl rfl)
theorem dX0_digest_52 : decode cX0_digest 52 = .ok (.goto (-19), 3) := dk_167 255 237 (dk_at dksX0_digest_2 6 rfl rfl)
theorem dX0_digest_55 : decode cX0_digest 55 = .ok (.iconst 0, 1) := dk_3 (dk_at dksX0_digest_2 9 rfl rfl)
theorem dX0_digest_56 : decode cX0_digest 56 = .ok (.istore_n 1, 1) := dk_60 (dk_at dksX0_digest_2 10 rfl rfl)
theorem dX0_digest_57 : decode cX0_digest 57 = .ok (.iload_n 1, 1) := dk_27 (dk_at dksX0_digest_2 11 rfl rfl)
theorem dX0_digest_58 : decode cX0_digest 58 = .ok (.aload_n 0, 1) := dk_42 (dk_at dksX0_digest_2 12 rfl rfl)
theorem dX0_digest_59 : decode cX0_digest 59 = .ok (.getfield 31, 3) := dk_180 0 31 (dk_at dksX0_digest_2 13 rfl rfl)
theorem dX0_digest_62 : decode cX0_digest 62 = .ok (.invokevirtual 44, 3) := dk_182 0 44 (dk_at dksX0_digest_2 16 rfl rfl)
theorem dX0_digest_65 : decode cX0_digest 65 = .ok (.if_icmp .ge 33, 3) := dk_162 0 33 (dk_at dksX0_digest_2 19 rfl rfl)
theorem dX0_digest_68 : decode cX0_digest 68 = .ok (.iconst 0, 1) := dk_3 (dk_at dksX0_digest_2 22 rfl rfl)
theorem dX0_digest_69 : decode cX0_digest 69 = .ok (.istore_n 2, 1) := dk_61 (dk_at dksX0_digest_2 23 rfl rfl)
theorem dX0_digest_70 : decode cX0_digest 70 = .ok (.iload_n 2, 1) := dk_28 (dk_at dksX0_digest_3 0 rfl rfl)
theorem dX0_digest_71 : decode cX0_digest 71 = .ok (.iconst 3, 1) := dk_6 (dk_at dksX0_digest_3 1 rfl rfl)
theorem dX0_digest_72 : decode cX0_digest 72 = .ok (.if_icmp .gt 20, 3) := dk_163 0 20 (dk_at dksX0_digest_3 2 rfl rfl)
theorem dX0_digest_75 : decode cX0_digest 75 = .ok (.aload_n 0, 1) := dk_42 (dk_at dksX0_digest_3 5 rfl rfl)
theorem dX0_digest_76 : decode cX0_digest 76 = .ok (.aload_n 0, 1) := dk_42 (dk_at dksX0_digest_3 6 rfl rfl)
theorem dX0_digest_77 : decode cX0_digest 77 = .ok (.iload_n 1, 1) := dk_27 (dk_at dksX0_digest_3 7 rfl rfl)
theorem dX0_digest_78 : decode cX0_digest 78 = .ok (.iload_n 2, 1) := dk_28 (dk_at dksX0_digest_3 8 rfl rfl)
theorem dX0_digest_79 : decode cX0_digest 79 = .ok (.invokevirtual 374, 3) := dk_182 1 118 (dk_at dksX0_digest_3 9 rfl rfl)
theorem dX0_digest_82 : decode cX0_digest 82 = .ok (.i2l, 1) := dk_133 (dk_at dksX0_digest_3 12 rfl rfl)
theorem dX0_digest_83 : decode cX0_digest 83 = .ok (.invokevirtual 357, 3) := dk_182 1 101 (dk_at dksX0_digest_3 13 rfl rfl)
theorem dX0_digest_86 : decode cX0_digest 86 = .ok (.iinc 2 1, 3) := dk_132 2 1 (dk_at dksX0_digest_3 16 rfl rfl)
theorem dX0_digest_89 : decode cX0_digest 89 = .ok (.goto (-19), 3) := dk_167 255 237 (dk_at dksX0_digest_3 19 rfl rfl)
theorem dX0_digest_92 : decode cX0_digest 92 = .ok (.iinc 1 1, 3) := dk_132 1 1 (dk_at dksX0_digest_4 0 rfl rfl)
theorem dX0_digest_95 : decode cX0_digest 95 = .ok (.goto (-38), 3) := dk_167 255 218 (dk_at dksX0_digest_4 3 rfl rfl)
theorem dX0_digest_98 : decode cX0_digest 98 = .ok (.iconst 0, 1) := dk_3 (dk_at dksX0_digest_4 6 rfl rfl)
theorem dX0_digest_99 : decode cX0_digest 99 = .ok (.istore_n 1, 1) := dk_60 (dk_at dksX0_digest_4 7 rfl rfl)
theorem dX0_digest_100 : decode cX0_digest 100 = .ok (.iload_n 1, 1) := dk_27 (dk_at dksX0_digest_4 8 rfl rfl)
theorem dX0_digest_101 : decode cX0_digest 101 = .ok (.aload_n 0, 1) := dk_42 (dk_at dksX0_digest_4 9 rfl rfl)
theorem dX0_digest_102 : decode cX0_digest 102 = .ok (.getfield 37, 3) := dk_180 0 37 (dk_at dksX0_digest_4 10 rfl rfl)
theorem dX0_digest_105 : decode cX0_digest 105 = .ok (.getfield 306, 3) := dk_180 1 50 (dk_at dksX0_digest_4 13 rfl rfl)
theorem dX0_digest_108 : decode cX0_digest 108 = .ok (.if_icmp .ge 23, 3) := dk_162 0 23 (dk_at dksX0_digest_4 16 rfl rfl)
theorem dX0_digest_111 : decode cX0_digest 111 = .ok (.aload_n 0, 1) := dk_42 (dk_at dksX0_digest_4 19 rfl rfl)
theorem dX0_digest_112 : decode cX0_digest 112 = .ok (.aload_n 0, 1) := dk_42 (dk_at dksX0_digest_4 20 rfl rfl)
theorem dX0_digest_113 : decode cX0_digest 113 = .ok (.getfield 37, 3) := dk_180 0 37 (dk_at dksX0_digest_4 21 rfl rfl)
theorem dX0_digest_116 : decode cX0_digest 116 = .ok (.getfield 307, 3) := dk_180 1 51 (dk_at dksX0_digest_5 0 rfl rfl)
theorem dX0_digest_119 : decode cX0_digest 119 = .ok (.iload_n 1, 1) := dk_27 (dk_at dksX0_digest_5 3 rfl rfl)
theorem dX0_digest_120 : decode cX0_digest 120 = .ok (.baload, 1) := dk_51 (dk_at dksX0_digest_5 4 rfl rfl)
theorem dX0_digest_121 : decode cX0_digest 121 = .ok (.i2l, 1) := dk_133 (dk_at dksX0_digest_5 5 rfl rfl)
theorem dX0_digest_122 : decode cX0_digest 122 = .ok (.invokevirtual 357, 3) := dk_182 1 101 (dk_at dksX0_digest_5 6 rfl rfl)
theorem dX0_digest_125 : decode cX0_digest 125 = .ok (.iinc 1 1, 3) := dk_132 1 1 (dk_at dksX0_digest_5 9 rfl rfl)
theorem dX0_digest_128 : decode cX0_digest 128 = .ok (.goto (-28), 3) := dk_167 255 228 (dk_at dksX0_digest_5 12 rfl rfl)
theorem dX0_digest_131 : decode cX0_digest 131 = .ok (.aload_n 0, 1) := dk_42 (dk_at dksX0_digest_5 15 rfl rfl)
theorem dX0_digest_132 : decode cX0_digest 132 = .ok (.getfield 350, 3) := dk_180 1 94 (dk_at dksX0_digest_5 16 rfl rfl)
theorem dX0_digest_135 : decode cX0_digest 135 = .ok (.lreturn, 1) := dk_173 (dk_at dksX0_digest_5 19 rfl rfl)
abbrev cX0_mix : ByteArray := prog_1_method_52_code
def yX0_mix : MethodName := ⟨RX0, "mix", "(J)V"⟩
def dkwX0_mix_0 : List UInt8 := [42, 20, 1, 92, 42, 180, 1, 94, 105, 31, 97, 181, 1, 94, 177]
abbrev dktX0_mix_0 : List UInt8 := dkwX0_mix_0 ++ []
theorem dksX0_mix_0 : cX0_mix.data.toList.drop 0 = dktX0_mix_0 := by decide +kernel
theorem dX0_mix_0 : decode cX0_mix 0 = .ok (.aload_n 0, 1) := dk_42 (dk_at dksX0_mix_0 0 rfl rfl)
theorem dX0_mix_1 : decode cX0_mix 1 = .ok (.ldc2_w 348, 3) := dk_20 1 92 (dk_at dksX0_mix_0 1 rfl rfl)
theorem dX0_mix_4 : decode cX0_mix 4 = .ok (.aload_n 0, 1) := dk_42 (dk_at dksX0_mix_0 4 rfl rfl)
theorem dX0_mix_5 : decode cX0_mix 5 = .ok (.getfield 350, 3) := dk_180 1 94 (dk_at dksX0_mix_0 5 rfl rfl)
theorem dX0_mix_8 : decode cX0_mix 8 = .ok (.lmul, 1) := dk_105 (dk_at dksX0_mix_0 8 rfl rfl)
theorem dX0_mix_9 : decode cX0_mix 9 = .ok (.lload_n 1, 1) := dk_31 (dk_at dksX0_mix_0 9 rfl rfl)
theorem dX0_mix_10 : decode cX0_mix 10 = .ok (.ladd, 1) := dk_97 (dk_at dksX0_mix_0 10 rfl rfl)
theorem dX0_mix_11 : decode cX0_mix 11 = .ok (.putfield 350, 3) := dk_181 1 94 (dk_at dksX0_mix_0 11 rfl rfl)
theorem dX0_mix_14 : decode cX0_mix 14 = .ok (.return_, 1) := dk_177 (dk_at dksX0_mix_0 14 rfl rfl)
abbrev cX0_mixPoint : ByteArray := prog_1_method_53_code
def yX0_mixPoint : MethodName := ⟨RX0, "mixPoint", "(I)V"⟩
def dkwX0_mixPoint_2 : List UInt8 := [182, 1, 105, 133, 182, 1, 101, 132, 3, 1, 167, 255, 236, 132, 2, 1, 167, 255, 222, 177]
abbrev dktX0_mixPoint_2 : List UInt8 := dkwX0_mixPoint_2 ++ []
def dkwX0_mixPoint_1 : List UInt8 := [167, 255, 236, 3, 61, 28, 16, 8, 162, 0, 34, 3, 62, 29, 7, 163, 0, 21, 42, 42, 27, 28, 29]
abbrev dktX0_mixPoint_1 : List UInt8 := dkwX0_mixPoint_1 ++ dktX0_mixPoint_2
def dkwX0_mixPoint_0 : List UInt8 := [3, 61, 28, 16, 8, 163, 0, 20, 42, 42, 27, 28, 182, 1, 98, 133, 182, 1, 101, 132, 2, 1]
abbrev dktX0_mixPoint_0 : List UInt8 := dkwX0_mixPoint_0 ++ dktX0_mixPoint_1
theorem dksX0_mixPoint_0 : cX0_mixPoint.data.toList.drop 0 = dktX0_mixPoint_0 := by decide +kernel
theorem dksX0_mixPoint_1 : cX0_mixPoint.data.toList.drop 22 = dktX0_mixPoint_1 := dk_seg dksX0_mixPoint_0 22 rfl rfl
theorem dksX0_mixPoint_2 : cX0_mixPoint.data.toList.drop 45 = dktX0_mixPoint_2 := dk_seg dksX0_mixPoint_1 23 rfl rfl
theorem dX0_mixPoint_0 : decode cX0_mixPoint 0 = .ok (.iconst 0, 1) := dk_3 (dk_at dksX0_mixPoint_0 0 rfl rfl)
theorem dX0_mixPoint_1 : decode cX0_mixPoint 1 = .ok (.istore_n 2, 1) := dk_61 (dk_at dksX0_mixPoint_0 1 rfl rfl)
theorem dX0_mixPoint_2 : decode cX0_mixPoint 2 = .ok (.iload_n 2, 1) := dk_28 (dk_at dksX0_mixPoint_0 2 rfl rfl)
theorem dX0_mixPoint_3 : decode cX0_mixPoint 3 = .ok (.bipush 8, 2) := dk_16 8 (dk_at dksX0_mixPoint_0 3 rfl rfl)
theorem dX0_mixPoint_5 : decode cX0_mixPoint 5 = .ok (.if_icmp .gt 20, 3) := dk_163 0 20 (dk_at dksX0_mixPoint_0 5 rfl rfl)
theorem dX0_mixPoint_8 : decode cX0_mixPoint 8 = .ok (.aload_n 0, 1) := dk_42 (dk_at dksX0_mixPoint_0 8 rfl rfl)
theorem dX0_mixPoint_9 : decode cX0_mixPoint 9 = .ok (.aload_n 0, 1) := dk_42 (dk_at dksX0_mixPoint_0 9 rfl rfl)
theorem dX0_mixPoint_10 : decode cX0_mixPoint 10 = .ok (.iload_n 1, 1) := dk_27 (dk_at dksX0_mixPoint_0 10 rfl rfl)
theorem dX0_mixPoint_11 : decode cX0_mixPoint 11 = .ok (.iload_n 2, 1) := dk_28 (dk_at dksX0_mixPoint_0 11 rfl rfl)
theorem dX0_mixPoint_12 : decode cX0_mixPoint 12 = .ok (.invokevirtual 354, 3) := dk_182 1 98 (dk_at dksX0_mixPoint_0 12 rfl rfl)
theorem dX0_mixPoint_15 : decode cX0_mixPoint 15 = .ok (.i2l, 1) := dk_133 (dk_at dksX0_mixPoint_0 15 rfl rfl)
theorem dX0_mixPoint_16 : decode cX0_mixPoint 16 = .ok (.invokevirtual 357, 3) := dk_182 1 101 (dk_at dksX0_mixPoint_0 16 rfl rfl)
theorem dX0_mixPoint_19 : decode cX0_mixPoint 19 = .ok (.iinc 2 1, 3) := dk_132 2 1 (dk_at dksX0_mixPoint_0 19 rfl rfl)
theorem dX0_mixPoint_22 : decode cX0_mixPoint 22 = .ok (.goto (-20), 3) := dk_167 255 236 (dk_at dksX0_mixPoint_1 0 rfl rfl)
theorem dX0_mixPoint_25 : decode cX0_mixPoint 25 = .ok (.iconst 0, 1) := dk_3 (dk_at dksX0_mixPoint_1 3 rfl rfl)
theorem dX0_mixPoint_26 : decode cX0_mixPoint 26 = .ok (.istore_n 2, 1) := dk_61 (dk_at dksX0_mixPoint_1 4 rfl rfl)
theorem dX0_mixPoint_27 : decode cX0_mixPoint 27 = .ok (.iload_n 2, 1) := dk_28 (dk_at dksX0_mixPoint_1 5 rfl rfl)
theorem dX0_mixPoint_28 : decode cX0_mixPoint 28 = .ok (.bipush 8, 2) := dk_16 8 (dk_at dksX0_mixPoint_1 6 rfl rfl)
theorem dX0_mixPoint_30 : decode cX0_mixPoint 30 = .ok (.if_icmp .ge 34, 3) := dk_162 0 34 (dk_at dksX0_mixPoint_1 8 rfl rfl)
theorem dX0_mixPoint_33 : decode cX0_mixPoint 33 = .ok (.iconst 0, 1) := dk_3 (dk_at dksX0_mixPoint_1 11 rfl rfl)
theorem dX0_mixPoint_34 : decode cX0_mixPoint 34 = .ok (.istore_n 3, 1) := dk_62 (dk_at dksX0_mixPoint_1 12 rfl rfl)
theorem dX0_mixPoint_35 : decode cX0_mixPoint 35 = .ok (.iload_n 3, 1) := dk_29 (dk_at dksX0_mixPoint_1 13 rfl rfl)
theorem dX0_mixPoint_36 : decode cX0_mixPoint 36 = .ok (.iconst 4, 1) := dk_7 (dk_at dksX0_mixPoint_1 14 rfl rfl)
theorem dX0_mixPoint_37 : decode cX0_mixPoint 37 = .ok (.if_icmp .gt 21, 3) := dk_163 0 21 (dk_at dksX0_mixPoint_1 15 rfl rfl)
theorem dX0_mixPoint_40 : decode cX0_mixPoint 40 = .ok (.aload_n 0, 1) := dk_42 (dk_at dksX0_mixPoint_1 18 rfl rfl)
theorem dX0_mixPoint_41 : decode cX0_mixPoint 41 = .ok (.aload_n 0, 1) := dk_42 (dk_at dksX0_mixPoint_1 19 rfl rfl)
theorem dX0_mixPoint_42 : decode cX0_mixPoint 42 = .ok (.iload_n 1, 1) := dk_27 (dk_at dksX0_mixPoint_1 20 rfl rfl)
theorem dX0_mixPoint_43 : decode cX0_mixPoint 43 = .ok (.iload_n 2, 1) := dk_28 (dk_at dksX0_mixPoint_1 21 rfl rfl)
theorem dX0_mixPoint_44 : decode cX0_mixPoint 44 = .ok (.iload_n 3, 1) := dk_29 (dk_at dksX0_mixPoint_1 22 rfl rfl)
theorem dX0_mixPoint_45 : decode cX0_mixPoint 45 = .ok (.invokevirtual 361, 3) := dk_182 1 105 (dk_at dksX0_mixPoint_2 0 rfl rfl)
theorem dX0_mixPoint_48 : decode cX0_mixPoint 48 = .ok (.i2l, 1) := dk_133 (dk_at dksX0_mixPoint_2 3 rfl rfl)
theorem dX0_mixPoint_49 : decode cX0_mixPoint 49 = .ok (.invokevirtual 357, 3) := dk_182 1 101 (dk_at dksX0_mixPoint_2 4 rfl rfl)
theorem dX0_mixPoint_52 : decode cX0_mixPoint 52 = .ok (.iinc 3 1, 3) := dk_132 3 1 (dk_at dksX0_mixPoint_2 7 rfl rfl)
theorem dX0_mixPoint_55 : decode cX0_mixPoint 55 = .ok (.goto (-20), 3) := dk_167 255 236 (dk_at dksX0_mixPoint_2 10 rfl rfl)
theorem dX0_mixPoint_58 : decode cX0_mixPoint 58 = .ok (.iinc 2 1, 3) := dk_132 2 1 (dk_at dksX0_mixPoint_2 13 rfl rfl)
theorem dX0_mixPoint_61 : decode cX0_mixPoint 61 = .ok (.goto (-34), 3) := dk_167 255 222 (dk_at dksX0_mixPoint_2 16 rfl rfl)
theorem dX0_mixPoint_64 : decode cX0_mixPoint 64 = .ok (.return_, 1) := dk_177 (dk_at dksX0_mixPoint_2 19 rfl rfl)
theorem q90 : (Jvm.Cond.initialized "LabelPlacer") ∈ lw_all := lw_g (lw_at lw_m1 1 rfl) rfl
theorem q145 : (Jvm.Cond.instantiable "LabelPlacer" (7 : Nat)) ∈ lw_all := lw_g (lw_at lw_m1 56 rfl) rfl
theorem q147 : (Jvm.Cond.instanceMethod ({ cls := "LabelPlacer", name := "<init>", desc := "()V" } : Jvm.MethodName)) ∈ lw_all := lw_g (lw_at lw_m1 58 rfl) rfl
theorem q148 : (Jvm.Cond.code ({ cls := "LabelPlacer", name := "<init>", desc := "()V" } : Jvm.MethodName) prog_1_method_2_code (2 : Nat) (Option.none : Option Jvm.ClassFile.FieldType)) ∈ lw_all := lw_g (lw_at lw_m1 59 rfl) rfl
theorem q149 : (Jvm.Cond.methodLink "LabelPlacer" (1 : Nat) ({ cls := "java/lang/Object", name := "<init>", desc := "()V" } : Jvm.MethodName)) ∈ lw_all := lw_g (lw_at lw_m1 60 rfl) rfl
theorem q152 : (Jvm.Cond.classLink "LabelPlacer" (7 : Nat) "java/util/ArrayList") ∈ lw_all := lw_g (lw_at lw_m1 63 rfl) rfl
theorem q154 : (Jvm.Cond.methodLink "LabelPlacer" (9 : Nat) ({ cls := "java/util/ArrayList", name := "<init>", desc := "()V" } : Jvm.MethodName)) ∈ lw_all := lw_g (lw_at lw_m1 65 rfl) rfl
theorem q181 : (Jvm.Cond.classLink "LabelPlacer" (16 : Nat) "LabelPlacer$Box") ∈ lw_all := lw_g (lw_at lw_m1 92 rfl) rfl
theorem q183 : (Jvm.Cond.methodLink "LabelPlacer" (18 : Nat) ({ cls := "LabelPlacer$Box", name := "<init>", desc := "(IIII)V" } : Jvm.MethodName)) ∈ lw_all := lw_g (lw_at lw_m1 94 rfl) rfl
theorem q188 : (Jvm.Cond.fieldLinkNest "LabelPlacer" (175 : Nat) "LabelPlacer$Box" "left" "I" "LabelPlacer") ∈ lw_tbl := lw_at lw_m1 99 rfl
theorem q190 : (Jvm.Cond.fieldLinkNest "LabelPlacer" (181 : Nat) "LabelPlacer$Box" "bottom" "I" "LabelPlacer") ∈ lw_tbl := lw_at lw_m1 101 rfl
theorem q192 : (Jvm.Cond.fieldLinkNest "LabelPlacer" (178 : Nat) "LabelPlacer$Box" "width" "I" "LabelPlacer") ∈ lw_tbl := lw_at lw_m1 103 rfl
theorem q194 : (Jvm.Cond.fieldLinkNest "LabelPlacer" (184 : Nat) "LabelPlacer$Box" "height" "I" "LabelPlacer") ∈ lw_tbl := lw_at lw_m1 105 rfl
theorem q204 : (Jvm.Cond.classLink "LabelPlacer" (25 : Nat) "LabelPlacer$Key") ∈ lw_all := lw_g (lw_at lw_m1 115 rfl) rfl
theorem q206 : (Jvm.Cond.classLink "LabelPlacer" (34 : Nat) "LabelPlacer$Tape") ∈ lw_all := lw_g (lw_at lw_m1 117 rfl) rfl
theorem q208 : (Jvm.Cond.methodLinkNest "LabelPlacer" (36 : Nat) ({ cls := "LabelPlacer$Tape", name := "<init>", desc := "()V" } : Jvm.MethodName) "LabelPlacer") ∈ lw_tbl := lw_at lw_m1 119 rfl
theorem q213 : (Jvm.Cond.fieldLinkNest "LabelPlacer" (307 : Nat) "LabelPlacer$Tape" "bytes" "[B" "LabelPlacer") ∈ lw_tbl := lw_at lw_m1 124 rfl
theorem q216 : (Jvm.Cond.fieldLinkNest "LabelPlacer" (306 : Nat) "LabelPlacer$Tape" "length" "I" "LabelPlacer") ∈ lw_tbl := lw_at lw_m1 127 rfl
theorem q224 : (Jvm.Cond.methodLink "LabelPlacer" (41 : Nat) ({ cls := "LabelPlacer$Key", name := "<init>", desc := "(II)V" } : Jvm.MethodName)) ∈ lw_all := lw_g (lw_at lw_m1 135 rfl) rfl
theorem q229 : (Jvm.Cond.fieldLinkNest "LabelPlacer" (211 : Nat) "LabelPlacer$Key" "point" "I" "LabelPlacer") ∈ lw_tbl := lw_at lw_m1 140 rfl
theorem q237 : (Jvm.Cond.fieldLink "LabelPlacer" (10 : Nat) "LabelPlacer" "points" "Ljava/util/ArrayList;") ∈ lw_all := lw_g (lw_at lw_m1 148 rfl) rfl
theorem q238 : (Jvm.Cond.fieldLink "LabelPlacer" (21 : Nat) "LabelPlacer" "window" "LLabelPlacer$Box;") ∈ lw_all := lw_g (lw_at lw_m1 149 rfl) rfl
theorem q239 : (Jvm.Cond.fieldLink "LabelPlacer" (73 : Nat) "LabelPlacer" "places" "Ljava/util/LinkedHashMap;") ∈ lw_all := lw_g (lw_at lw_m1 150 rfl) rfl
theorem q240 : (Jvm.Cond.fieldLink "LabelPlacer" (27 : Nat) "LabelPlacer" "keys" "[LLabelPlacer$Key;") ∈ lw_all := lw_g (lw_at lw_m1 151 rfl) rfl
theorem q241 : (Jvm.Cond.fieldLink "LabelPlacer" (31 : Nat) "LabelPlacer" "leaders" "Ljava/util/ArrayList;") ∈ lw_all := lw_g (lw_at lw_m1 152 rfl) rfl
theorem q243 : (Jvm.Cond.fieldLink "LabelPlacer" (37 : Nat) "LabelPlacer" "tape" "LLabelPlacer$Tape;") ∈ lw_all := lw_g (lw_at lw_m1 154 rfl) rfl
theorem q244 : (Jvm.Cond.fieldLink "LabelPlacer" (350 : Nat) "LabelPlacer" "hash" "J") ∈ lw_all := lw_g (lw_at lw_m1 155 rfl) rfl
theorem q245 : (Jvm.Cond.laysFinal "LabelPlacer" "LabelPlacer" "points" "Ljava/util/ArrayList;") ∈ lw_all := lw_g (lw_at lw_m1 156 rfl) rfl
theorem q246 : (Jvm.Cond.soleField "LabelPlacer" "points") ∈ lw_all := lw_g (lw_at lw_m1 157 rfl) rfl
theorem q247 : (Jvm.Cond.lays "LabelPlacer" "LabelPlacer" "window" "LLabelPlacer$Box;") ∈ lw_all := lw_g (lw_at lw_m1 158 rfl) rfl
theorem q248 : (Jvm.Cond.soleField "LabelPlacer" "window") ∈ lw_all := lw_g (lw_at lw_m1 159 rfl) rfl
theorem q249 : (Jvm.Cond.lays "LabelPlacer" "LabelPlacer" "places" "Ljava/util/LinkedHashMap;") ∈ lw_all := lw_g (lw_at lw_m1 160 rfl) rfl
theorem q250 : (Jvm.Cond.soleField "LabelPlacer" "places") ∈ lw_all := lw_g (lw_at lw_m1 161 rfl) rfl
theorem q251 : (Jvm.Cond.laysFinal "LabelPlacer" "LabelPlacer" "keys" "[LLabelPlacer$Key;") ∈ lw_all := lw_g (lw_at lw_m1 162 rfl) rfl
theorem q252 : (Jvm.Cond.soleField "LabelPlacer" "keys") ∈ lw_all := lw_g (lw_at lw_m1 163 rfl) rfl
theorem q253 : (Jvm.Cond.lays "LabelPlacer" "LabelPlacer" "leaders" "Ljava/util/ArrayList;") ∈ lw_all := lw_g (lw_at lw_m1 164 rfl) rfl
theorem q254 : (Jvm.Cond.soleField "LabelPlacer" "leaders") ∈ lw_all := lw_g (lw_at lw_m1 165 rfl) rfl
theorem q255 : (Jvm.Cond.laysFinal "LabelPlacer" "LabelPlacer" "tape" "LLabelPlacer$Tape;") ∈ lw_all := lw_g (lw_at lw_m1 166 rfl) rfl
theorem q256 : (Jvm.Cond.soleField "LabelPlacer" "tape") ∈ lw_all := lw_g (lw_at lw_m1 167 rfl) rfl
theorem q257 : (Jvm.Cond.lays "LabelPlacer" "LabelPlacer" "hash" "J") ∈ lw_all := lw_g (lw_at lw_m1 168 rfl) rfl
theorem q258 : (Jvm.Cond.soleField "LabelPlacer" "hash") ∈ lw_all := lw_g (lw_at lw_m1 169 rfl) rfl
theorem q259 : (Jvm.Cond.superclass "LabelPlacer" "java/lang/Object") ∈ lw_all := lw_g (lw_at lw_m1 170 rfl) rfl
theorem q261 : (Jvm.Cond.instanceMethod ({ cls := "LabelPlacer", name := "addPoint", desc := "(IIIIII)I" } : Jvm.MethodName)) ∈ lw_all := lw_g (lw_at lw_m1 172 rfl) rfl
theorem q262 : (Jvm.Cond.selects "LabelPlacer" ({ cls := "LabelPlacer", name := "addPoint", desc := "(IIIIII)I" } : Jvm.MethodName) ({ cls := "LabelPlacer", name := "addPoint", desc := "(IIIIII)I" } : Jvm.MethodName)) ∈ lw_all := lw_g (lw_at lw_m1 173 rfl) rfl
theorem q263 : (Jvm.Cond.code ({ cls := "LabelPlacer", name := "addPoint", desc := "(IIIIII)I" } : Jvm.MethodName) prog_1_method_13_code (9 : Nat) (Option.some Jvm.ClassFile.FieldType.int)) ∈ lw_all := lw_g (lw_at lw_m1 174 rfl) rfl
theorem q264 : (Jvm.Cond.methodLink "LabelPlacer" (48 : Nat) ({ cls := "LabelPlacer", name := "isIn", desc := "(III)Z" } : Jvm.MethodName)) ∈ lw_all := lw_g (lw_at lw_m1 175 rfl) rfl
theorem q265 : (Jvm.Cond.static ({ cls := "LabelPlacer", name := "isIn", desc := "(III)Z" } : Jvm.MethodName)) ∈ lw_all := lw_g (lw_at lw_m1 176 rfl) rfl
theorem q266 : (Jvm.Cond.code ({ cls := "LabelPlacer", name := "isIn", desc := "(III)Z" } : Jvm.MethodName) prog_1_method_1_code (3 : Nat) (Option.some Jvm.ClassFile.FieldType.boolean)) ∈ lw_all := lw_g (lw_at lw_m1 177 rfl) rfl
theorem q267 : (Jvm.Cond.methodLink "LabelPlacer" (140 : Nat) ({ cls := "LabelPlacer$Point", name := "allows", desc := "(II)Z" } : Jvm.MethodName)) ∈ lw_all := lw_g (lw_at lw_m1 178 rfl) rfl
theorem q271 : (Jvm.Cond.methodLink "LabelPlacer" (44 : Nat) ({ cls := "java/util/ArrayList", name := "size", desc := "()I" } : Jvm.MethodName)) ∈ lw_all := lw_g (lw_at lw_m1 182 rfl) rfl
theorem q275 : (Jvm.Cond.methodLink "LabelPlacer" (52 : Nat) ({ cls := "java/util/ArrayList", name := "get", desc := "(I)Ljava/lang/Object;" } : Jvm.MethodName)) ∈ lw_all := lw_g (lw_at lw_m1 186 rfl) rfl
theorem q289 : (Jvm.Cond.classLink "LabelPlacer" (56 : Nat) "LabelPlacer$Point") ∈ lw_all := lw_g (lw_at lw_m1 200 rfl) rfl
theorem q291 : (Jvm.Cond.methodLink "LabelPlacer" (143 : Nat) ({ cls := "LabelPlacer$Point", name := "<init>", desc := "(II)V" } : Jvm.MethodName)) ∈ lw_all := lw_g (lw_at lw_m1 202 rfl) rfl
theorem q296 : (Jvm.Cond.fieldLinkNest "LabelPlacer" (58 : Nat) "LabelPlacer$Point" "x" "I" "LabelPlacer") ∈ lw_tbl := lw_at lw_m1 207 rfl
theorem q298 : (Jvm.Cond.fieldLinkNest "LabelPlacer" (62 : Nat) "LabelPlacer$Point" "y" "I" "LabelPlacer") ∈ lw_tbl := lw_at lw_m1 209 rfl
theorem q303 : (Jvm.Cond.fieldLinkNest "LabelPlacer" (219 : Nat) "LabelPlacer$Point" "priority" "I" "LabelPlacer") ∈ lw_tbl := lw_at lw_m1 214 rfl
theorem q305 : (Jvm.Cond.fieldLinkNest "LabelPlacer" (88 : Nat) "LabelPlacer$Point" "sides" "I" "LabelPlacer") ∈ lw_tbl := lw_at lw_m1 216 rfl
theorem q307 : (Jvm.Cond.fieldLinkNest "LabelPlacer" (112 : Nat) "LabelPlacer$Point" "shown" "I" "LabelPlacer") ∈ lw_tbl := lw_at lw_m1 218 rfl
theorem q323 : (Jvm.Cond.methodLink "LabelPlacer" (144 : Nat) ({ cls := "LabelPlacer$Point", name := "set", desc := "(II)V" } : Jvm.MethodName)) ∈ lw_all := lw_g (lw_at lw_m1 234 rfl) rfl
theorem q327 : (Jvm.Cond.methodLink "LabelPlacer" (147 : Nat) ({ cls := "java/util/ArrayList", name := "add", desc := "(Ljava/lang/Object;)Z" } : Jvm.MethodName)) ∈ lw_all := lw_g (lw_at lw_m1 238 rfl) rfl
theorem q359 : (Jvm.Cond.selects "LabelPlacer" ({ cls := "java/lang/Object", name := "getClass", desc := "()Ljava/lang/Class;" } : Jvm.MethodName) ({ cls := "java/lang/Object", name := "getClass", desc := "()Ljava/lang/Class;" } : Jvm.MethodName)) ∈ lw_all := lw_g (lw_at lw_m2 30 rfl) rfl
theorem q404 : (Jvm.Cond.methodLink "LabelPlacer" (148 : Nat) ({ cls := "LabelPlacer", name := "settle", desc := "()V" } : Jvm.MethodName)) ∈ lw_all := lw_g (lw_at lw_m2 75 rfl) rfl
theorem q405 : (Jvm.Cond.privateMethod ({ cls := "LabelPlacer", name := "settle", desc := "()V" } : Jvm.MethodName)) ∈ lw_tbl := lw_at lw_m2 76 rfl
theorem q406 : (Jvm.Cond.instanceMethod ({ cls := "LabelPlacer", name := "settle", desc := "()V" } : Jvm.MethodName)) ∈ lw_all := lw_g (lw_at lw_m2 77 rfl) rfl
theorem q407 : (Jvm.Cond.code ({ cls := "LabelPlacer", name := "settle", desc := "()V" } : Jvm.MethodName) prog_1_method_11_code (2 : Nat) (Option.none : Option Jvm.ClassFile.FieldType)) ∈ lw_all := lw_g (lw_at lw_m2 78 rfl) rfl
theorem q408 : (Jvm.Cond.methodLink "LabelPlacer" (115 : Nat) ({ cls := "LabelPlacer", name := "isShown", desc := "(I)Z" } : Jvm.MethodName)) ∈ lw_all := lw_g (lw_at lw_m2 79 rfl) rfl
theorem q409 : (Jvm.Cond.privateMethod ({ cls := "LabelPlacer", name := "isShown", desc := "(I)Z" } : Jvm.MethodName)) ∈ lw_tbl := lw_at lw_m2 80 rfl
theorem q410 : (Jvm.Cond.instanceMethod ({ cls := "LabelPlacer", name := "isShown", desc := "(I)Z" } : Jvm.MethodName)) ∈ lw_all := lw_g (lw_at lw_m2 81 rfl) rfl
theorem q411 : (Jvm.Cond.code ({ cls := "LabelPlacer", name := "isShown", desc := "(I)Z" } : Jvm.MethodName) prog_1_method_10_code (2 : Nat) (Option.some Jvm.ClassFile.FieldType.boolean)) ∈ lw_all := lw_g (lw_at lw_m2 82 rfl) rfl
theorem q412 : (Jvm.Cond.methodLink "LabelPlacer" (118 : Nat) ({ cls := "LabelPlacer", name := "isPlace", desc := "(II)Z" } : Jvm.MethodName)) ∈ lw_all := lw_g (lw_at lw_m2 83 rfl) rfl
theorem q413 : (Jvm.Cond.privateMethod ({ cls := "LabelPlacer", name := "isPlace", desc := "(II)Z" } : Jvm.MethodName)) ∈ lw_tbl := lw_at lw_m2 84 rfl
theorem q414 : (Jvm.Cond.instanceMethod ({ cls := "LabelPlacer", name := "isPlace", desc := "(II)Z" } : Jvm.MethodName)) ∈ lw_all := lw_g (lw_at lw_m2 85 rfl) rfl
theorem q415 : (Jvm.Cond.code ({ cls := "LabelPlacer", name := "isPlace", desc := "(II)Z" } : Jvm.MethodName) prog_1_method_8_code (3 : Nat) (Option.some Jvm.ClassFile.FieldType.boolean)) ∈ lw_all := lw_g (lw_at lw_m2 86 rfl) rfl
theorem q416 : (Jvm.Cond.methodLink "LabelPlacer" (102 : Nat) ({ cls := "LabelPlacer", name := "places", desc := "()Ljava/util/LinkedHashMap;" } : Jvm.MethodName)) ∈ lw_all := lw_g (lw_at lw_m2 87 rfl) rfl
theorem q417 : (Jvm.Cond.privateMethod ({ cls := "LabelPlacer", name := "places", desc := "()Ljava/util/LinkedHashMap;" } : Jvm.MethodName)) ∈ lw_tbl := lw_at lw_m2 88 rfl
theorem q418 : (Jvm.Cond.instanceMethod ({ cls := "LabelPlacer", name := "places", desc := "()Ljava/util/LinkedHashMap;" } : Jvm.MethodName)) ∈ lw_all := lw_g (lw_at lw_m2 89 rfl) rfl
theorem q419 : (Jvm.Cond.code ({ cls := "LabelPlacer", name := "places", desc := "()Ljava/util/LinkedHashMap;" } : Jvm.MethodName) prog_1_method_7_code (4 : Nat) (Option.some (Jvm.ClassFile.FieldType.object "java/util/LinkedHashMap"))) ∈ lw_all := lw_g (lw_at lw_m2 90 rfl) rfl
theorem q420 : (Jvm.Cond.classLink "LabelPlacer" (77 : Nat) "java/util/LinkedHashMap") ∈ lw_all := lw_g (lw_at lw_m2 91 rfl) rfl
theorem q422 : (Jvm.Cond.methodLink "LabelPlacer" (79 : Nat) ({ cls := "java/util/LinkedHashMap", name := "<init>", desc := "()V" } : Jvm.MethodName)) ∈ lw_all := lw_g (lw_at lw_m2 93 rfl) rfl
theorem q479 : (Jvm.Cond.methodLink "LabelPlacer" (80 : Nat) ({ cls := "LabelPlacer", name := "isVisible", desc := "(I)Z" } : Jvm.MethodName)) ∈ lw_all := lw_g (lw_at lw_m2 150 rfl) rfl
theorem q480 : (Jvm.Cond.privateMethod ({ cls := "LabelPlacer", name := "isVisible", desc := "(I)Z" } : Jvm.MethodName)) ∈ lw_tbl := lw_at lw_m2 151 rfl
theorem q481 : (Jvm.Cond.instanceMethod ({ cls := "LabelPlacer", name := "isVisible", desc := "(I)Z" } : Jvm.MethodName)) ∈ lw_all := lw_g (lw_at lw_m2 152 rfl) rfl
theorem q482 : (Jvm.Cond.code ({ cls := "LabelPlacer", name := "isVisible", desc := "(I)Z" } : Jvm.MethodName) prog_1_method_5_code (2 : Nat) (Option.some Jvm.ClassFile.FieldType.boolean)) ∈ lw_all := lw_g (lw_at lw_m2 153 rfl) rfl
theorem q483 : (Jvm.Cond.methodLink "LabelPlacer" (65 : Nat) ({ cls := "LabelPlacer$Box", name := "has", desc := "(II)Z" } : Jvm.MethodName)) ∈ lw_all := lw_g (lw_at lw_m2 154 rfl) rfl
theorem q488 : (Jvm.Cond.methodLink "LabelPlacer" (84 : Nat) ({ cls := "LabelPlacer$Point", name := "box", desc := "(I)LLabelPlacer$Box;" } : Jvm.MethodName)) ∈ lw_all := lw_g (lw_at lw_m2 159 rfl) rfl
theorem q494 : (Jvm.Cond.methodLink "LabelPlacer" (91 : Nat) ({ cls := "LabelPlacer", name := "isFree", desc := "(LLabelPlacer$Box;)Z" } : Jvm.MethodName)) ∈ lw_all := lw_g (lw_at lw_m2 165 rfl) rfl
theorem q495 : (Jvm.Cond.privateMethod ({ cls := "LabelPlacer", name := "isFree", desc := "(LLabelPlacer$Box;)Z" } : Jvm.MethodName)) ∈ lw_tbl := lw_at lw_m2 166 rfl
theorem q496 : (Jvm.Cond.instanceMethod ({ cls := "LabelPlacer", name := "isFree", desc := "(LLabelPlacer$Box;)Z" } : Jvm.MethodName)) ∈ lw_all := lw_g (lw_at lw_m2 167 rfl) rfl
theorem q497 : (Jvm.Cond.code ({ cls := "LabelPlacer", name := "isFree", desc := "(LLabelPlacer$Box;)Z" } : Jvm.MethodName) prog_1_method_6_code (3 : Nat) (Option.some Jvm.ClassFile.FieldType.boolean)) ∈ lw_all := lw_g (lw_at lw_m2 168 rfl) rfl
theorem q498 : (Jvm.Cond.methodLink "LabelPlacer" (69 : Nat) ({ cls := "LabelPlacer$Box", name := "isWithin", desc := "(LLabelPlacer$Box;)Z" } : Jvm.MethodName)) ∈ lw_all := lw_g (lw_at lw_m2 169 rfl) rfl
theorem q503 : (Jvm.Cond.methodLink "LabelPlacer" (94 : Nat) ({ cls := "LabelPlacer", name := "key", desc := "(II)LLabelPlacer$Key;" } : Jvm.MethodName)) ∈ lw_all := lw_g (lw_at lw_m2 174 rfl) rfl
theorem q504 : (Jvm.Cond.privateMethod ({ cls := "LabelPlacer", name := "key", desc := "(II)LLabelPlacer$Key;" } : Jvm.MethodName)) ∈ lw_tbl := lw_at lw_m2 175 rfl
theorem q505 : (Jvm.Cond.instanceMethod ({ cls := "LabelPlacer", name := "key", desc := "(II)LLabelPlacer$Key;" } : Jvm.MethodName)) ∈ lw_all := lw_g (lw_at lw_m2 176 rfl) rfl
theorem q506 : (Jvm.Cond.code ({ cls := "LabelPlacer", name := "key", desc := "(II)LLabelPlacer$Key;" } : Jvm.MethodName) prog_1_method_3_code (3 : Nat) (Option.some (Jvm.ClassFile.FieldType.object "LabelPlacer$Key"))) ∈ lw_all := lw_g (lw_at lw_m2 177 rfl) rfl
theorem q507 : (Jvm.Cond.methodLink "LabelPlacer" (98 : Nat) ({ cls := "java/util/LinkedHashMap", name := "put", desc := "(Ljava/lang/Object;Ljava/lang/Object;)Ljava/lang/Object;" } : Jvm.MethodName)) ∈ lw_all := lw_g (lw_at lw_m2 178 rfl) rfl
theorem q520 : (Jvm.Cond.selects "LabelPlacer" ({ cls := "java/lang/Object", name := "hashCode", desc := "()I" } : Jvm.MethodName) ({ cls := "java/lang/Object", name := "hashCode", desc := "()I" } : Jvm.MethodName)) ∈ lw_all := lw_g (lw_at lw_m2 191 rfl) rfl
theorem q954 : (Jvm.Cond.selects "LabelPlacer" ({ cls := "java/lang/Object", name := "equals", desc := "(Ljava/lang/Object;)Z" } : Jvm.MethodName) ({ cls := "java/lang/Object", name := "equals", desc := "(Ljava/lang/Object;)Z" } : Jvm.MethodName)) ∈ lw_all := lw_g (lw_at lw_m4 145 rfl) rfl
theorem q1068 : (Jvm.Cond.methodLink "LabelPlacer" (105 : Nat) ({ cls := "java/util/LinkedHashMap", name := "containsKey", desc := "(Ljava/lang/Object;)Z" } : Jvm.MethodName)) ∈ lw_all := lw_g (lw_at lw_m5 19 rfl) rfl
theorem q1084 : (Jvm.Cond.instanceMethod ({ cls := "LabelPlacer", name := "removePoint", desc := "(I)I" } : Jvm.MethodName)) ∈ lw_all := lw_g (lw_at lw_m5 35 rfl) rfl
theorem q1085 : (Jvm.Cond.selects "LabelPlacer" ({ cls := "LabelPlacer", name := "removePoint", desc := "(I)I" } : Jvm.MethodName) ({ cls := "LabelPlacer", name := "removePoint", desc := "(I)I" } : Jvm.MethodName)) ∈ lw_all := lw_g (lw_at lw_m5 36 rfl) rfl
theorem q1086 : (Jvm.Cond.code ({ cls := "LabelPlacer", name := "removePoint", desc := "(I)I" } : Jvm.MethodName) prog_1_method_14_code (2 : Nat) (Option.some Jvm.ClassFile.FieldType.int)) ∈ lw_all := lw_g (lw_at lw_m5 37 rfl) rfl
theorem q1087 : (Jvm.Cond.methodLink "LabelPlacer" (151 : Nat) ({ cls := "LabelPlacer", name := "isPoint", desc := "(I)Z" } : Jvm.MethodName)) ∈ lw_all := lw_g (lw_at lw_m5 38 rfl) rfl
theorem q1088 : (Jvm.Cond.privateMethod ({ cls := "LabelPlacer", name := "isPoint", desc := "(I)Z" } : Jvm.MethodName)) ∈ lw_tbl := lw_at lw_m5 39 rfl
theorem q1089 : (Jvm.Cond.instanceMethod ({ cls := "LabelPlacer", name := "isPoint", desc := "(I)Z" } : Jvm.MethodName)) ∈ lw_all := lw_g (lw_at lw_m5 40 rfl) rfl
theorem q1090 : (Jvm.Cond.code ({ cls := "LabelPlacer", name := "isPoint", desc := "(I)Z" } : Jvm.MethodName) prog_1_method_4_code (2 : Nat) (Option.some Jvm.ClassFile.FieldType.boolean)) ∈ lw_all := lw_g (lw_at lw_m5 41 rfl) rfl
theorem q1091 : (Jvm.Cond.methodLink "LabelPlacer" (154 : Nat) ({ cls := "java/util/ArrayList", name := "remove", desc := "(I)Ljava/lang/Object;" } : Jvm.MethodName)) ∈ lw_all := lw_g (lw_at lw_m5 42 rfl) rfl
theorem q1101 : (Jvm.Cond.instanceMethod ({ cls := "LabelPlacer", name := "setPoint", desc := "(III)I" } : Jvm.MethodName)) ∈ lw_all := lw_g (lw_at lw_m5 52 rfl) rfl
theorem q1102 : (Jvm.Cond.selects "LabelPlacer" ({ cls := "LabelPlacer", name := "setPoint", desc := "(III)I" } : Jvm.MethodName) ({ cls := "LabelPlacer", name := "setPoint", desc := "(III)I" } : Jvm.MethodName)) ∈ lw_all := lw_g (lw_at lw_m5 53 rfl) rfl
theorem q1103 : (Jvm.Cond.code ({ cls := "LabelPlacer", name := "setPoint", desc := "(III)I" } : Jvm.MethodName) prog_1_method_15_code (6 : Nat) (Option.some Jvm.ClassFile.FieldType.int)) ∈ lw_all := lw_g (lw_at lw_m5 54 rfl) rfl
theorem q1104 : (Jvm.Cond.methodLink "LabelPlacer" (157 : Nat) ({ cls := "LabelPlacer$Point", name := "part", desc := "(I)I" } : Jvm.MethodName)) ∈ lw_all := lw_g (lw_at lw_m5 55 rfl) rfl
theorem q1108 : (Jvm.Cond.methodLink "LabelPlacer" (161 : Nat) ({ cls := "LabelPlacer", name := "clashing", desc := "(LLabelPlacer$Box;I)Ljava/util/LinkedHashSet;" } : Jvm.MethodName)) ∈ lw_all := lw_g (lw_at lw_m5 59 rfl) rfl
theorem q1109 : (Jvm.Cond.privateMethod ({ cls := "LabelPlacer", name := "clashing", desc := "(LLabelPlacer$Box;I)Ljava/util/LinkedHashSet;" } : Jvm.MethodName)) ∈ lw_tbl := lw_at lw_m5 60 rfl
theorem q1110 : (Jvm.Cond.instanceMethod ({ cls := "LabelPlacer", name := "clashing", desc := "(LLabelPlacer$Box;I)Ljava/util/LinkedHashSet;" } : Jvm.MethodName)) ∈ lw_all := lw_g (lw_at lw_m5 61 rfl) rfl
theorem q1111 : (Jvm.Cond.code ({ cls := "LabelPlacer", name := "clashing", desc := "(LLabelPlacer$Box;I)Ljava/util/LinkedHashSet;" } : Jvm.MethodName) prog_1_method_12_code (5 : Nat) (Option.some (Jvm.ClassFile.FieldType.object "java/util/LinkedHashSet"))) ∈ lw_all := lw_g (lw_at lw_m5 62 rfl) rfl
theorem q1112 : (Jvm.Cond.classLink "LabelPlacer" (121 : Nat) "java/util/LinkedHashSet") ∈ lw_all := lw_g (lw_at lw_m5 63 rfl) rfl
theorem q1114 : (Jvm.Cond.methodLink "LabelPlacer" (123 : Nat) ({ cls := "java/util/LinkedHashSet", name := "<init>", desc := "()V" } : Jvm.MethodName)) ∈ lw_all := lw_g (lw_at lw_m5 65 rfl) rfl
theorem q1143 : (Jvm.Cond.methodLink "LabelPlacer" (124 : Nat) ({ cls := "LabelPlacer", name := "boxAt", desc := "(II)LLabelPlacer$Box;" } : Jvm.MethodName)) ∈ lw_all := lw_g (lw_at lw_m5 94 rfl) rfl
theorem q1144 : (Jvm.Cond.privateMethod ({ cls := "LabelPlacer", name := "boxAt", desc := "(II)LLabelPlacer$Box;" } : Jvm.MethodName)) ∈ lw_tbl := lw_at lw_m5 95 rfl
theorem q1145 : (Jvm.Cond.instanceMethod ({ cls := "LabelPlacer", name := "boxAt", desc := "(II)LLabelPlacer$Box;" } : Jvm.MethodName)) ∈ lw_all := lw_g (lw_at lw_m5 96 rfl) rfl
theorem q1146 : (Jvm.Cond.code ({ cls := "LabelPlacer", name := "boxAt", desc := "(II)LLabelPlacer$Box;" } : Jvm.MethodName) prog_1_method_9_code (3 : Nat) (Option.some (Jvm.ClassFile.FieldType.object "LabelPlacer$Box"))) ∈ lw_all := lw_g (lw_at lw_m5 97 rfl) rfl
theorem q1147 : (Jvm.Cond.methodLink "LabelPlacer" (109 : Nat) ({ cls := "java/util/LinkedHashMap", name := "get", desc := "(Ljava/lang/Object;)Ljava/lang/Object;" } : Jvm.MethodName)) ∈ lw_all := lw_g (lw_at lw_m5 98 rfl) rfl
theorem q1156 : (Jvm.Cond.methodLink "LabelPlacer" (128 : Nat) ({ cls := "LabelPlacer$Box", name := "meets", desc := "(LLabelPlacer$Box;)Z" } : Jvm.MethodName)) ∈ lw_all := lw_g (lw_at lw_m5 107 rfl) rfl
theorem q1160 : (Jvm.Cond.methodLink "LabelPlacer" (131 : Nat) ({ cls := "java/lang/Integer", name := "valueOf", desc := "(I)Ljava/lang/Integer;" } : Jvm.MethodName)) ∈ lw_all := lw_g (lw_at lw_m5 111 rfl) rfl
theorem q1179 : (Jvm.Cond.methodLink "LabelPlacer" (137 : Nat) ({ cls := "java/util/LinkedHashSet", name := "add", desc := "(Ljava/lang/Object;)Z" } : Jvm.MethodName)) ∈ lw_all := lw_g (lw_at lw_m5 130 rfl) rfl
theorem q1188 : (Jvm.Cond.methodLink "LabelPlacer" (165 : Nat) ({ cls := "java/util/LinkedHashSet", name := "isEmpty", desc := "()Z" } : Jvm.MethodName)) ∈ lw_all := lw_g (lw_at lw_m5 139 rfl) rfl
theorem q1200 : (Jvm.Cond.instanceMethod ({ cls := "LabelPlacer", name := "point", desc := "(II)I" } : Jvm.MethodName)) ∈ lw_all := lw_g (lw_at lw_m5 151 rfl) rfl
theorem q1201 : (Jvm.Cond.selects "LabelPlacer" ({ cls := "LabelPlacer", name := "point", desc := "(II)I" } : Jvm.MethodName) ({ cls := "LabelPlacer", name := "point", desc := "(II)I" } : Jvm.MethodName)) ∈ lw_all := lw_g (lw_at lw_m5 152 rfl) rfl
theorem q1202 : (Jvm.Cond.code ({ cls := "LabelPlacer", name := "point", desc := "(II)I" } : Jvm.MethodName) prog_1_method_17_code (3 : Nat) (Option.some Jvm.ClassFile.FieldType.int)) ∈ lw_all := lw_g (lw_at lw_m5 153 rfl) rfl
theorem q1203 : (Jvm.Cond.methodLink "LabelPlacer" (169 : Nat) ({ cls := "LabelPlacer", name := "placesOf", desc := "(I)I" } : Jvm.MethodName)) ∈ lw_all := lw_g (lw_at lw_m5 154 rfl) rfl
theorem q1204 : (Jvm.Cond.privateMethod ({ cls := "LabelPlacer", name := "placesOf", desc := "(I)I" } : Jvm.MethodName)) ∈ lw_tbl := lw_at lw_m5 155 rfl
theorem q1205 : (Jvm.Cond.instanceMethod ({ cls := "LabelPlacer", name := "placesOf", desc := "(I)I" } : Jvm.MethodName)) ∈ lw_all := lw_g (lw_at lw_m5 156 rfl) rfl
theorem q1206 : (Jvm.Cond.code ({ cls := "LabelPlacer", name := "placesOf", desc := "(I)I" } : Jvm.MethodName) prog_1_method_16_code (4 : Nat) (Option.some Jvm.ClassFile.FieldType.int)) ∈ lw_all := lw_g (lw_at lw_m5 157 rfl) rfl
theorem q1208 : (Jvm.Cond.instanceMethod ({ cls := "LabelPlacer", name := "setWindow", desc := "(IIII)I" } : Jvm.MethodName)) ∈ lw_all := lw_g (lw_at lw_m5 159 rfl) rfl
theorem q1209 : (Jvm.Cond.selects "LabelPlacer" ({ cls := "LabelPlacer", name := "setWindow", desc := "(IIII)I" } : Jvm.MethodName) ({ cls := "LabelPlacer", name := "setWindow", desc := "(IIII)I" } : Jvm.MethodName)) ∈ lw_all := lw_g (lw_at lw_m5 160 rfl) rfl
theorem q1210 : (Jvm.Cond.code ({ cls := "LabelPlacer", name := "setWindow", desc := "(IIII)I" } : Jvm.MethodName) prog_1_method_19_code (6 : Nat) (Option.some Jvm.ClassFile.FieldType.int)) ∈ lw_all := lw_g (lw_at lw_m5 161 rfl) rfl
theorem q1211 : (Jvm.Cond.methodLink "LabelPlacer" (172 : Nat) ({ cls := "LabelPlacer", name := "visible", desc := "()I" } : Jvm.MethodName)) ∈ lw_all := lw_g (lw_at lw_m5 162 rfl) rfl
theorem q1212 : (Jvm.Cond.privateMethod ({ cls := "LabelPlacer", name := "visible", desc := "()I" } : Jvm.MethodName)) ∈ lw_tbl := lw_at lw_m5 163 rfl
theorem q1213 : (Jvm.Cond.instanceMethod ({ cls := "LabelPlacer", name := "visible", desc := "()I" } : Jvm.MethodName)) ∈ lw_all := lw_g (lw_at lw_m5 164 rfl) rfl
theorem q1214 : (Jvm.Cond.code ({ cls := "LabelPlacer", name := "visible", desc := "()I" } : Jvm.MethodName) prog_1_method_18_code (3 : Nat) (Option.some Jvm.ClassFile.FieldType.int)) ∈ lw_all := lw_g (lw_at lw_m5 165 rfl) rfl
theorem q1216 : (Jvm.Cond.instanceMethod ({ cls := "LabelPlacer", name := "pan", desc := "(II)I" } : Jvm.MethodName)) ∈ lw_all := lw_g (lw_at lw_m5 167 rfl) rfl
theorem q1217 : (Jvm.Cond.selects "LabelPlacer" ({ cls := "LabelPlacer", name := "pan", desc := "(II)I" } : Jvm.MethodName) ({ cls := "LabelPlacer", name := "pan", desc := "(II)I" } : Jvm.MethodName)) ∈ lw_all := lw_g (lw_at lw_m5 168 rfl) rfl
theorem q1218 : (Jvm.Cond.code ({ cls := "LabelPlacer", name := "pan", desc := "(II)I" } : Jvm.MethodName) prog_1_method_21_code (4 : Nat) (Option.some Jvm.ClassFile.FieldType.int)) ∈ lw_all := lw_g (lw_at lw_m5 169 rfl) rfl
theorem q1219 : (Jvm.Cond.methodLink "LabelPlacer" (187 : Nat) ({ cls := "LabelPlacer", name := "shown", desc := "()I" } : Jvm.MethodName)) ∈ lw_all := lw_g (lw_at lw_m5 170 rfl) rfl
theorem q1220 : (Jvm.Cond.privateMethod ({ cls := "LabelPlacer", name := "shown", desc := "()I" } : Jvm.MethodName)) ∈ lw_tbl := lw_at lw_m5 171 rfl
theorem q1221 : (Jvm.Cond.instanceMethod ({ cls := "LabelPlacer", name := "shown", desc := "()I" } : Jvm.MethodName)) ∈ lw_all := lw_g (lw_at lw_m5 172 rfl) rfl
theorem q1222 : (Jvm.Cond.code ({ cls := "LabelPlacer", name := "shown", desc := "()I" } : Jvm.MethodName) prog_1_method_20_code (3 : Nat) (Option.some Jvm.ClassFile.FieldType.int)) ∈ lw_all := lw_g (lw_at lw_m5 173 rfl) rfl
theorem q1223 : (Jvm.Cond.methodLink "LabelPlacer" (189 : Nat) ({ cls := "LabelPlacer", name := "fill", desc := "()I" } : Jvm.MethodName)) ∈ lw_all := lw_g (lw_at lw_m5 174 rfl) rfl
theorem q1224 : (Jvm.Cond.instanceMethod ({ cls := "LabelPlacer", name := "fill", desc := "()I" } : Jvm.MethodName)) ∈ lw_all := lw_g (lw_at lw_m5 175 rfl) rfl
theorem q1225 : (Jvm.Cond.selects "LabelPlacer" ({ cls := "LabelPlacer", name := "fill", desc := "()I" } : Jvm.MethodName) ({ cls := "LabelPlacer", name := "fill", desc := "()I" } : Jvm.MethodName)) ∈ lw_all := lw_g (lw_at lw_m5 176 rfl) rfl
theorem q1226 : (Jvm.Cond.code ({ cls := "LabelPlacer", name := "fill", desc := "()I" } : Jvm.MethodName) prog_1_method_30_code (1 : Nat) (Option.some Jvm.ClassFile.FieldType.int)) ∈ lw_all := lw_g (lw_at lw_m5 177 rfl) rfl
theorem q1227 : (Jvm.Cond.privateMethod ({ cls := "LabelPlacer", name := "puts", desc := "(IILLabelPlacer$Box;)Z" } : Jvm.MethodName)) ∈ lw_tbl := lw_at lw_m5 178 rfl
theorem q1228 : (Jvm.Cond.instanceMethod ({ cls := "LabelPlacer", name := "puts", desc := "(IILLabelPlacer$Box;)Z" } : Jvm.MethodName)) ∈ lw_all := lw_g (lw_at lw_m5 179 rfl) rfl
theorem q1229 : (Jvm.Cond.code ({ cls := "LabelPlacer", name := "puts", desc := "(IILLabelPlacer$Box;)Z" } : Jvm.MethodName) prog_1_method_29_code (5 : Nat) (Option.some Jvm.ClassFile.FieldType.boolean)) ∈ lw_all := lw_g (lw_at lw_m5 180 rfl) rfl
theorem q1230 : (Jvm.Cond.methodLink "LabelPlacer" (245 : Nat) ({ cls := "LabelPlacer", name := "tryAll", desc := "(LLabelPlacer$Attempt;)I" } : Jvm.MethodName)) ∈ lw_all := lw_g (lw_at lw_m5 181 rfl) rfl
theorem q1231 : (Jvm.Cond.privateMethod ({ cls := "LabelPlacer", name := "tryAll", desc := "(LLabelPlacer$Attempt;)I" } : Jvm.MethodName)) ∈ lw_tbl := lw_at lw_m5 182 rfl
theorem q1232 : (Jvm.Cond.instanceMethod ({ cls := "LabelPlacer", name := "tryAll", desc := "(LLabelPlacer$Attempt;)I" } : Jvm.MethodName)) ∈ lw_all := lw_g (lw_at lw_m5 183 rfl) rfl
theorem q1233 : (Jvm.Cond.code ({ cls := "LabelPlacer", name := "tryAll", desc := "(LLabelPlacer$Attempt;)I" } : Jvm.MethodName) prog_1_method_28_code (7 : Nat) (Option.some Jvm.ClassFile.FieldType.int)) ∈ lw_all := lw_g (lw_at lw_m5 184 rfl) rfl
theorem q1234 : (Jvm.Cond.methodLink "LabelPlacer" (231 : Nat) ({ cls := "LabelPlacer", name := "ordered", desc := "()Ljava/util/ArrayList;" } : Jvm.MethodName)) ∈ lw_all := lw_g (lw_at lw_m5 185 rfl) rfl
theorem q1235 : (Jvm.Cond.privateMethod ({ cls := "LabelPlacer", name := "ordered", desc := "()Ljava/util/ArrayList;" } : Jvm.MethodName)) ∈ lw_tbl := lw_at lw_m5 186 rfl
theorem q1236 : (Jvm.Cond.instanceMethod ({ cls := "LabelPlacer", name := "ordered", desc := "()Ljava/util/ArrayList;" } : Jvm.MethodName)) ∈ lw_all := lw_g (lw_at lw_m5 187 rfl) rfl
theorem q1237 : (Jvm.Cond.code ({ cls := "LabelPlacer", name := "ordered", desc := "()Ljava/util/ArrayList;" } : Jvm.MethodName) prog_1_method_27_code (4 : Nat) (Option.some (Jvm.ClassFile.FieldType.object "java/util/ArrayList"))) ∈ lw_all := lw_g (lw_at lw_m5 188 rfl) rfl
theorem q1238 : (Jvm.Cond.classLink "LabelPlacer" (132 : Nat) "java/lang/Integer") ∈ lw_all := lw_g (lw_at lw_m5 189 rfl) rfl
theorem q1239 : (Jvm.Cond.methodLink "LabelPlacer" (222 : Nat) ({ cls := "java/lang/Integer", name := "intValue", desc := "()I" } : Jvm.MethodName)) ∈ lw_all := lw_g (lw_at lw_m5 190 rfl) rfl
theorem q1240 : (Jvm.Cond.methodLink "LabelPlacer" (225 : Nat) ({ cls := "LabelPlacer", name := "isBefore", desc := "(II)Z" } : Jvm.MethodName)) ∈ lw_all := lw_g (lw_at lw_m5 191 rfl) rfl
theorem q1241 : (Jvm.Cond.privateMethod ({ cls := "LabelPlacer", name := "isBefore", desc := "(II)Z" } : Jvm.MethodName)) ∈ lw_tbl := lw_at lw_m5 192 rfl
theorem q1242 : (Jvm.Cond.instanceMethod ({ cls := "LabelPlacer", name := "isBefore", desc := "(II)Z" } : Jvm.MethodName)) ∈ lw_all := lw_g (lw_at lw_m5 193 rfl) rfl
theorem q1243 : (Jvm.Cond.code ({ cls := "LabelPlacer", name := "isBefore", desc := "(II)Z" } : Jvm.MethodName) prog_1_method_26_code (4 : Nat) (Option.some Jvm.ClassFile.FieldType.boolean)) ∈ lw_all := lw_g (lw_at lw_m5 194 rfl) rfl
theorem q1244 : (Jvm.Cond.methodLink "LabelPlacer" (228 : Nat) ({ cls := "java/util/ArrayList", name := "add", desc := "(ILjava/lang/Object;)V" } : Jvm.MethodName)) ∈ lw_all := lw_g (lw_at lw_m5 195 rfl) rfl
theorem q1252 : (Jvm.Cond.methodLink "LabelPlacer" (235 : Nat) ({ cls := "java/util/ArrayList", name := "iterator", desc := "()Ljava/util/Iterator;" } : Jvm.MethodName)) ∈ lw_all := lw_g (lw_at lw_m5 203 rfl) rfl
theorem q1275 : (Jvm.Cond.interfaceEntry "LabelPlacer" (202 : Nat)) ∈ lw_tbl := lw_at lw_m5 226 rfl
theorem q1276 : (Jvm.Cond.methodLink "LabelPlacer" (202 : Nat) ({ cls := "java/util/Iterator", name := "hasNext", desc := "()Z" } : Jvm.MethodName)) ∈ lw_all := lw_g (lw_at lw_m5 227 rfl) rfl
theorem q1297 : (Jvm.Cond.interfaceEntry "LabelPlacer" (207 : Nat)) ∈ lw_tbl := lw_at lw_m6 8 rfl
theorem q1298 : (Jvm.Cond.methodLink "LabelPlacer" (207 : Nat) ({ cls := "java/util/Iterator", name := "next", desc := "()Ljava/lang/Object;" } : Jvm.MethodName)) ∈ lw_all := lw_g (lw_at lw_m6 9 rfl) rfl
theorem q1339 : (Jvm.Cond.interfaceEntry "LabelPlacer" (236 : Nat)) ∈ lw_tbl := lw_at lw_m6 50 rfl
theorem q1340 : (Jvm.Cond.methodLink "LabelPlacer" (236 : Nat) ({ cls := "LabelPlacer$Attempt", name := "isDone", desc := "(IILLabelPlacer$Box;)Z" } : Jvm.MethodName)) ∈ lw_all := lw_g (lw_at lw_m6 51 rfl) rfl
theorem q1344 : (Jvm.Cond.instanceMethod ({ cls := "LabelPlacer", name := "place", desc := "(III)I" } : Jvm.MethodName)) ∈ lw_all := lw_g (lw_at lw_m6 55 rfl) rfl
theorem q1345 : (Jvm.Cond.selects "LabelPlacer" ({ cls := "LabelPlacer", name := "place", desc := "(III)I" } : Jvm.MethodName) ({ cls := "LabelPlacer", name := "place", desc := "(III)I" } : Jvm.MethodName)) ∈ lw_all := lw_g (lw_at lw_m6 56 rfl) rfl
theorem q1346 : (Jvm.Cond.code ({ cls := "LabelPlacer", name := "place", desc := "(III)I" } : Jvm.MethodName) prog_1_method_23_code (6 : Nat) (Option.some Jvm.ClassFile.FieldType.int)) ∈ lw_all := lw_g (lw_at lw_m6 57 rfl) rfl
theorem q1347 : (Jvm.Cond.methodLink "LabelPlacer" (214 : Nat) ({ cls := "LabelPlacer", name := "clashes", desc := "(LLabelPlacer$Key;LLabelPlacer$Box;)I" } : Jvm.MethodName)) ∈ lw_all := lw_g (lw_at lw_m6 58 rfl) rfl
theorem q1348 : (Jvm.Cond.privateMethod ({ cls := "LabelPlacer", name := "clashes", desc := "(LLabelPlacer$Key;LLabelPlacer$Box;)I" } : Jvm.MethodName)) ∈ lw_tbl := lw_at lw_m6 59 rfl
theorem q1349 : (Jvm.Cond.instanceMethod ({ cls := "LabelPlacer", name := "clashes", desc := "(LLabelPlacer$Key;LLabelPlacer$Box;)I" } : Jvm.MethodName)) ∈ lw_all := lw_g (lw_at lw_m6 60 rfl) rfl
theorem q1350 : (Jvm.Cond.code ({ cls := "LabelPlacer", name := "clashes", desc := "(LLabelPlacer$Key;LLabelPlacer$Box;)I" } : Jvm.MethodName) prog_1_method_22_code (6 : Nat) (Option.some Jvm.ClassFile.FieldType.int)) ∈ lw_all := lw_g (lw_at lw_m6 61 rfl) rfl
theorem q1351 : (Jvm.Cond.methodLink "LabelPlacer" (192 : Nat) ({ cls := "java/util/LinkedHashMap", name := "keySet", desc := "()Ljava/util/Set;" } : Jvm.MethodName)) ∈ lw_all := lw_g (lw_at lw_m6 62 rfl) rfl
theorem q1373 : (Jvm.Cond.interfaceEntry "LabelPlacer" (196 : Nat)) ∈ lw_tbl := lw_at lw_m6 84 rfl
theorem q1374 : (Jvm.Cond.methodLink "LabelPlacer" (196 : Nat) ({ cls := "java/util/Set", name := "iterator", desc := "()Ljava/util/Iterator;" } : Jvm.MethodName)) ∈ lw_all := lw_g (lw_at lw_m6 85 rfl) rfl
theorem q1452 : (Jvm.Cond.methodLink "LabelPlacer" (218 : Nat) ({ cls := "java/util/LinkedHashSet", name := "size", desc := "()I" } : Jvm.MethodName)) ∈ lw_all := lw_g (lw_at lw_m6 163 rfl) rfl
theorem q1464 : (Jvm.Cond.instanceMethod ({ cls := "LabelPlacer", name := "clash", desc := "(IIII)I" } : Jvm.MethodName)) ∈ lw_all := lw_g (lw_at lw_m6 175 rfl) rfl
theorem q1465 : (Jvm.Cond.selects "LabelPlacer" ({ cls := "LabelPlacer", name := "clash", desc := "(IIII)I" } : Jvm.MethodName) ({ cls := "LabelPlacer", name := "clash", desc := "(IIII)I" } : Jvm.MethodName)) ∈ lw_all := lw_g (lw_at lw_m6 176 rfl) rfl
theorem q1466 : (Jvm.Cond.code ({ cls := "LabelPlacer", name := "clash", desc := "(IIII)I" } : Jvm.MethodName) prog_1_method_24_code (5 : Nat) (Option.some Jvm.ClassFile.FieldType.int)) ∈ lw_all := lw_g (lw_at lw_m6 177 rfl) rfl
theorem q1468 : (Jvm.Cond.instanceMethod ({ cls := "LabelPlacer", name := "labelAt", desc := "(II)I" } : Jvm.MethodName)) ∈ lw_all := lw_g (lw_at lw_m6 179 rfl) rfl
theorem q1469 : (Jvm.Cond.selects "LabelPlacer" ({ cls := "LabelPlacer", name := "labelAt", desc := "(II)I" } : Jvm.MethodName) ({ cls := "LabelPlacer", name := "labelAt", desc := "(II)I" } : Jvm.MethodName)) ∈ lw_all := lw_g (lw_at lw_m6 180 rfl) rfl
theorem q1470 : (Jvm.Cond.code ({ cls := "LabelPlacer", name := "labelAt", desc := "(II)I" } : Jvm.MethodName) prog_1_method_25_code (4 : Nat) (Option.some Jvm.ClassFile.FieldType.int)) ∈ lw_all := lw_g (lw_at lw_m6 181 rfl) rfl
theorem q1473 : (Jvm.Cond.instanceMethod ({ cls := "LabelPlacer", name := "improve", desc := "()I" } : Jvm.MethodName)) ∈ lw_all := lw_g (lw_at lw_m6 184 rfl) rfl
theorem q1474 : (Jvm.Cond.selects "LabelPlacer" ({ cls := "LabelPlacer", name := "improve", desc := "()I" } : Jvm.MethodName) ({ cls := "LabelPlacer", name := "improve", desc := "()I" } : Jvm.MethodName)) ∈ lw_all := lw_g (lw_at lw_m6 185 rfl) rfl
theorem q1475 : (Jvm.Cond.code ({ cls := "LabelPlacer", name := "improve", desc := "()I" } : Jvm.MethodName) prog_1_method_33_code (1 : Nat) (Option.some Jvm.ClassFile.FieldType.int)) ∈ lw_all := lw_g (lw_at lw_m6 186 rfl) rfl
theorem q1476 : (Jvm.Cond.privateMethod ({ cls := "LabelPlacer", name := "makesRoom", desc := "(IILLabelPlacer$Box;)Z" } : Jvm.MethodName)) ∈ lw_tbl := lw_at lw_m6 187 rfl
theorem q1477 : (Jvm.Cond.instanceMethod ({ cls := "LabelPlacer", name := "makesRoom", desc := "(IILLabelPlacer$Box;)Z" } : Jvm.MethodName)) ∈ lw_all := lw_g (lw_at lw_m6 188 rfl) rfl
theorem q1478 : (Jvm.Cond.code ({ cls := "LabelPlacer", name := "makesRoom", desc := "(IILLabelPlacer$Box;)Z" } : Jvm.MethodName) prog_1_method_32_code (6 : Nat) (Option.some Jvm.ClassFile.FieldType.boolean)) ∈ lw_all := lw_g (lw_at lw_m6 189 rfl) rfl
theorem q1479 : (Jvm.Cond.methodLink "LabelPlacer" (249 : Nat) ({ cls := "java/util/LinkedHashSet", name := "iterator", desc := "()Ljava/util/Iterator;" } : Jvm.MethodName)) ∈ lw_all := lw_g (lw_at lw_m6 190 rfl) rfl
theorem q1483 : (Jvm.Cond.methodLink "LabelPlacer" (250 : Nat) ({ cls := "LabelPlacer", name := "moves", desc := "(ILLabelPlacer$Box;)Z" } : Jvm.MethodName)) ∈ lw_all := lw_g (lw_at lw_m6 194 rfl) rfl
theorem q1484 : (Jvm.Cond.privateMethod ({ cls := "LabelPlacer", name := "moves", desc := "(ILLabelPlacer$Box;)Z" } : Jvm.MethodName)) ∈ lw_tbl := lw_at lw_m6 195 rfl
theorem q1485 : (Jvm.Cond.instanceMethod ({ cls := "LabelPlacer", name := "moves", desc := "(ILLabelPlacer$Box;)Z" } : Jvm.MethodName)) ∈ lw_all := lw_g (lw_at lw_m6 196 rfl) rfl
theorem q1486 : (Jvm.Cond.code ({ cls := "LabelPlacer", name := "moves", desc := "(ILLabelPlacer$Box;)Z" } : Jvm.MethodName) prog_1_method_31_code (4 : Nat) (Option.some Jvm.ClassFile.FieldType.boolean)) ∈ lw_all := lw_g (lw_at lw_m6 197 rfl) rfl
theorem q1488 : (Jvm.Cond.instanceMethod ({ cls := "LabelPlacer", name := "push", desc := "()I" } : Jvm.MethodName)) ∈ lw_all := lw_g (lw_at lw_m6 199 rfl) rfl
theorem q1489 : (Jvm.Cond.selects "LabelPlacer" ({ cls := "LabelPlacer", name := "push", desc := "()I" } : Jvm.MethodName) ({ cls := "LabelPlacer", name := "push", desc := "()I" } : Jvm.MethodName)) ∈ lw_all := lw_g (lw_at lw_m6 200 rfl) rfl
theorem q1490 : (Jvm.Cond.code ({ cls := "LabelPlacer", name := "push", desc := "()I" } : Jvm.MethodName) prog_1_method_37_code (2 : Nat) (Option.some Jvm.ClassFile.FieldType.int)) ∈ lw_all := lw_g (lw_at lw_m6 201 rfl) rfl
theorem q1491 : (Jvm.Cond.methodLink "LabelPlacer" (261 : Nat) ({ cls := "LabelPlacer", name := "pushFirst", desc := "()Z" } : Jvm.MethodName)) ∈ lw_all := lw_g (lw_at lw_m6 202 rfl) rfl
theorem q1492 : (Jvm.Cond.privateMethod ({ cls := "LabelPlacer", name := "pushFirst", desc := "()Z" } : Jvm.MethodName)) ∈ lw_tbl := lw_at lw_m6 203 rfl
theorem q1493 : (Jvm.Cond.instanceMethod ({ cls := "LabelPlacer", name := "pushFirst", desc := "()Z" } : Jvm.MethodName)) ∈ lw_all := lw_g (lw_at lw_m6 204 rfl) rfl
theorem q1494 : (Jvm.Cond.code ({ cls := "LabelPlacer", name := "pushFirst", desc := "()Z" } : Jvm.MethodName) prog_1_method_36_code (4 : Nat) (Option.some Jvm.ClassFile.FieldType.boolean)) ∈ lw_all := lw_g (lw_at lw_m6 205 rfl) rfl
theorem q1495 : (Jvm.Cond.methodLink "LabelPlacer" (258 : Nat) ({ cls := "LabelPlacer", name := "pushes", desc := "(IILLabelPlacer$Box;)Z" } : Jvm.MethodName)) ∈ lw_all := lw_g (lw_at lw_m6 206 rfl) rfl
theorem q1496 : (Jvm.Cond.privateMethod ({ cls := "LabelPlacer", name := "pushes", desc := "(IILLabelPlacer$Box;)Z" } : Jvm.MethodName)) ∈ lw_tbl := lw_at lw_m6 207 rfl
theorem q1497 : (Jvm.Cond.instanceMethod ({ cls := "LabelPlacer", name := "pushes", desc := "(IILLabelPlacer$Box;)Z" } : Jvm.MethodName)) ∈ lw_all := lw_g (lw_at lw_m6 208 rfl) rfl
theorem q1498 : (Jvm.Cond.code ({ cls := "LabelPlacer", name := "pushes", desc := "(IILLabelPlacer$Box;)Z" } : Jvm.MethodName) prog_1_method_35_code (6 : Nat) (Option.some Jvm.ClassFile.FieldType.boolean)) ∈ lw_all := lw_g (lw_at lw_m6 209 rfl) rfl
theorem q1499 : (Jvm.Cond.methodLink "LabelPlacer" (255 : Nat) ({ cls := "LabelPlacer", name := "canPush", desc := "(ILLabelPlacer$Box;)Z" } : Jvm.MethodName)) ∈ lw_all := lw_g (lw_at lw_m6 210 rfl) rfl
theorem q1500 : (Jvm.Cond.privateMethod ({ cls := "LabelPlacer", name := "canPush", desc := "(ILLabelPlacer$Box;)Z" } : Jvm.MethodName)) ∈ lw_tbl := lw_at lw_m6 211 rfl
theorem q1501 : (Jvm.Cond.instanceMethod ({ cls := "LabelPlacer", name := "canPush", desc := "(ILLabelPlacer$Box;)Z" } : Jvm.MethodName)) ∈ lw_all := lw_g (lw_at lw_m6 212 rfl) rfl
theorem q1502 : (Jvm.Cond.code ({ cls := "LabelPlacer", name := "canPush", desc := "(ILLabelPlacer$Box;)Z" } : Jvm.MethodName) prog_1_method_34_code (6 : Nat) (Option.some Jvm.ClassFile.FieldType.boolean)) ∈ lw_all := lw_g (lw_at lw_m6 213 rfl) rfl
theorem q1504 : (Jvm.Cond.instanceMethod ({ cls := "LabelPlacer", name := "show", desc := "(II)I" } : Jvm.MethodName)) ∈ lw_all := lw_g (lw_at lw_m6 215 rfl) rfl
theorem q1505 : (Jvm.Cond.selects "LabelPlacer" ({ cls := "LabelPlacer", name := "show", desc := "(II)I" } : Jvm.MethodName) ({ cls := "LabelPlacer", name := "show", desc := "(II)I" } : Jvm.MethodName)) ∈ lw_all := lw_g (lw_at lw_m6 216 rfl) rfl
theorem q1506 : (Jvm.Cond.code ({ cls := "LabelPlacer", name := "show", desc := "(II)I" } : Jvm.MethodName) prog_1_method_38_code (4 : Nat) (Option.some Jvm.ClassFile.FieldType.int)) ∈ lw_all := lw_g (lw_at lw_m6 217 rfl) rfl
theorem q1508 : (Jvm.Cond.instanceMethod ({ cls := "LabelPlacer", name := "hideAll", desc := "()I" } : Jvm.MethodName)) ∈ lw_all := lw_g (lw_at lw_m6 219 rfl) rfl
theorem q1509 : (Jvm.Cond.selects "LabelPlacer" ({ cls := "LabelPlacer", name := "hideAll", desc := "()I" } : Jvm.MethodName) ({ cls := "LabelPlacer", name := "hideAll", desc := "()I" } : Jvm.MethodName)) ∈ lw_all := lw_g (lw_at lw_m6 220 rfl) rfl
theorem q1510 : (Jvm.Cond.code ({ cls := "LabelPlacer", name := "hideAll", desc := "()I" } : Jvm.MethodName) prog_1_method_39_code (3 : Nat) (Option.some Jvm.ClassFile.FieldType.int)) ∈ lw_all := lw_g (lw_at lw_m6 221 rfl) rfl
theorem q1512 : (Jvm.Cond.instanceMethod ({ cls := "LabelPlacer", name := "greatest", desc := "()I" } : Jvm.MethodName)) ∈ lw_all := lw_g (lw_at lw_m6 223 rfl) rfl
theorem q1513 : (Jvm.Cond.selects "LabelPlacer" ({ cls := "LabelPlacer", name := "greatest", desc := "()I" } : Jvm.MethodName) ({ cls := "LabelPlacer", name := "greatest", desc := "()I" } : Jvm.MethodName)) ∈ lw_all := lw_g (lw_at lw_m6 224 rfl) rfl
theorem q1514 : (Jvm.Cond.code ({ cls := "LabelPlacer", name := "greatest", desc := "()I" } : Jvm.MethodName) prog_1_method_40_code (4 : Nat) (Option.some Jvm.ClassFile.FieldType.int)) ∈ lw_all := lw_g (lw_at lw_m6 225 rfl) rfl
theorem q1515 : (Jvm.Cond.classLink "LabelPlacer" (264 : Nat) "LabelPlacer$Search") ∈ lw_all := lw_g (lw_at lw_m6 226 rfl) rfl
theorem q1517 : (Jvm.Cond.methodLink "LabelPlacer" (266 : Nat) ({ cls := "java/util/Arrays", name := "copyOf", desc := "([II)[I" } : Jvm.MethodName)) ∈ lw_all := lw_g (lw_at lw_m6 228 rfl) rfl
theorem q1527 : (Jvm.Cond.methodLink "LabelPlacer" (272 : Nat) ({ cls := "LabelPlacer$Search", name := "<init>", desc := "(LLabelPlacer;[I)V" } : Jvm.MethodName)) ∈ lw_all := lw_g (lw_at lw_m6 238 rfl) rfl
theorem q1540 : (Jvm.Cond.fieldLinkNest "LabelPlacer" (278 : Nat) "LabelPlacer$Search" "best" "I" "LabelPlacer") ∈ lw_tbl := lw_at lw_m7 11 rfl
theorem q1554 : (Jvm.Cond.methodLink "LabelPlacer" (275 : Nat) ({ cls := "LabelPlacer$Search", name := "search", desc := "(II)V" } : Jvm.MethodName)) ∈ lw_all := lw_g (lw_at lw_m7 25 rfl) rfl
theorem q1579 : (Jvm.Cond.instanceMethod ({ cls := "LabelPlacer", name := "leaders", desc := "()I" } : Jvm.MethodName)) ∈ lw_all := lw_g (lw_at lw_m7 50 rfl) rfl
theorem q1580 : (Jvm.Cond.selects "LabelPlacer" ({ cls := "LabelPlacer", name := "leaders", desc := "()I" } : Jvm.MethodName) ({ cls := "LabelPlacer", name := "leaders", desc := "()I" } : Jvm.MethodName)) ∈ lw_all := lw_g (lw_at lw_m7 51 rfl) rfl
theorem q1581 : (Jvm.Cond.code ({ cls := "LabelPlacer", name := "leaders", desc := "()I" } : Jvm.MethodName) prog_1_method_43_code (10 : Nat) (Option.some Jvm.ClassFile.FieldType.int)) ∈ lw_all := lw_g (lw_at lw_m7 52 rfl) rfl
theorem q1582 : (Jvm.Cond.methodLink "LabelPlacer" (285 : Nat) ({ cls := "LabelPlacer", name := "unlabeled", desc := "()Ljava/util/ArrayList;" } : Jvm.MethodName)) ∈ lw_all := lw_g (lw_at lw_m7 53 rfl) rfl
theorem q1583 : (Jvm.Cond.privateMethod ({ cls := "LabelPlacer", name := "unlabeled", desc := "()Ljava/util/ArrayList;" } : Jvm.MethodName)) ∈ lw_tbl := lw_at lw_m7 54 rfl
theorem q1584 : (Jvm.Cond.instanceMethod ({ cls := "LabelPlacer", name := "unlabeled", desc := "()Ljava/util/ArrayList;" } : Jvm.MethodName)) ∈ lw_all := lw_g (lw_at lw_m7 55 rfl) rfl
theorem q1585 : (Jvm.Cond.code ({ cls := "LabelPlacer", name := "unlabeled", desc := "()Ljava/util/ArrayList;" } : Jvm.MethodName) prog_1_method_42_code (4 : Nat) (Option.some (Jvm.ClassFile.FieldType.object "java/util/ArrayList"))) ∈ lw_all := lw_g (lw_at lw_m7 56 rfl) rfl
theorem q1586 : (Jvm.Cond.methodLink "LabelPlacer" (281 : Nat) ({ cls := "LabelPlacer", name := "isAbove", desc := "(LLabelPlacer$Point;LLabelPlacer$Point;)Z" } : Jvm.MethodName)) ∈ lw_all := lw_g (lw_at lw_m7 57 rfl) rfl
theorem q1587 : (Jvm.Cond.privateMethod ({ cls := "LabelPlacer", name := "isAbove", desc := "(LLabelPlacer$Point;LLabelPlacer$Point;)Z" } : Jvm.MethodName)) ∈ lw_tbl := lw_at lw_m7 58 rfl
theorem q1588 : (Jvm.Cond.instanceMethod ({ cls := "LabelPlacer", name := "isAbove", desc := "(LLabelPlacer$Point;LLabelPlacer$Point;)Z" } : Jvm.MethodName)) ∈ lw_all := lw_g (lw_at lw_m7 59 rfl) rfl
theorem q1589 : (Jvm.Cond.code ({ cls := "LabelPlacer", name := "isAbove", desc := "(LLabelPlacer$Point;LLabelPlacer$Point;)Z" } : Jvm.MethodName) prog_1_method_41_code (3 : Nat) (Option.some Jvm.ClassFile.FieldType.boolean)) ∈ lw_all := lw_g (lw_at lw_m7 60 rfl) rfl
theorem q1590 : (Jvm.Cond.classLink "LabelPlacer" (288 : Nat) "LabelPlacer$Leader") ∈ lw_all := lw_g (lw_at lw_m7 61 rfl) rfl
theorem q1592 : (Jvm.Cond.methodLink "LabelPlacer" (290 : Nat) ({ cls := "java/lang/Math", name := "abs", desc := "(I)I" } : Jvm.MethodName)) ∈ lw_all := lw_g (lw_at lw_m7 63 rfl) rfl
theorem q1595 : (Jvm.Cond.methodLink "LabelPlacer" (295 : Nat) ({ cls := "LabelPlacer$Leader", name := "<init>", desc := "(IIII)V" } : Jvm.MethodName)) ∈ lw_all := lw_g (lw_at lw_m7 66 rfl) rfl
theorem q1600 : (Jvm.Cond.fieldLinkNest "LabelPlacer" (296 : Nat) "LabelPlacer$Leader" "point" "I" "LabelPlacer") ∈ lw_tbl := lw_at lw_m7 71 rfl
theorem q1602 : (Jvm.Cond.fieldLinkNest "LabelPlacer" (297 : Nat) "LabelPlacer$Leader" "slot" "I" "LabelPlacer") ∈ lw_tbl := lw_at lw_m7 73 rfl
theorem q1604 : (Jvm.Cond.fieldLinkNest "LabelPlacer" (300 : Nat) "LabelPlacer$Leader" "bend" "I" "LabelPlacer") ∈ lw_tbl := lw_at lw_m7 75 rfl
theorem q1606 : (Jvm.Cond.fieldLinkNest "LabelPlacer" (303 : Nat) "LabelPlacer$Leader" "length" "I" "LabelPlacer") ∈ lw_tbl := lw_at lw_m7 77 rfl
theorem q1617 : (Jvm.Cond.instanceMethod ({ cls := "LabelPlacer", name := "leader", desc := "(II)I" } : Jvm.MethodName)) ∈ lw_all := lw_g (lw_at lw_m7 88 rfl) rfl
theorem q1618 : (Jvm.Cond.selects "LabelPlacer" ({ cls := "LabelPlacer", name := "leader", desc := "(II)I" } : Jvm.MethodName) ({ cls := "LabelPlacer", name := "leader", desc := "(II)I" } : Jvm.MethodName)) ∈ lw_all := lw_g (lw_at lw_m7 89 rfl) rfl
theorem q1619 : (Jvm.Cond.code ({ cls := "LabelPlacer", name := "leader", desc := "(II)I" } : Jvm.MethodName) prog_1_method_44_code (4 : Nat) (Option.some Jvm.ClassFile.FieldType.int)) ∈ lw_all := lw_g (lw_at lw_m7 90 rfl) rfl
theorem q1621 : (Jvm.Cond.instanceMethod ({ cls := "LabelPlacer", name := "type", desc := "(I)I" } : Jvm.MethodName)) ∈ lw_all := lw_g (lw_at lw_m7 92 rfl) rfl
theorem q1622 : (Jvm.Cond.selects "LabelPlacer" ({ cls := "LabelPlacer", name := "type", desc := "(I)I" } : Jvm.MethodName) ({ cls := "LabelPlacer", name := "type", desc := "(I)I" } : Jvm.MethodName)) ∈ lw_all := lw_g (lw_at lw_m7 93 rfl) rfl
theorem q1623 : (Jvm.Cond.code ({ cls := "LabelPlacer", name := "type", desc := "(I)I" } : Jvm.MethodName) prog_1_method_45_code (2 : Nat) (Option.some Jvm.ClassFile.FieldType.int)) ∈ lw_all := lw_g (lw_at lw_m7 94 rfl) rfl
theorem q1625 : (Jvm.Cond.instanceMethod ({ cls := "LabelPlacer", name := "clear", desc := "()I" } : Jvm.MethodName)) ∈ lw_all := lw_g (lw_at lw_m7 96 rfl) rfl
theorem q1626 : (Jvm.Cond.selects "LabelPlacer" ({ cls := "LabelPlacer", name := "clear", desc := "()I" } : Jvm.MethodName) ({ cls := "LabelPlacer", name := "clear", desc := "()I" } : Jvm.MethodName)) ∈ lw_all := lw_g (lw_at lw_m7 97 rfl) rfl
theorem q1627 : (Jvm.Cond.code ({ cls := "LabelPlacer", name := "clear", desc := "()I" } : Jvm.MethodName) prog_1_method_46_code (2 : Nat) (Option.some Jvm.ClassFile.FieldType.int)) ∈ lw_all := lw_g (lw_at lw_m7 98 rfl) rfl
theorem q1629 : (Jvm.Cond.instanceMethod ({ cls := "LabelPlacer", name := "run", desc := "()I" } : Jvm.MethodName)) ∈ lw_all := lw_g (lw_at lw_m7 100 rfl) rfl
theorem q1630 : (Jvm.Cond.selects "LabelPlacer" ({ cls := "LabelPlacer", name := "run", desc := "()I" } : Jvm.MethodName) ({ cls := "LabelPlacer", name := "run", desc := "()I" } : Jvm.MethodName)) ∈ lw_all := lw_g (lw_at lw_m7 101 rfl) rfl
theorem q1631 : (Jvm.Cond.codeWith ({ cls := "LabelPlacer", name := "run", desc := "()I" } : Jvm.MethodName) prog_1_method_47_code (3 : Nat) (Option.some Jvm.ClassFile.FieldType.int) [((9 : Nat), (13 : Nat), (16 : Nat), (319 : Nat))]) ∈ lw_all := lw_g (lw_at lw_m7 102 rfl) rfl
theorem q1632 : (Jvm.Cond.classLink "LabelPlacer" (319 : Nat) "LabelPlacer$TextFault") ∈ lw_all := lw_g (lw_at lw_m7 103 rfl) rfl
theorem q1633 : (Jvm.Cond.classLink "LabelPlacer" (311 : Nat) "LabelPlacer$CommandReader") ∈ lw_all := lw_g (lw_at lw_m7 104 rfl) rfl
theorem q1635 : (Jvm.Cond.methodLinkNest "LabelPlacer" (313 : Nat) ({ cls := "LabelPlacer$CommandReader", name := "<init>", desc := "(LLabelPlacer;)V" } : Jvm.MethodName) "LabelPlacer") ∈ lw_tbl := lw_at lw_m7 106 rfl
theorem q1641 : (Jvm.Cond.fieldLinkNest "LabelPlacer" (324 : Nat) "LabelPlacer$CommandReader" "command" "LLabelPlacer$Command;" "LabelPlacer") ∈ lw_tbl := lw_at lw_m7 112 rfl
theorem q1643 : (Jvm.Cond.fieldLinkNest "LabelPlacer" (328 : Nat) "LabelPlacer$CommandReader" "numbers" "[I" "LabelPlacer") ∈ lw_tbl := lw_at lw_m7 114 rfl
theorem q1654 : (Jvm.Cond.methodLink "LabelPlacer" (316 : Nat) ({ cls := "LabelPlacer$CommandReader", name := "read", desc := "()V" } : Jvm.MethodName)) ∈ lw_all := lw_g (lw_at lw_m7 125 rfl) rfl
theorem q1935 : (Jvm.Cond.fieldLinkNest "LabelPlacer" (321 : Nat) "LabelPlacer$TextFault" "index" "I" "LabelPlacer") ∈ lw_tbl := lw_at lw_m8 166 rfl
theorem q2006 : (Jvm.Cond.interfaceEntry "LabelPlacer" (332 : Nat)) ∈ lw_tbl := lw_at lw_m8 237 rfl
theorem q2007 : (Jvm.Cond.methodLink "LabelPlacer" (332 : Nat) ({ cls := "LabelPlacer$Command", name := "run", desc := "(LLabelPlacer;[I)I" } : Jvm.MethodName)) ∈ lw_all := lw_g (lw_at lw_m8 238 rfl) rfl
theorem q2037 : (Jvm.Cond.instanceMethod ({ cls := "LabelPlacer", name := "count", desc := "(I)I" } : Jvm.MethodName)) ∈ lw_all := lw_g (lw_at lw_m9 28 rfl) rfl
theorem q2038 : (Jvm.Cond.selects "LabelPlacer" ({ cls := "LabelPlacer", name := "count", desc := "(I)I" } : Jvm.MethodName) ({ cls := "LabelPlacer", name := "count", desc := "(I)I" } : Jvm.MethodName)) ∈ lw_all := lw_g (lw_at lw_m9 29 rfl) rfl
theorem q2039 : (Jvm.Cond.code ({ cls := "LabelPlacer", name := "count", desc := "(I)I" } : Jvm.MethodName) prog_1_method_51_code (2 : Nat) (Option.some Jvm.ClassFile.FieldType.int)) ∈ lw_all := lw_g (lw_at lw_m9 30 rfl) rfl
theorem q2040 : (Jvm.Cond.methodLink "LabelPlacer" (338 : Nat) ({ cls := "java/util/LinkedHashMap", name := "size", desc := "()I" } : Jvm.MethodName)) ∈ lw_all := lw_g (lw_at lw_m9 31 rfl) rfl
theorem q2044 : (Jvm.Cond.methodLink "LabelPlacer" (339 : Nat) ({ cls := "LabelPlacer", name := "clashingPairs", desc := "()I" } : Jvm.MethodName)) ∈ lw_all := lw_g (lw_at lw_m9 35 rfl) rfl
theorem q2045 : (Jvm.Cond.privateMethod ({ cls := "LabelPlacer", name := "clashingPairs", desc := "()I" } : Jvm.MethodName)) ∈ lw_tbl := lw_at lw_m9 36 rfl
theorem q2046 : (Jvm.Cond.instanceMethod ({ cls := "LabelPlacer", name := "clashingPairs", desc := "()I" } : Jvm.MethodName)) ∈ lw_all := lw_g (lw_at lw_m9 37 rfl) rfl
theorem q2047 : (Jvm.Cond.code ({ cls := "LabelPlacer", name := "clashingPairs", desc := "()I" } : Jvm.MethodName) prog_1_method_48_code (4 : Nat) (Option.some Jvm.ClassFile.FieldType.int)) ∈ lw_all := lw_g (lw_at lw_m9 38 rfl) rfl
theorem q2048 : (Jvm.Cond.methodLink "LabelPlacer" (342 : Nat) ({ cls := "LabelPlacer", name := "prioritySum", desc := "()I" } : Jvm.MethodName)) ∈ lw_all := lw_g (lw_at lw_m9 39 rfl) rfl
theorem q2049 : (Jvm.Cond.privateMethod ({ cls := "LabelPlacer", name := "prioritySum", desc := "()I" } : Jvm.MethodName)) ∈ lw_tbl := lw_at lw_m9 40 rfl
theorem q2050 : (Jvm.Cond.instanceMethod ({ cls := "LabelPlacer", name := "prioritySum", desc := "()I" } : Jvm.MethodName)) ∈ lw_all := lw_g (lw_at lw_m9 41 rfl) rfl
theorem q2051 : (Jvm.Cond.code ({ cls := "LabelPlacer", name := "prioritySum", desc := "()I" } : Jvm.MethodName) prog_1_method_49_code (3 : Nat) (Option.some Jvm.ClassFile.FieldType.int)) ∈ lw_all := lw_g (lw_at lw_m9 42 rfl) rfl
theorem q2052 : (Jvm.Cond.methodLink "LabelPlacer" (345 : Nat) ({ cls := "LabelPlacer", name := "pushable", desc := "()I" } : Jvm.MethodName)) ∈ lw_all := lw_g (lw_at lw_m9 43 rfl) rfl
theorem q2053 : (Jvm.Cond.privateMethod ({ cls := "LabelPlacer", name := "pushable", desc := "()I" } : Jvm.MethodName)) ∈ lw_tbl := lw_at lw_m9 44 rfl
theorem q2054 : (Jvm.Cond.instanceMethod ({ cls := "LabelPlacer", name := "pushable", desc := "()I" } : Jvm.MethodName)) ∈ lw_all := lw_g (lw_at lw_m9 45 rfl) rfl
theorem q2055 : (Jvm.Cond.code ({ cls := "LabelPlacer", name := "pushable", desc := "()I" } : Jvm.MethodName) prog_1_method_50_code (5 : Nat) (Option.some Jvm.ClassFile.FieldType.int)) ∈ lw_all := lw_g (lw_at lw_m9 46 rfl) rfl
theorem q2057 : (Jvm.Cond.instanceMethod ({ cls := "LabelPlacer", name := "digest", desc := "()J" } : Jvm.MethodName)) ∈ lw_all := lw_g (lw_at lw_m9 48 rfl) rfl
theorem q2058 : (Jvm.Cond.selects "LabelPlacer" ({ cls := "LabelPlacer", name := "digest", desc := "()J" } : Jvm.MethodName) ({ cls := "LabelPlacer", name := "digest", desc := "()J" } : Jvm.MethodName)) ∈ lw_all := lw_g (lw_at lw_m9 49 rfl) rfl
theorem q2059 : (Jvm.Cond.code ({ cls := "LabelPlacer", name := "digest", desc := "()J" } : Jvm.MethodName) prog_1_method_54_code (3 : Nat) (Option.some Jvm.ClassFile.FieldType.long)) ∈ lw_all := lw_g (lw_at lw_m9 50 rfl) rfl
theorem q2060 : (Jvm.Cond.constantLong "LabelPlacer" (365 : Nat) (325 : Int64)) ∈ lw_all := lw_g (lw_at lw_m9 51 rfl) rfl
theorem q2061 : (Jvm.Cond.methodLink "LabelPlacer" (367 : Nat) ({ cls := "LabelPlacer", name := "count", desc := "(I)I" } : Jvm.MethodName)) ∈ lw_all := lw_g (lw_at lw_m9 52 rfl) rfl
theorem q2062 : (Jvm.Cond.methodLink "LabelPlacer" (357 : Nat) ({ cls := "LabelPlacer", name := "mix", desc := "(J)V" } : Jvm.MethodName)) ∈ lw_all := lw_g (lw_at lw_m9 53 rfl) rfl
theorem q2063 : (Jvm.Cond.privateMethod ({ cls := "LabelPlacer", name := "mix", desc := "(J)V" } : Jvm.MethodName)) ∈ lw_tbl := lw_at lw_m9 54 rfl
theorem q2064 : (Jvm.Cond.instanceMethod ({ cls := "LabelPlacer", name := "mix", desc := "(J)V" } : Jvm.MethodName)) ∈ lw_all := lw_g (lw_at lw_m9 55 rfl) rfl
theorem q2065 : (Jvm.Cond.code ({ cls := "LabelPlacer", name := "mix", desc := "(J)V" } : Jvm.MethodName) prog_1_method_52_code (3 : Nat) (Option.none : Option Jvm.ClassFile.FieldType)) ∈ lw_all := lw_g (lw_at lw_m9 56 rfl) rfl
theorem q2066 : (Jvm.Cond.constantLong "LabelPlacer" (348 : Nat) (31 : Int64)) ∈ lw_all := lw_g (lw_at lw_m9 57 rfl) rfl
theorem q2067 : (Jvm.Cond.methodLink "LabelPlacer" (370 : Nat) ({ cls := "LabelPlacer", name := "mixPoint", desc := "(I)V" } : Jvm.MethodName)) ∈ lw_all := lw_g (lw_at lw_m9 58 rfl) rfl
theorem q2068 : (Jvm.Cond.privateMethod ({ cls := "LabelPlacer", name := "mixPoint", desc := "(I)V" } : Jvm.MethodName)) ∈ lw_tbl := lw_at lw_m9 59 rfl
theorem q2069 : (Jvm.Cond.instanceMethod ({ cls := "LabelPlacer", name := "mixPoint", desc := "(I)V" } : Jvm.MethodName)) ∈ lw_all := lw_g (lw_at lw_m9 60 rfl) rfl
theorem q2070 : (Jvm.Cond.code ({ cls := "LabelPlacer", name := "mixPoint", desc := "(I)V" } : Jvm.MethodName) prog_1_method_53_code (4 : Nat) (Option.none : Option Jvm.ClassFile.FieldType)) ∈ lw_all := lw_g (lw_at lw_m9 61 rfl) rfl
theorem q2071 : (Jvm.Cond.methodLink "LabelPlacer" (354 : Nat) ({ cls := "LabelPlacer", name := "point", desc := "(II)I" } : Jvm.MethodName)) ∈ lw_all := lw_g (lw_at lw_m9 62 rfl) rfl
theorem q2072 : (Jvm.Cond.methodLink "LabelPlacer" (361 : Nat) ({ cls := "LabelPlacer", name := "place", desc := "(III)I" } : Jvm.MethodName)) ∈ lw_all := lw_g (lw_at lw_m9 63 rfl) rfl
theorem q2073 : (Jvm.Cond.methodLink "LabelPlacer" (374 : Nat) ({ cls := "LabelPlacer", name := "leader", desc := "(II)I" } : Jvm.MethodName)) ∈ lw_all := lw_g (lw_at lw_m9 64 rfl) rfl
theorem q2457 : (Jvm.Cond.castable "LabelPlacer" "java/lang/Object") ∈ lw_tbl := lw_at lw_m10 208 rfl
theorem in_X0 : ∀ w ∈ wsX00, w ∈ lw_all := lw_in wsX00 [245, 247, 249, 251, 253, 255, 257] (by decide +kernel) (by decide +kernel)
