/-! LabelPlacerModel -/
set_option maxRecDepth 100000
def RX4 : String := "LabelPlacerModel"
def TX4 : u_T := fun k => match k with
  | 0 => ("LabelPlacerModel", "m", "[I", true)
  | 1 => ("LabelPlacerModel", "many", "I", false)
  | 2 => ("LabelPlacerModel", "wx", "I", false)
  | 3 => ("LabelPlacerModel", "wy", "I", false)
  | 4 => ("LabelPlacerModel", "ww", "I", false)
  | 5 => ("LabelPlacerModel", "wh", "I", false)
  | 6 => ("LabelPlacerModel", "place", "[Z", true)
  | 7 => ("LabelPlacerModel", "order", "[I", true)
  | 8 => ("LabelPlacerModel", "tried", "[I", true)
  | 9 => ("LabelPlacerModel", "those", "[I", true)
  | 10 => ("LabelPlacerModel", "leader", "[I", true)
  | 11 => ("LabelPlacerModel", "leaders", "I", false)
  | 12 => ("LabelPlacerModel", "queue", "[I", true)
  | 13 => ("LabelPlacerModel", "text", "[I", true)
  | 14 => ("LabelPlacerModel", "textLength", "I", false)
  | 15 => ("LabelPlacerModel", "at", "I", false)
  | 16 => ("LabelPlacerModel", "fault", "I", false)
  | 17 => ("LabelPlacerModel", "word", "[I", true)
  | 18 => ("LabelPlacerModel", "letters", "I", false)
  | 19 => ("LabelPlacerModel", "read", "[I", true)
  | _ => ("LabelPlacerModel", "hash", "J", false)
def tyX4 : Nat → FieldType := fun k => match k with
  | 0 => .array .int
  | 1 => .int
  | 2 => .int
  | 3 => .int
  | 4 => .int
  | 5 => .int
  | 6 => .array .boolean
  | 7 => .array .int
  | 8 => .array .int
  | 9 => .array .int
  | 10 => .array .int
  | 11 => .int
  | 12 => .array .int
  | 13 => .array .int
  | 14 => .int
  | 15 => .int
  | 16 => .int
  | 17 => .array .int
  | 18 => .int
  | 19 => .array .int
  | _ => .long
abbrev wsX40 : List Cond := u_ws RX4 TX4 21
set_option maxRecDepth 100000 in
theorem nmX4 : ∀ a, a < 21 → ∀ b, b < 21 → a ≠ b → (TX4 a).2.1 ≠ (TX4 b).2.1 := by decide +kernel
set_option maxRecDepth 100000 in
theorem tyX4_ok : ∀ k, k < 21 → parseFieldDescriptor (TX4 k).2.2.1 = some (tyX4 k) := by decide +kernel
abbrev cX4_init : ByteArray := prog_17_method_1_code
def yX4_init : MethodName := ⟨RX4, "<init>", "()V"⟩
def dkwX4_init_4 : List UInt8 := [188, 10, 181, 0, 45, 177]
abbrev dktX4_init_4 : List UInt8 := dkwX4_init_4 ++ []
def dkwX4_init_3 : List UInt8 := [188, 10, 181, 0, 36, 42, 16, 80, 188, 10, 181, 0, 39, 42, 16, 80, 188, 10, 181, 0, 42, 42, 8]
abbrev dktX4_init_3 : List UInt8 := dkwX4_init_3 ++ dktX4_init_4
def dkwX4_init_2 : List UInt8 := [188, 10, 181, 0, 27, 42, 16, 6, 188, 10, 181, 0, 30, 42, 16, 80, 188, 10, 181, 0, 33, 42, 16, 20]
abbrev dktX4_init_2 : List UInt8 := dkwX4_init_2 ++ dktX4_init_3
def dkwX4_init_1 : List UInt8 := [181, 0, 17, 42, 17, 0, 160, 188, 4, 181, 0, 20, 42, 16, 20, 188, 10, 181, 0, 24, 42, 16, 6]
abbrev dktX4_init_1 : List UInt8 := dkwX4_init_1 ++ dktX4_init_2
def dkwX4_init_0 : List UInt8 := [42, 183, 0, 1, 42, 17, 0, 140, 188, 10, 181, 0, 7, 42, 16, 60, 181, 0, 13, 42, 16, 40]
abbrev dktX4_init_0 : List UInt8 := dkwX4_init_0 ++ dktX4_init_1
theorem dksX4_init_0 : cX4_init.data.toList.drop 0 = dktX4_init_0 := by decide +kernel
theorem dksX4_init_1 : cX4_init.data.toList.drop 22 = dktX4_init_1 := dk_seg dksX4_init_0 22 rfl rfl
theorem dksX4_init_2 : cX4_init.data.toList.drop 45 = dktX4_init_2 := dk_seg dksX4_init_1 23 rfl rfl
theorem dksX4_init_3 : cX4_init.data.toList.drop 69 = dktX4_init_3 := dk_seg dksX4_init_2 24 rfl rfl
theorem dksX4_init_4 : cX4_init.data.toList.drop 92 = dktX4_init_4 := dk_seg dksX4_init_3 23 rfl rfl
theorem dX4_init_0 : decode cX4_init 0 = .ok (.aload_n 0, 1) := dk_42 (dk_at dksX4_init_0 0 rfl rfl)
theorem dX4_init_1 : decode cX4_init 1 = .ok (.invokespecial 1, 3) := dk_183 0 1 (dk_at dksX4_init_0 1 rfl rfl)
theorem dX4_init_4 : decode cX4_init 4 = .ok (.aload_n 0, 1) := dk_42 (dk_at dksX4_init_0 4 rfl rfl)
theorem dX4_init_5 : decode cX4_init 5 = .ok (.sipush 140, 3) := dk_17 0 140 (dk_at dksX4_init_0 5 rfl rfl)
theorem dX4_init_8 : decode cX4_init 8 = .ok (.newarray .int, 2) := dk_188_10 (dk_at dksX4_init_0 8 rfl rfl)
theorem dX4_init_10 : decode cX4_init 10 = .ok (.putfield 7, 3) := dk_181 0 7 (dk_at dksX4_init_0 10 rfl rfl)
theorem dX4_init_13 : decode cX4_init 13 = .ok (.aload_n 0, 1) := dk_42 (dk_at dksX4_init_0 13 rfl rfl)
theorem dX4_init_14 : decode cX4_init 14 = .ok (.bipush 60, 2) := dk_16 60 (dk_at dksX4_init_0 14 rfl rfl)
theorem dX4_init_16 : decode cX4_init 16 = .ok (.putfield 13, 3) := dk_181 0 13 (dk_at dksX4_init_0 16 rfl rfl)
theorem dX4_init_19 : decode cX4_init 19 = .ok (.aload_n 0, 1) := dk_42 (dk_at dksX4_init_0 19 rfl rfl)
theorem dX4_init_20 : decode cX4_init 20 = .ok (.bipush 40, 2) := dk_16 40 (dk_at dksX4_init_0 20 rfl rfl)
theorem dX4_init_22 : decode cX4_init 22 = .ok (.putfield 17, 3) := dk_181 0 17 (dk_at dksX4_init_1 0 rfl rfl)
theorem dX4_init_25 : decode cX4_init 25 = .ok (.aload_n 0, 1) := dk_42 (dk_at dksX4_init_1 3 rfl rfl)
theorem dX4_init_26 : decode cX4_init 26 = .ok (.sipush 160, 3) := dk_17 0 160 (dk_at dksX4_init_1 4 rfl rfl)
theorem dX4_init_29 : decode cX4_init 29 = .ok (.newarray .boolean, 2) := dk_188_4 (dk_at dksX4_init_1 7 rfl rfl)
theorem dX4_init_31 : decode cX4_init 31 = .ok (.putfield 20, 3) := dk_181 0 20 (dk_at dksX4_init_1 9 rfl rfl)
theorem dX4_init_34 : decode cX4_init 34 = .ok (.aload_n 0, 1) := dk_42 (dk_at dksX4_init_1 12 rfl rfl)
theorem dX4_init_35 : decode cX4_init 35 = .ok (.bipush 20, 2) := dk_16 20 (dk_at dksX4_init_1 13 rfl rfl)
theorem dX4_init_37 : decode cX4_init 37 = .ok (.newarray .int, 2) := dk_188_10 (dk_at dksX4_init_1 15 rfl rfl)
theorem dX4_init_39 : decode cX4_init 39 = .ok (.putfield 24, 3) := dk_181 0 24 (dk_at dksX4_init_1 17 rfl rfl)
theorem dX4_init_42 : decode cX4_init 42 = .ok (.aload_n 0, 1) := dk_42 (dk_at dksX4_init_1 20 rfl rfl)
theorem dX4_init_43 : decode cX4_init 43 = .ok (.bipush 6, 2) := dk_16 6 (dk_at dksX4_init_1 21 rfl rfl)
theorem dX4_init_45 : decode cX4_init 45 = .ok (.newarray .int, 2) := dk_188_10 (dk_at dksX4_init_2 0 rfl rfl)
theorem dX4_init_47 : decode cX4_init 47 = .ok (.putfield 27, 3) := dk_181 0 27 (dk_at dksX4_init_2 2 rfl rfl)
theorem dX4_init_50 : decode cX4_init 50 = .ok (.aload_n 0, 1) := dk_42 (dk_at dksX4_init_2 5 rfl rfl)
theorem dX4_init_51 : decode cX4_init 51 = .ok (.bipush 6, 2) := dk_16 6 (dk_at dksX4_init_2 6 rfl rfl)
theorem dX4_init_53 : decode cX4_init 53 = .ok (.newarray .int, 2) := dk_188_10 (dk_at dksX4_init_2 8 rfl rfl)
theorem dX4_init_55 : decode cX4_init 55 = .ok (.putfield 30, 3) := dk_181 0 30 (dk_at dksX4_init_2 10 rfl rfl)
theorem dX4_init_58 : decode cX4_init 58 = .ok (.aload_n 0, 1) := dk_42 (dk_at dksX4_init_2 13 rfl rfl)
theorem dX4_init_59 : decode cX4_init 59 = .ok (.bipush 80, 2) := dk_16 80 (dk_at dksX4_init_2 14 rfl rfl)
theorem dX4_init_61 : decode cX4_init 61 = .ok (.newarray .int, 2) := dk_188_10 (dk_at dksX4_init_2 16 rfl rfl)
theorem dX4_init_63 : decode cX4_init 63 = .ok (.putfield 33, 3) := dk_181 0 33 (dk_at dksX4_init_2 18 rfl rfl)
theorem dX4_init_66 : decode cX4_init 66 = .ok (.aload_n 0, 1) := dk_42 (dk_at dksX4_init_2 21 rfl rfl)
theorem dX4_init_67 : decode cX4_init 67 = .ok (.bipush 20, 2) := dk_16 20 (dk_at dksX4_init_2 22 rfl rfl)
theorem dX4_init_69 : decode cX4_init 69 = .ok (.newarray .int, 2) := dk_188_10 (dk_at dksX4_init_3 0 rfl rfl)
theorem dX4_init_71 : decode cX4_init 71 = .ok (.putfield 36, 3) := dk_181 0 36 (dk_at dksX4_init_3 2 rfl rfl)
theorem dX4_init_74 : decode cX4_init 74 = .ok (.aload_n 0, 1) := dk_42 (dk_at dksX4_init_3 5 rfl rfl)
theorem dX4_init_75 : decode cX4_init 75 = .ok (.bipush 80, 2) := dk_16 80 (dk_at dksX4_init_3 6 rfl rfl)
theorem dX4_init_77 : decode cX4_init 77 = .ok (.newarray .int, 2) := dk_188_10 (dk_at dksX4_init_3 8 rfl rfl)
theorem dX4_init_79 : decode cX4_init 79 = .ok (.putfield 39, 3) := dk_181 0 39 (dk_at dksX4_init_3 10 rfl rfl)
theorem dX4_init_82 : decode cX4_init 82 = .ok (.aload_n 0, 1) := dk_42 (dk_at dksX4_init_3 13 rfl rfl)
theorem dX4_init_83 : decode cX4_init 83 = .ok (.bipush 80, 2) := dk_16 80 (dk_at dksX4_init_3 14 rfl rfl)
theorem dX4_init_85 : decode cX4_init 85 = .ok (.newarray .int, 2) := dk_188_10 (dk_at dksX4_init_3 16 rfl rfl)
theorem dX4_init_87 : decode cX4_init 87 = .ok (.putfield 42, 3) := dk_181 0 42 (dk_at dksX4_init_3 18 rfl rfl)
theorem dX4_init_90 : decode cX4_init 90 = .ok (.aload_n 0, 1) := dk_42 (dk_at dksX4_init_3 21 rfl rfl)
theorem dX4_init_91 : decode cX4_init 91 = .ok (.iconst 5, 1) := dk_8 (dk_at dksX4_init_3 22 rfl rfl)
theorem dX4_init_92 : decode cX4_init 92 = .ok (.newarray .int, 2) := dk_188_10 (dk_at dksX4_init_4 0 rfl rfl)
theorem dX4_init_94 : decode cX4_init 94 = .ok (.putfield 45, 3) := dk_181 0 45 (dk_at dksX4_init_4 2 rfl rfl)
theorem dX4_init_97 : decode cX4_init 97 = .ok (.return_, 1) := dk_177 (dk_at dksX4_init_4 5 rfl rfl)
abbrev cX4_addPoint : ByteArray := prog_17_method_18_code
def yX4_addPoint : MethodName := ⟨RX4, "addPoint", "(IIIIII)I"⟩
def dkwX4_addPoint_8 : List UInt8 := [96, 2, 79, 42, 89, 180, 0, 48, 4, 96, 181, 0, 48, 42, 182, 0, 102, 42, 180, 0, 48, 4, 100, 172]
abbrev dktX4_addPoint_8 : List UInt8 := dkwX4_addPoint_8 ++ []
def dkwX4_addPoint_7 : List UInt8 := [42, 180, 0, 7, 16, 100, 42, 180, 0, 48, 96, 21, 6, 79, 42, 180, 0, 7, 16, 120, 42, 180, 0, 48]
abbrev dktX4_addPoint_7 : List UInt8 := dkwX4_addPoint_7 ++ dktX4_addPoint_8
def dkwX4_addPoint_6 : List UInt8 := [16, 60, 42, 180, 0, 48, 96, 21, 4, 79, 42, 180, 0, 7, 16, 80, 42, 180, 0, 48, 96, 21, 5, 79]
abbrev dktX4_addPoint_6 : List UInt8 := dkwX4_addPoint_6 ++ dktX4_addPoint_7
def dkwX4_addPoint_5 : List UInt8 := [42, 180, 0, 48, 96, 28, 79, 42, 180, 0, 7, 16, 40, 42, 180, 0, 48, 96, 29, 79, 42, 180, 0, 7]
abbrev dktX4_addPoint_5 : List UInt8 := dkwX4_addPoint_5 ++ dktX4_addPoint_6
def dkwX4_addPoint_4 : List UInt8 := [160, 0, 6, 16, 252, 172, 42, 180, 0, 7, 3, 42, 180, 0, 48, 96, 27, 79, 42, 180, 0, 7, 16, 20]
abbrev dktX4_addPoint_4 : List UInt8 := dkwX4_addPoint_4 ++ dktX4_addPoint_5
def dkwX4_addPoint_3 : List UInt8 := [16, 254, 172, 42, 27, 28, 182, 0, 99, 2, 159, 0, 6, 16, 253, 172, 42, 180, 0, 48, 16, 20]
abbrev dktX4_addPoint_3 : List UInt8 := dkwX4_addPoint_3 ++ dktX4_addPoint_4
def dkwX4_addPoint_2 : List UInt8 := [21, 7, 153, 0, 21, 7, 21, 5, 184, 0, 96, 153, 0, 12, 8, 21, 6, 184, 0, 96, 154, 0, 6]
abbrev dktX4_addPoint_2 : List UInt8 := dkwX4_addPoint_2 ++ dktX4_addPoint_3
def dkwX4_addPoint_1 : List UInt8 := [5, 29, 184, 0, 96, 153, 0, 16, 6, 21, 4, 184, 0, 96, 153, 0, 7, 4, 167, 0, 4, 3, 54, 7]
abbrev dktX4_addPoint_1 : List UInt8 := dkwX4_addPoint_1 ++ dktX4_addPoint_2
def dkwX4_addPoint_0 : List UInt8 := [27, 133, 9, 20, 0, 94, 184, 0, 51, 153, 0, 36, 28, 133, 9, 20, 0, 94, 184, 0, 51, 153, 0, 24]
abbrev dktX4_addPoint_0 : List UInt8 := dkwX4_addPoint_0 ++ dktX4_addPoint_1
theorem dksX4_addPoint_0 : cX4_addPoint.data.toList.drop 0 = dktX4_addPoint_0 := by decide +kernel
theorem dksX4_addPoint_1 : cX4_addPoint.data.toList.drop 24 = dktX4_addPoint_1 := dk_seg dksX4_addPoint_0 24 rfl rfl
theorem dksX4_addPoint_2 : cX4_addPoint.data.toList.drop 48 = dktX4_addPoint_2 := dk_seg dksX4_addPoint_1 24 rfl rfl
theorem dksX4_addPoint_3 : cX4_addPoint.data.toList.drop 71 = dktX4_addPoint_3 := dk_seg dksX4_addPoint_2 23 rfl rfl
theorem dksX4_addPoint_4 : cX4_addPoint.data.toList.drop 93 = dktX4_addPoint_4 := dk_seg dksX4_addPoint_3 22 rfl rfl
theorem dksX4_addPoint_5 : cX4_addPoint.data.toList.drop 117 = dktX4_addPoint_5 := dk_seg dksX4_addPoint_4 24 rfl rfl
theorem dksX4_addPoint_6 : cX4_addPoint.data.toList.drop 141 = dktX4_addPoint_6 := dk_seg dksX4_addPoint_5 24 rfl rfl
theorem dksX4_addPoint_7 : cX4_addPoint.data.toList.drop 165 = dktX4_addPoint_7 := dk_seg dksX4_addPoint_6 24 rfl rfl
theorem dksX4_addPoint_8 : cX4_addPoint.data.toList.drop 189 = dktX4_addPoint_8 := dk_seg dksX4_addPoint_7 24 rfl rfl
theorem dX4_addPoint_0 : decode cX4_addPoint 0 = .ok (.iload_n 1, 1) := dk_27 (dk_at dksX4_addPoint_0 0 rfl rfl)
theorem dX4_addPoint_1 : decode cX4_addPoint 1 = .ok (.i2l, 1) := dk_133 (dk_at dksX4_addPoint_0 1 rfl rfl)
theorem dX4_addPoint_2 : decode cX4_addPoint 2 = .ok (.lconst 0, 1) := dk_9 (dk_at dksX4_addPoint_0 2 rfl rfl)
theorem dX4_addPoint_3 : decode cX4_addPoint 3 = .ok (.ldc2_w 94, 3) := dk_20 0 94 (dk_at dksX4_addPoint_0 3 rfl rfl)
theorem dX4_addPoint_6 : decode cX4_addPoint 6 = .ok (.invokestatic 51, 3) := dk_184 0 51 (dk_at dksX4_addPoint_0 6 rfl rfl)
theorem dX4_addPoint_9 : decode cX4_addPoint 9 = .ok (.ifCond .eq 36, 3) := dk_153 0 36 (dk_at dksX4_addPoint_0 9 rfl rfl)
theorem dX4_addPoint_12 : decode cX4_addPoint 12 = .ok (.iload_n 2, 1) := dk_28 (dk_at dksX4_addPoint_0 12 rfl rfl)
theorem dX4_addPoint_13 : decode cX4_addPoint 13 = .ok (.i2l, 1) := dk_133 (dk_at dksX4_addPoint_0 13 rfl rfl)
theorem dX4_addPoint_14 : decode cX4_addPoint 14 = .ok (.lconst 0, 1) := dk_9 (dk_at dksX4_addPoint_0 14 rfl rfl)
theorem dX4_addPoint_15 : decode cX4_addPoint 15 = .ok (.ldc2_w 94, 3) := dk_20 0 94 (dk_at dksX4_addPoint_0 15 rfl rfl)
theorem dX4_addPoint_18 : decode cX4_addPoint 18 = .ok (.invokestatic 51, 3) := dk_184 0 51 (dk_at dksX4_addPoint_0 18 rfl rfl)
theorem dX4_addPoint_21 : decode cX4_addPoint 21 = .ok (.ifCond .eq 24, 3) := dk_153 0 24 (dk_at dksX4_addPoint_0 21 rfl rfl)
theorem dX4_addPoint_24 : decode cX4_addPoint 24 = .ok (.iconst 2, 1) := dk_5 (dk_at dksX4_addPoint_1 0 rfl rfl)
theorem dX4_addPoint_25 : decode cX4_addPoint 25 = .ok (.iload_n 3, 1) := dk_29 (dk_at dksX4_addPoint_1 1 rfl rfl)
theorem dX4_addPoint_26 : decode cX4_addPoint 26 = .ok (.invokestatic 96, 3) := dk_184 0 96 (dk_at dksX4_addPoint_1 2 rfl rfl)
theorem dX4_addPoint_29 : decode cX4_addPoint 29 = .ok (.ifCond .eq 16, 3) := dk_153 0 16 (dk_at dksX4_addPoint_1 5 rfl rfl)
theorem dX4_addPoint_32 : decode cX4_addPoint 32 = .ok (.iconst 3, 1) := dk_6 (dk_at dksX4_addPoint_1 8 rfl rfl)
theorem dX4_addPoint_33 : decode cX4_addPoint 33 = .ok (.iload 4, 2) := dk_21 4 (dk_at dksX4_addPoint_1 9 rfl rfl)
theorem dX4_addPoint_35 : decode cX4_addPoint 35 = .ok (.invokestatic 96, 3) := dk_184 0 96 (dk_at dksX4_addPoint_1 11 rfl rfl)
theorem dX4_addPoint_38 : decode cX4_addPoint 38 = .ok (.ifCond .eq 7, 3) := dk_153 0 7 (dk_at dksX4_addPoint_1 14 rfl rfl)
theorem dX4_addPoint_41 : decode cX4_addPoint 41 = .ok (.iconst 1, 1) := dk_4 (dk_at dksX4_addPoint_1 17 rfl rfl)
theorem dX4_addPoint_42 : decode cX4_addPoint 42 = .ok (.goto 4, 3) := dk_167 0 4 (dk_at dksX4_addPoint_1 18 rfl rfl)
theorem dX4_addPoint_45 : decode cX4_addPoint 45 = .ok (.iconst 0, 1) := dk_3 (dk_at dksX4_addPoint_1 21 rfl rfl)
theorem dX4_addPoint_46 : decode cX4_addPoint 46 = .ok (.istore 7, 2) := dk_54 7 (dk_at dksX4_addPoint_1 22 rfl rfl)
theorem dX4_addPoint_48 : decode cX4_addPoint 48 = .ok (.iload 7, 2) := dk_21 7 (dk_at dksX4_addPoint_2 0 rfl rfl)
theorem dX4_addPoint_50 : decode cX4_addPoint 50 = .ok (.ifCond .eq 21, 3) := dk_153 0 21 (dk_at dksX4_addPoint_2 2 rfl rfl)
theorem dX4_addPoint_53 : decode cX4_addPoint 53 = .ok (.iconst 4, 1) := dk_7 (dk_at dksX4_addPoint_2 5 rfl rfl)
theorem dX4_addPoint_54 : decode cX4_addPoint 54 = .ok (.iload 5, 2) := dk_21 5 (dk_at dksX4_addPoint_2 6 rfl rfl)
theorem dX4_addPoint_56 : decode cX4_addPoint 56 = .ok (.invokestatic 96, 3) := dk_184 0 96 (dk_at dksX4_addPoint_2 8 rfl rfl)
theorem dX4_addPoint_59 : decode cX4_addPoint 59 = .ok (.ifCond .eq 12, 3) := dk_153 0 12 (dk_at dksX4_addPoint_2 11 rfl rfl)
theorem dX4_addPoint_62 : decode cX4_addPoint 62 = .ok (.iconst 5, 1) := dk_8 (dk_at dksX4_addPoint_2 14 rfl rfl)
theorem dX4_addPoint_63 : decode cX4_addPoint 63 = .ok (.iload 6, 2) := dk_21 6 (dk_at dksX4_addPoint_2 15 rfl rfl)
theorem dX4_addPoint_65 : decode cX4_addPoint 65 = .ok (.invokestatic 96, 3) := dk_184 0 96 (dk_at dksX4_addPoint_2 17 rfl rfl)
theorem dX4_addPoint_68 : decode cX4_addPoint 68 = .ok (.ifCond .ne 6, 3) := dk_154 0 6 (dk_at dksX4_addPoint_2 20 rfl rfl)
theorem dX4_addPoint_71 : decode cX4_addPoint 71 = .ok (.bipush (-2), 2) := dk_16 254 (dk_at dksX4_addPoint_3 0 rfl rfl)
theorem dX4_addPoint_73 : decode cX4_addPoint 73 = .ok (.ireturn, 1) := dk_172 (dk_at dksX4_addPoint_3 2 rfl rfl)
theorem dX4_addPoint_74 : decode cX4_addPoint 74 = .ok (.aload_n 0, 1) := dk_42 (dk_at dksX4_addPoint_3 3 rfl rfl)
theorem dX4_addPoint_75 : decode cX4_addPoint 75 = .ok (.iload_n 1, 1) := dk_27 (dk_at dksX4_addPoint_3 4 rfl rfl)
theorem dX4_addPoint_76 : decode cX4_addPoint 76 = .ok (.iload_n 2, 1) := dk_28 (dk_at dksX4_addPoint_3 5 rfl rfl)
theorem dX4_addPoint_77 : decode cX4_addPoint 77 = .ok (.invokevirtual 99, 3) := dk_182 0 99 (dk_at dksX4_addPoint_3 6 rfl rfl)
theorem dX4_addPoint_80 : decode cX4_addPoint 80 = .ok (.iconst (-1), 1) := dk_2 (dk_at dksX4_addPoint_3 9 rfl rfl)
theorem dX4_addPoint_81 : decode cX4_addPoint 81 = .ok (.if_icmp .eq 6, 3) := dk_159 0 6 (dk_at dksX4_addPoint_3 10 rfl rfl)
theorem dX4_addPoint_84 : decode cX4_addPoint 84 = .ok (.bipush (-3), 2) := dk_16 253 (dk_at dksX4_addPoint_3 13 rfl rfl)
theorem dX4_addPoint_86 : decode cX4_addPoint 86 = .ok (.ireturn, 1) := dk_172 (dk_at dksX4_addPoint_3 15 rfl rfl)
theorem dX4_addPoint_87 : decode cX4_addPoint 87 = .ok (.aload_n 0, 1) := dk_42 (dk_at dksX4_addPoint_3 16 rfl rfl)
theorem dX4_addPoint_88 : decode cX4_addPoint 88 = .ok (.getfield 48, 3) := dk_180 0 48 (dk_at dksX4_addPoint_3 17 rfl rfl)
theorem dX4_addPoint_91 : decode cX4_addPoint 91 = .ok (.bipush 20, 2) := dk_16 20 (dk_at dksX4_addPoint_3 20 rfl rfl)
theorem dX4_addPoint_93 : decode cX4_addPoint 93 = .ok (.if_icmp .ne 6, 3) := dk_160 0 6 (dk_at dksX4_addPoint_4 0 rfl rfl)
theorem dX4_addPoint_96 : decode cX4_addPoint 96 = .ok (.bipush (-4), 2) := dk_16 252 (dk_at dksX4_addPoint_4 3 rfl rfl)
theorem dX4_addPoint_98 : decode cX4_addPoint 98 = .ok (.ireturn, 1) := dk_172 (dk_at dksX4_addPoint_4 5 rfl rfl)
theorem dX4_addPoint_99 : decode cX4_addPoint 99 = .ok (.aload_n 0, 1) := dk_42 (dk_at dksX4_addPoint_4 6 rfl rfl)
theorem dX4_addPoint_100 : decode cX4_addPoint 100 = .ok (.getfield 7, 3) := dk_180 0 7 (dk_at dksX4_addPoint_4 7 rfl rfl)
theorem dX4_addPoint_103 : decode cX4_addPoint 103 = .ok (.iconst 0, 1) := dk_3 (dk_at dksX4_addPoint_4 10 rfl rfl)
theorem dX4_addPoint_104 : decode cX4_addPoint 104 = .ok (.aload_n 0, 1) := dk_42 (dk_at dksX4_addPoint_4 11 rfl rfl)
theorem dX4_addPoint_105 : decode cX4_addPoint 105 = .ok (.getfield 48, 3) := dk_180 0 48 (dk_at dksX4_addPoint_4 12 rfl rfl)
theorem dX4_addPoint_108 : decode cX4_addPoint 108 = .ok (.iadd, 1) := dk_96 (dk_at dksX4_addPoint_4 15 rfl rfl)
theorem dX4_addPoint_109 : decode cX4_addPoint 109 = .ok (.iload_n 1, 1) := dk_27 (dk_at dksX4_addPoint_4 16 rfl rfl)
theorem dX4_addPoint_110 : decode cX4_addPoint 110 = .ok (.iastore, 1) := dk_79 (dk_at dksX4_addPoint_4 17 rfl rfl)
theorem dX4_addPoint_111 : decode cX4_addPoint 111 = .ok (.aload_n 0, 1) := dk_42 (dk_at dksX4_addPoint_4 18 rfl rfl)
theorem dX4_addPoint_112 : decode cX4_addPoint 112 = .ok (.getfield 7, 3) := dk_180 0 7 (dk_at dksX4_addPoint_4 19 rfl rfl)
theorem dX4_addPoint_115 : decode cX4_addPoint 115 = .ok (.bipush 20, 2) := dk_16 20 (dk_at dksX4_addPoint_4 22 rfl rfl)
theorem dX4_addPoint_117 : decode cX4_addPoint 117 = .ok (.aload_n 0, 1) := dk_42 (dk_at dksX4_addPoint_5 0 rfl rfl)
theorem dX4_addPoint_118 : decode cX4_addPoint 118 = .ok (.getfield 48, 3) := dk_180 0 48 (dk_at dksX4_addPoint_5 1 rfl rfl)
theorem dX4_addPoint_121 : decode cX4_addPoint 121 = .ok (.iadd, 1) := dk_96 (dk_at dksX4_addPoint_5 4 rfl rfl)
theorem dX4_addPoint_122 : decode cX4_addPoint 122 = .ok (.iload_n 2, 1) := dk_28 (dk_at dksX4_addPoint_5 5 rfl rfl)
theorem dX4_addPoint_123 : decode cX4_addPoint 123 = .ok (.iastore, 1) := dk_79 (dk_at dksX4_addPoint_5 6 rfl rfl)
theorem dX4_addPoint_124 : decode cX4_addPoint 124 = .ok (.aload_n 0, 1) := dk_42 (dk_at dksX4_addPoint_5 7 rfl rfl)
theorem dX4_addPoint_125 : decode cX4_addPoint 125 = .ok (.getfield 7, 3) := dk_180 0 7 (dk_at dksX4_addPoint_5 8 rfl rfl)
theorem dX4_addPoint_128 : decode cX4_addPoint 128 = .ok (.bipush 40, 2) := dk_16 40 (dk_at dksX4_addPoint_5 11 rfl rfl)
theorem dX4_addPoint_130 : decode cX4_addPoint 130 = .ok (.aload_n 0, 1) := dk_42 (dk_at dksX4_addPoint_5 13 rfl rfl)
theorem dX4_addPoint_131 : decode cX4_addPoint 131 = .ok (.getfield 48, 3) := dk_180 0 48 (dk_at dksX4_addPoint_5 14 rfl rfl)
theorem dX4_addPoint_134 : decode cX4_addPoint 134 = .ok (.iadd, 1) := dk_96 (dk_at dksX4_addPoint_5 17 rfl rfl)
theorem dX4_addPoint_135 : decode cX4_addPoint 135 = .ok (.iload_n 3, 1) := dk_29 (dk_at dksX4_addPoint_5 18 rfl rfl)
theorem dX4_addPoint_136 : decode cX4_addPoint 136 = .ok (.iastore, 1) := dk_79 (dk_at dksX4_addPoint_5 19 rfl rfl)
theorem dX4_addPoint_137 : decode cX4_addPoint 137 = .ok (.aload_n 0, 1) := dk_42 (dk_at dksX4_addPoint_5 20 rfl rfl)
theorem dX4_addPoint_138 : decode cX4_addPoint 138 = .ok (.getfield 7, 3) := dk_180 0 7 (dk_at dksX4_addPoint_5 21 rfl rfl)
theorem dX4_addPoint_141 : decode cX4_addPoint 141 = .ok (.bipush 60, 2) := dk_16 60 (dk_at dksX4_addPoint_6 0 rfl rfl)
theorem dX4_addPoint_143 : decode cX4_addPoint 143 = .ok (.aload_n 0, 1) := dk_42 (dk_at dksX4_addPoint_6 2 rfl rfl)
theorem dX4_addPoint_144 : decode cX4_addPoint 144 = .ok (.getfield 48, 3) := dk_180 0 48 (dk_at dksX4_addPoint_6 3 rfl rfl)
theorem dX4_addPoint_147 : decode cX4_addPoint 147 = .ok (.iadd, 1) := dk_96 (dk_at dksX4_addPoint_6 6 rfl rfl)
theorem dX4_addPoint_148 : decode cX4_addPoint 148 = .ok (.iload 4, 2) := dk_21 4 (dk_at dksX4_addPoint_6 7 rfl rfl)
theorem dX4_addPoint_150 : decode cX4_addPoint 150 = .ok (.iastore, 1) := dk_79 (dk_at dksX4_addPoint_6 9 rfl rfl)
theorem dX4_addPoint_151 : decode cX4_addPoint 151 = .ok (.aload_n 0, 1) := dk_42 (dk_at dksX4_addPoint_6 10 rfl rfl)
theorem dX4_addPoint_152 : decode cX4_addPoint 152 = .ok (.getfield 7, 3) := dk_180 0 7 (dk_at dksX4_addPoint_6 11 rfl rfl)
theorem dX4_addPoint_155 : decode cX4_addPoint 155 = .ok (.bipush 80, 2) := dk_16 80 (dk_at dksX4_addPoint_6 14 rfl rfl)
theorem dX4_addPoint_157 : decode cX4_addPoint 157 = .ok (.aload_n 0, 1) := dk_42 (dk_at dksX4_addPoint_6 16 rfl rfl)
theorem dX4_addPoint_158 : decode cX4_addPoint 158 = .ok (.getfield 48, 3) := dk_180 0 48 (dk_at dksX4_addPoint_6 17 rfl rfl)
theorem dX4_addPoint_161 : decode cX4_addPoint 161 = .ok (.iadd, 1) := dk_96 (dk_at dksX4_addPoint_6 20 rfl rfl)
theorem dX4_addPoint_162 : decode cX4_addPoint 162 = .ok (.iload 5, 2) := dk_21 5 (dk_at dksX4_addPoint_6 21 rfl rfl)
theorem dX4_addPoint_164 : decode cX4_addPoint 164 = .ok (.iastore, 1) := dk_79 (dk_at dksX4_addPoint_6 23 rfl rfl)
theorem dX4_addPoint_165 : decode cX4_addPoint 165 = .ok (.aload_n 0, 1) := dk_42 (dk_at dksX4_addPoint_7 0 rfl rfl)
theorem dX4_addPoint_166 : decode cX4_addPoint 166 = .ok (.getfield 7, 3) := dk_180 0 7 (dk_at dksX4_addPoint_7 1 rfl rfl)
theorem dX4_addPoint_169 : decode cX4_addPoint 169 = .ok (.bipush 100, 2) := dk_16 100 (dk_at dksX4_addPoint_7 4 rfl rfl)
theorem dX4_addPoint_171 : decode cX4_addPoint 171 = .ok (.aload_n 0, 1) := dk_42 (dk_at dksX4_addPoint_7 6 rfl rfl)
theorem dX4_addPoint_172 : decode cX4_addPoint 172 = .ok (.getfield 48, 3) := dk_180 0 48 (dk_at dksX4_addPoint_7 7 rfl rfl)
theorem dX4_addPoint_175 : decode cX4_addPoint 175 = .ok (.iadd, 1) := dk_96 (dk_at dksX4_addPoint_7 10 rfl rfl)
theorem dX4_addPoint_176 : decode cX4_addPoint 176 = .ok (.iload 6, 2) := dk_21 6 (dk_at dksX4_addPoint_7 11 rfl rfl)
theorem dX4_addPoint_178 : decode cX4_addPoint 178 = .ok (.iastore, 1) := dk_79 (dk_at dksX4_addPoint_7 13 rfl rfl)
theorem dX4_addPoint_179 : decode cX4_addPoint 179 = .ok (.aload_n 0, 1) := dk_42 (dk_at dksX4_addPoint_7 14 rfl rfl)
theorem dX4_addPoint_180 : decode cX4_addPoint 180 = .ok (.getfield 7, 3) := dk_180 0 7 (dk_at dksX4_addPoint_7 15 rfl rfl)
theorem dX4_addPoint_183 : decode cX4_addPoint 183 = .ok (.bipush 120, 2) := dk_16 120 (dk_at dksX4_addPoint_7 18 rfl rfl)
theorem dX4_addPoint_185 : decode cX4_addPoint 185 = .ok (.aload_n 0, 1) := dk_42 (dk_at dksX4_addPoint_7 20 rfl rfl)
theorem dX4_addPoint_186 : decode cX4_addPoint 186 = .ok (.getfield 48, 3) := dk_180 0 48 (dk_at dksX4_addPoint_7 21 rfl rfl)
theorem dX4_addPoint_189 : decode cX4_addPoint 189 = .ok (.iadd, 1) := dk_96 (dk_at dksX4_addPoint_8 0 rfl rfl)
theorem dX4_addPoint_190 : decode cX4_addPoint 190 = .ok (.iconst (-1), 1) := dk_2 (dk_at dksX4_addPoint_8 1 rfl rfl)
theorem dX4_addPoint_191 : decode cX4_addPoint 191 = .ok (.iastore, 1) := dk_79 (dk_at dksX4_addPoint_8 2 rfl rfl)
theorem dX4_addPoint_192 : decode cX4_addPoint 192 = .ok (.aload_n 0, 1) := dk_42 (dk_at dksX4_addPoint_8 3 rfl rfl)
theorem dX4_addPoint_193 : decode cX4_addPoint 193 = .ok (.dup, 1) := dk_89 (dk_at dksX4_addPoint_8 4 rfl rfl)
theorem dX4_addPoint_194 : decode cX4_addPoint 194 = .ok (.getfield 48, 3) := dk_180 0 48 (dk_at dksX4_addPoint_8 5 rfl rfl)
theorem dX4_addPoint_197 : decode cX4_addPoint 197 = .ok (.iconst 1, 1) := dk_4 (dk_at dksX4_addPoint_8 8 rfl rfl)
theorem dX4_addPoint_198 : decode cX4_addPoint 198 = .ok (.iadd, 1) := dk_96 (dk_at dksX4_addPoint_8 9 rfl rfl)
theorem dX4_addPoint_199 : decode cX4_addPoint 199 = .ok (.putfield 48, 3) := dk_181 0 48 (dk_at dksX4_addPoint_8 10 rfl rfl)
theorem dX4_addPoint_202 : decode cX4_addPoint 202 = .ok (.aload_n 0, 1) := dk_42 (dk_at dksX4_addPoint_8 13 rfl rfl)
theorem dX4_addPoint_203 : decode cX4_addPoint 203 = .ok (.invokevirtual 102, 3) := dk_182 0 102 (dk_at dksX4_addPoint_8 14 rfl rfl)
theorem dX4_addPoint_206 : decode cX4_addPoint 206 = .ok (.aload_n 0, 1) := dk_42 (dk_at dksX4_addPoint_8 17 rfl rfl)
theorem dX4_addPoint_207 : decode cX4_addPoint 207 = .ok (.getfield 48, 3) := dk_180 0 48 (dk_at dksX4_addPoint_8 18 rfl rfl)
theorem dX4_addPoint_210 : decode cX4_addPoint 210 = .ok (.iconst 1, 1) := dk_4 (dk_at dksX4_addPoint_8 21 rfl rfl)
theorem dX4_addPoint_211 : decode cX4_addPoint 211 = .ok (.isub, 1) := dk_100 (dk_at dksX4_addPoint_8 22 rfl rfl)
theorem dX4_addPoint_212 : decode cX4_addPoint 212 = .ok (.ireturn, 1) := dk_172 (dk_at dksX4_addPoint_8 23 rfl rfl)
abbrev cX4_in : ByteArray := prog_17_method_2_code
def yX4_in : MethodName := ⟨RX4, "in", "(JJJ)Z"⟩
def dkwX4_in_0 : List UInt8 := [30, 32, 148, 155, 0, 14, 30, 22, 4, 148, 157, 0, 7, 4, 167, 0, 4, 3, 172]
abbrev dktX4_in_0 : List UInt8 := dkwX4_in_0 ++ []
theorem dksX4_in_0 : cX4_in.data.toList.drop 0 = dktX4_in_0 := by decide +kernel
theorem dX4_in_0 : decode cX4_in 0 = .ok (.lload_n 0, 1) := dk_30 (dk_at dksX4_in_0 0 rfl rfl)
theorem dX4_in_1 : decode cX4_in 1 = .ok (.lload_n 2, 1) := dk_32 (dk_at dksX4_in_0 1 rfl rfl)
theorem dX4_in_2 : decode cX4_in 2 = .ok (.lcmp, 1) := dk_148 (dk_at dksX4_in_0 2 rfl rfl)
theorem dX4_in_3 : decode cX4_in 3 = .ok (.ifCond .lt 14, 3) := dk_155 0 14 (dk_at dksX4_in_0 3 rfl rfl)
theorem dX4_in_6 : decode cX4_in 6 = .ok (.lload_n 0, 1) := dk_30 (dk_at dksX4_in_0 6 rfl rfl)
theorem dX4_in_7 : decode cX4_in 7 = .ok (.lload 4, 2) := dk_22 4 (dk_at dksX4_in_0 7 rfl rfl)
theorem dX4_in_9 : decode cX4_in 9 = .ok (.lcmp, 1) := dk_148 (dk_at dksX4_in_0 9 rfl rfl)
theorem dX4_in_10 : decode cX4_in 10 = .ok (.ifCond .gt 7, 3) := dk_157 0 7 (dk_at dksX4_in_0 10 rfl rfl)
theorem dX4_in_13 : decode cX4_in 13 = .ok (.iconst 1, 1) := dk_4 (dk_at dksX4_in_0 13 rfl rfl)
theorem dX4_in_14 : decode cX4_in 14 = .ok (.goto 4, 3) := dk_167 0 4 (dk_at dksX4_in_0 14 rfl rfl)
theorem dX4_in_17 : decode cX4_in 17 = .ok (.iconst 0, 1) := dk_3 (dk_at dksX4_in_0 17 rfl rfl)
theorem dX4_in_18 : decode cX4_in 18 = .ok (.ireturn, 1) := dk_172 (dk_at dksX4_in_0 18 rfl rfl)
abbrev cX4_isProperty : ByteArray := prog_17_method_16_code
def yX4_isProperty : MethodName := ⟨RX4, "isProperty", "(II)Z"⟩
def dkwX4_isProperty_3 : List UInt8 := [20, 0, 90, 184, 0, 51, 172, 27, 133, 10, 20, 0, 92, 184, 0, 51, 172, 3, 172]
abbrev dktX4_isProperty_3 : List UInt8 := dkwX4_isProperty_3 ++ []
def dkwX4_isProperty_2 : List UInt8 := [27, 133, 10, 20, 0, 86, 184, 0, 51, 172, 27, 133, 10, 20, 0, 88, 184, 0, 51, 172, 27, 133, 10]
abbrev dktX4_isProperty_2 : List UInt8 := dkwX4_isProperty_2 ++ dktX4_isProperty_3
def dkwX4_isProperty_1 : List UInt8 := [170, 0, 0, 0, 0, 0, 71, 0, 0, 0, 2, 0, 0, 0, 5, 0, 0, 0, 31, 0, 0, 0, 41, 0, 0, 0, 51, 0, 0, 0, 61]
abbrev dktX4_isProperty_1 : List UInt8 := dkwX4_isProperty_1 ++ dktX4_isProperty_2
def dkwX4_isProperty_0 : List UInt8 := [26]
abbrev dktX4_isProperty_0 : List UInt8 := dkwX4_isProperty_0 ++ dktX4_isProperty_1
theorem dksX4_isProperty_0 : cX4_isProperty.data.toList.drop 0 = dktX4_isProperty_0 := by decide +kernel
theorem dksX4_isProperty_1 : cX4_isProperty.data.toList.drop 1 = dktX4_isProperty_1 := dk_seg dksX4_isProperty_0 1 rfl rfl
theorem dksX4_isProperty_2 : cX4_isProperty.data.toList.drop 32 = dktX4_isProperty_2 := dk_seg dksX4_isProperty_1 31 rfl rfl
theorem dksX4_isProperty_3 : cX4_isProperty.data.toList.drop 55 = dktX4_isProperty_3 := dk_seg dksX4_isProperty_2 23 rfl rfl
theorem dX4_isProperty_0 : decode cX4_isProperty 0 = .ok (.iload_n 0, 1) := dk_26 (dk_at dksX4_isProperty_0 0 rfl rfl)
theorem dX4_isProperty_1 : decode cX4_isProperty 1 = .ok (.tableswitch 71 2 5 #[31, 41, 51, 61], 31) := by decide +kernel
theorem dX4_isProperty_32 : decode cX4_isProperty 32 = .ok (.iload_n 1, 1) := dk_27 (dk_at dksX4_isProperty_2 0 rfl rfl)
theorem dX4_isProperty_33 : decode cX4_isProperty 33 = .ok (.i2l, 1) := dk_133 (dk_at dksX4_isProperty_2 1 rfl rfl)
theorem dX4_isProperty_34 : decode cX4_isProperty 34 = .ok (.lconst 1, 1) := dk_10 (dk_at dksX4_isProperty_2 2 rfl rfl)
theorem dX4_isProperty_35 : decode cX4_isProperty 35 = .ok (.ldc2_w 86, 3) := dk_20 0 86 (dk_at dksX4_isProperty_2 3 rfl rfl)
theorem dX4_isProperty_38 : decode cX4_isProperty 38 = .ok (.invokestatic 51, 3) := dk_184 0 51 (dk_at dksX4_isProperty_2 6 rfl rfl)
theorem dX4_isProperty_41 : decode cX4_isProperty 41 = .ok (.ireturn, 1) := dk_172 (dk_at dksX4_isProperty_2 9 rfl rfl)
theorem dX4_isProperty_42 : decode cX4_isProperty 42 = .ok (.iload_n 1, 1) := dk_27 (dk_at dksX4_isProperty_2 10 rfl rfl)
theorem dX4_isProperty_43 : decode cX4_isProperty 43 = .ok (.i2l, 1) := dk_133 (dk_at dksX4_isProperty_2 11 rfl rfl)
theorem dX4_isProperty_44 : decode cX4_isProperty 44 = .ok (.lconst 1, 1) := dk_10 (dk_at dksX4_isProperty_2 12 rfl rfl)
theorem dX4_isProperty_45 : decode cX4_isProperty 45 = .ok (.ldc2_w 88, 3) := dk_20 0 88 (dk_at dksX4_isProperty_2 13 rfl rfl)
theorem dX4_isProperty_48 : decode cX4_isProperty 48 = .ok (.invokestatic 51, 3) := dk_184 0 51 (dk_at dksX4_isProperty_2 16 rfl rfl)
theorem dX4_isProperty_51 : decode cX4_isProperty 51 = .ok (.ireturn, 1) := dk_172 (dk_at dksX4_isProperty_2 19 rfl rfl)
theorem dX4_isProperty_52 : decode cX4_isProperty 52 = .ok (.iload_n 1, 1) := dk_27 (dk_at dksX4_isProperty_2 20 rfl rfl)
theorem dX4_isProperty_53 : decode cX4_isProperty 53 = .ok (.i2l, 1) := dk_133 (dk_at dksX4_isProperty_2 21 rfl rfl)
theorem dX4_isProperty_54 : decode cX4_isProperty 54 = .ok (.lconst 1, 1) := dk_10 (dk_at dksX4_isProperty_2 22 rfl rfl)
theorem dX4_isProperty_55 : decode cX4_isProperty 55 = .ok (.ldc2_w 90, 3) := dk_20 0 90 (dk_at dksX4_isProperty_3 0 rfl rfl)
theorem dX4_isProperty_58 : decode cX4_isProperty 58 = .ok (.invokestatic 51, 3) := dk_184 0 51 (dk_at dksX4_isProperty_3 3 rfl rfl)
theorem dX4_isProperty_61 : decode cX4_isProperty 61 = .ok (.ireturn, 1) := dk_172 (dk_at dksX4_isProperty_3 6 rfl rfl)
theorem dX4_isProperty_62 : decode cX4_isProperty 62 = .ok (.iload_n 1, 1) := dk_27 (dk_at dksX4_isProperty_3 7 rfl rfl)
theorem dX4_isProperty_63 : decode cX4_isProperty 63 = .ok (.i2l, 1) := dk_133 (dk_at dksX4_isProperty_3 8 rfl rfl)
theorem dX4_isProperty_64 : decode cX4_isProperty 64 = .ok (.lconst 1, 1) := dk_10 (dk_at dksX4_isProperty_3 9 rfl rfl)
theorem dX4_isProperty_65 : decode cX4_isProperty 65 = .ok (.ldc2_w 92, 3) := dk_20 0 92 (dk_at dksX4_isProperty_3 10 rfl rfl)
theorem dX4_isProperty_68 : decode cX4_isProperty 68 = .ok (.invokestatic 51, 3) := dk_184 0 51 (dk_at dksX4_isProperty_3 13 rfl rfl)
theorem dX4_isProperty_71 : decode cX4_isProperty 71 = .ok (.ireturn, 1) := dk_172 (dk_at dksX4_isProperty_3 16 rfl rfl)
theorem dX4_isProperty_72 : decode cX4_isProperty 72 = .ok (.iconst 0, 1) := dk_3 (dk_at dksX4_isProperty_3 17 rfl rfl)
theorem dX4_isProperty_73 : decode cX4_isProperty 73 = .ok (.ireturn, 1) := dk_172 (dk_at dksX4_isProperty_3 18 rfl rfl)
abbrev cX4_pointAt : ByteArray := prog_17_method_17_code
def yX4_pointAt : MethodName := ⟨RX4, "pointAt", "(II)I"⟩
def dkwX4_pointAt_1 : List UInt8 := [180, 0, 7, 16, 20, 29, 96, 46, 28, 160, 0, 5, 29, 172, 132, 3, 1, 167, 255, 218, 2, 172]
abbrev dktX4_pointAt_1 : List UInt8 := dkwX4_pointAt_1 ++ []
def dkwX4_pointAt_0 : List UInt8 := [3, 62, 29, 42, 180, 0, 48, 162, 0, 36, 42, 180, 0, 7, 3, 29, 96, 46, 27, 160, 0, 18, 42]
abbrev dktX4_pointAt_0 : List UInt8 := dkwX4_pointAt_0 ++ dktX4_pointAt_1
theorem dksX4_pointAt_0 : cX4_pointAt.data.toList.drop 0 = dktX4_pointAt_0 := by decide +kernel
theorem dksX4_pointAt_1 : cX4_pointAt.data.toList.drop 23 = dktX4_pointAt_1 := dk_seg dksX4_pointAt_0 23 rfl rfl
theorem dX4_pointAt_0 : decode cX4_pointAt 0 = .ok (.iconst 0, 1) := dk_3 (dk_at dksX4_pointAt_0 0 rfl rfl)
theorem dX4_pointAt_1 : decode cX4_pointAt 1 = .ok (.istore_n 3, 1) := dk_62 (dk_at dksX4_pointAt_0 1 rfl rfl)
theorem dX4_pointAt_2 : decode cX4_pointAt 2 = .ok (.iload_n 3, 1) := dk_29 (dk_at dksX4_pointAt_0 2 rfl rfl)
theorem dX4_pointAt_3 : decode cX4_pointAt 3 = .ok (.aload_n 0, 1) := dk_42 (dk_at dksX4_pointAt_0 3 rfl rfl)
theorem dX4_pointAt_4 : decode cX4_pointAt 4 = .ok (.getfield 48, 3) := dk_180 0 48 (dk_at dksX4_pointAt_0 4 rfl rfl)
theorem dX4_pointAt_7 : decode cX4_pointAt 7 = .ok (.if_icmp .ge 36, 3) := dk_162 0 36 (dk_at dksX4_pointAt_0 7 rfl rfl)
theorem dX4_pointAt_10 : decode cX4_pointAt 10 = .ok (.aload_n 0, 1) := dk_42 (dk_at dksX4_pointAt_0 10 rfl rfl)
theorem dX4_pointAt_11 : decode cX4_pointAt 11 = .ok (.getfield 7, 3) := dk_180 0 7 (dk_at dksX4_pointAt_0 11 rfl rfl)
theorem dX4_pointAt_14 : decode cX4_pointAt 14 = .ok (.iconst 0, 1) := dk_3 (dk_at dksX4_pointAt_0 14 rfl rfl)
theorem dX4_pointAt_15 : decode cX4_pointAt 15 = .ok (.iload_n 3, 1) := dk_29 (dk_at dksX4_pointAt_0 15 rfl rfl)
theorem dX4_pointAt_16 : decode cX4_pointAt 16 = .ok (.iadd, 1) := dk_96 (dk_at dksX4_pointAt_0 16 rfl rfl)
theorem dX4_pointAt_17 : decode cX4_pointAt 17 = .ok (.iaload, 1) := dk_46 (dk_at dksX4_pointAt_0 17 rfl rfl)
theorem dX4_pointAt_18 : decode cX4_pointAt 18 = .ok (.iload_n 1, 1) := dk_27 (dk_at dksX4_pointAt_0 18 rfl rfl)
theorem dX4_pointAt_19 : decode cX4_pointAt 19 = .ok (.if_icmp .ne 18, 3) := dk_160 0 18 (dk_at dksX4_pointAt_0 19 rfl rfl)
theorem dX4_pointAt_22 : decode cX4_pointAt 22 = .ok (.aload_n 0, 1) := dk_42 (dk_at dksX4_pointAt_0 22 rfl rfl)
theorem dX4_pointAt_23 : decode cX4_pointAt 23 = .ok (.getfield 7, 3) := dk_180 0 7 (dk_at dksX4_pointAt_1 0 rfl rfl)
theorem dX4_pointAt_26 : decode cX4_pointAt 26 = .ok (.bipush 20, 2) := dk_16 20 (dk_at dksX4_pointAt_1 3 rfl rfl)
theorem dX4_pointAt_28 : decode cX4_pointAt 28 = .ok (.iload_n 3, 1) := dk_29 (dk_at dksX4_pointAt_1 5 rfl rfl)
theorem dX4_pointAt_29 : decode cX4_pointAt 29 = .ok (.iadd, 1) := dk_96 (dk_at dksX4_pointAt_1 6 rfl rfl)
theorem dX4_pointAt_30 : decode cX4_pointAt 30 = .ok (.iaload, 1) := dk_46 (dk_at dksX4_pointAt_1 7 rfl rfl)
theorem dX4_pointAt_31 : decode cX4_pointAt 31 = .ok (.iload_n 2, 1) := dk_28 (dk_at dksX4_pointAt_1 8 rfl rfl)
theorem dX4_pointAt_32 : decode cX4_pointAt 32 = .ok (.if_icmp .ne 5, 3) := dk_160 0 5 (dk_at dksX4_pointAt_1 9 rfl rfl)
theorem dX4_pointAt_35 : decode cX4_pointAt 35 = .ok (.iload_n 3, 1) := dk_29 (dk_at dksX4_pointAt_1 12 rfl rfl)
theorem dX4_pointAt_36 : decode cX4_pointAt 36 = .ok (.ireturn, 1) := dk_172 (dk_at dksX4_pointAt_1 13 rfl rfl)
theorem dX4_pointAt_37 : decode cX4_pointAt 37 = .ok (.iinc 3 1, 3) := dk_132 3 1 (dk_at dksX4_pointAt_1 14 rfl rfl)
theorem dX4_pointAt_40 : decode cX4_pointAt 40 = .ok (.goto (-38), 3) := dk_167 255 218 (dk_at dksX4_pointAt_1 17 rfl rfl)
theorem dX4_pointAt_43 : decode cX4_pointAt 43 = .ok (.iconst (-1), 1) := dk_2 (dk_at dksX4_pointAt_1 20 rfl rfl)
theorem dX4_pointAt_44 : decode cX4_pointAt 44 = .ok (.ireturn, 1) := dk_172 (dk_at dksX4_pointAt_1 21 rfl rfl)
abbrev cX4_settles : ByteArray := prog_17_method_13_code
def yX4_settles : MethodName := ⟨RX4, "settles", "()V"⟩
def dkwX4_settles_3 : List UInt8 := [180, 0, 7, 16, 120, 27, 96, 46, 167, 0, 4, 2, 79, 132, 1, 1, 167, 255, 178, 177]
abbrev dktX4_settles_3 : List UInt8 := dkwX4_settles_3 ++ []
def dkwX4_settles_2 : List UInt8 := [153, 0, 7, 4, 167, 0, 4, 3, 61, 42, 180, 0, 7, 16, 120, 27, 96, 28, 153, 0, 15, 42]
abbrev dktX4_settles_2 : List UInt8 := dkwX4_settles_2 ++ dktX4_settles_3
def dkwX4_settles_1 : List UInt8 := [159, 0, 29, 42, 180, 0, 20, 16, 8, 27, 104, 42, 180, 0, 7, 16, 120, 27, 96, 46, 96, 51]
abbrev dktX4_settles_1 : List UInt8 := dkwX4_settles_1 ++ dktX4_settles_2
def dkwX4_settles_0 : List UInt8 := [42, 182, 0, 83, 3, 60, 27, 42, 180, 0, 48, 162, 0, 76, 42, 180, 0, 7, 16, 120, 27, 96, 46, 2]
abbrev dktX4_settles_0 : List UInt8 := dkwX4_settles_0 ++ dktX4_settles_1
theorem dksX4_settles_0 : cX4_settles.data.toList.drop 0 = dktX4_settles_0 := by decide +kernel
theorem dksX4_settles_1 : cX4_settles.data.toList.drop 24 = dktX4_settles_1 := dk_seg dksX4_settles_0 24 rfl rfl
theorem dksX4_settles_2 : cX4_settles.data.toList.drop 46 = dktX4_settles_2 := dk_seg dksX4_settles_1 22 rfl rfl
theorem dksX4_settles_3 : cX4_settles.data.toList.drop 68 = dktX4_settles_3 := dk_seg dksX4_settles_2 22 rfl rfl
theorem dX4_settles_0 : decode cX4_settles 0 = .ok (.aload_n 0, 1) := dk_42 (dk_at dksX4_settles_0 0 rfl rfl)
theorem dX4_settles_1 : decode cX4_settles 1 = .ok (.invokevirtual 83, 3) := dk_182 0 83 (dk_at dksX4_settles_0 1 rfl rfl)
theorem dX4_settles_4 : decode cX4_settles 4 = .ok (.iconst 0, 1) := dk_3 (dk_at dksX4_settles_0 4 rfl rfl)
theorem dX4_settles_5 : decode cX4_settles 5 = .ok (.istore_n 1, 1) := dk_60 (dk_at dksX4_settles_0 5 rfl rfl)
theorem dX4_settles_6 : decode cX4_settles 6 = .ok (.iload_n 1, 1) := dk_27 (dk_at dksX4_settles_0 6 rfl rfl)
theorem dX4_settles_7 : decode cX4_settles 7 = .ok (.aload_n 0, 1) := dk_42 (dk_at dksX4_settles_0 7 rfl rfl)
theorem dX4_settles_8 : decode cX4_settles 8 = .ok (.getfield 48, 3) := dk_180 0 48 (dk_at dksX4_settles_0 8 rfl rfl)
theorem dX4_settles_11 : decode cX4_settles 11 = .ok (.if_icmp .ge 76, 3) := dk_162 0 76 (dk_at dksX4_settles_0 11 rfl rfl)
theorem dX4_settles_14 : decode cX4_settles 14 = .ok (.aload_n 0, 1) := dk_42 (dk_at dksX4_settles_0 14 rfl rfl)
theorem dX4_settles_15 : decode cX4_settles 15 = .ok (.getfield 7, 3) := dk_180 0 7 (dk_at dksX4_settles_0 15 rfl rfl)
theorem dX4_settles_18 : decode cX4_settles 18 = .ok (.bipush 120, 2) := dk_16 120 (dk_at dksX4_settles_0 18 rfl rfl)
theorem dX4_settles_20 : decode cX4_settles 20 = .ok (.iload_n 1, 1) := dk_27 (dk_at dksX4_settles_0 20 rfl rfl)
theorem dX4_settles_21 : decode cX4_settles 21 = .ok (.iadd, 1) := dk_96 (dk_at dksX4_settles_0 21 rfl rfl)
theorem dX4_settles_22 : decode cX4_settles 22 = .ok (.iaload, 1) := dk_46 (dk_at dksX4_settles_0 22 rfl rfl)
theorem dX4_settles_23 : decode cX4_settles 23 = .ok (.iconst (-1), 1) := dk_2 (dk_at dksX4_settles_0 23 rfl rfl)
theorem dX4_settles_24 : decode cX4_settles 24 = .ok (.if_icmp .eq 29, 3) := dk_159 0 29 (dk_at dksX4_settles_1 0 rfl rfl)
theorem dX4_settles_27 : decode cX4_settles 27 = .ok (.aload_n 0, 1) := dk_42 (dk_at dksX4_settles_1 3 rfl rfl)
theorem dX4_settles_28 : decode cX4_settles 28 = .ok (.getfield 20, 3) := dk_180 0 20 (dk_at dksX4_settles_1 4 rfl rfl)
theorem dX4_settles_31 : decode cX4_settles 31 = .ok (.bipush 8, 2) := dk_16 8 (dk_at dksX4_settles_1 7 rfl rfl)
theorem dX4_settles_33 : decode cX4_settles 33 = .ok (.iload_n 1, 1) := dk_27 (dk_at dksX4_settles_1 9 rfl rfl)
theorem dX4_settles_34 : decode cX4_settles 34 = .ok (.imul, 1) := dk_104 (dk_at dksX4_settles_1 10 rfl rfl)
theorem dX4_settles_35 : decode cX4_settles 35 = .ok (.aload_n 0, 1) := dk_42 (dk_at dksX4_settles_1 11 rfl rfl)
theorem dX4_settles_36 : decode cX4_settles 36 = .ok (.getfield 7, 3) := dk_180 0 7 (dk_at dksX4_settles_1 12 rfl rfl)
theorem dX4_settles_39 : decode cX4_settles 39 = .ok (.bipush 120, 2) := dk_16 120 (dk_at dksX4_settles_1 15 rfl rfl)
theorem dX4_settles_41 : decode cX4_settles 41 = .ok (.iload_n 1, 1) := dk_27 (dk_at dksX4_settles_1 17 rfl rfl)
theorem dX4_settles_42 : decode cX4_settles 42 = .ok (.iadd, 1) := dk_96 (dk_at dksX4_settles_1 18 rfl rfl)
theorem dX4_settles_43 : decode cX4_settles 43 = .ok (.iaload, 1) := dk_46 (dk_at dksX4_settles_1 19 rfl rfl)
theorem dX4_settles_44 : decode cX4_settles 44 = .ok (.iadd, 1) := dk_96 (dk_at dksX4_settles_1 20 rfl rfl)
theorem dX4_settles_45 : decode cX4_settles 45 = .ok (.baload, 1) := dk_51 (dk_at dksX4_settles_1 21 rfl rfl)
theorem dX4_settles_46 : decode cX4_settles 46 = .ok (.ifCond .eq 7, 3) := dk_153 0 7 (dk_at dksX4_settles_2 0 rfl rfl)
theorem dX4_settles_49 : decode cX4_settles 49 = .ok (.iconst 1, 1) := dk_4 (dk_at dksX4_settles_2 3 rfl rfl)
theorem dX4_settles_50 : decode cX4_settles 50 = .ok (.goto 4, 3) := dk_167 0 4 (dk_at dksX4_settles_2 4 rfl rfl)
theorem dX4_settles_53 : decode cX4_settles 53 = .ok (.iconst 0, 1) := dk_3 (dk_at dksX4_settles_2 7 rfl rfl)
theorem dX4_settles_54 : decode cX4_settles 54 = .ok (.istore_n 2, 1) := dk_61 (dk_at dksX4_settles_2 8 rfl rfl)
theorem dX4_settles_55 : decode cX4_settles 55 = .ok (.aload_n 0, 1) := dk_42 (dk_at dksX4_settles_2 9 rfl rfl)
theorem dX4_settles_56 : decode cX4_settles 56 = .ok (.getfield 7, 3) := dk_180 0 7 (dk_at dksX4_settles_2 10 rfl rfl)
theorem dX4_settles_59 : decode cX4_settles 59 = .ok (.bipush 120, 2) := dk_16 120 (dk_at dksX4_settles_2 13 rfl rfl)
theorem dX4_settles_61 : decode cX4_settles 61 = .ok (.iload_n 1, 1) := dk_27 (dk_at dksX4_settles_2 15 rfl rfl)
theorem dX4_settles_62 : decode cX4_settles 62 = .ok (.iadd, 1) := dk_96 (dk_at dksX4_settles_2 16 rfl rfl)
theorem dX4_settles_63 : decode cX4_settles 63 = .ok (.iload_n 2, 1) := dk_28 (dk_at dksX4_settles_2 17 rfl rfl)
theorem dX4_settles_64 : decode cX4_settles 64 = .ok (.ifCond .eq 15, 3) := dk_153 0 15 (dk_at dksX4_settles_2 18 rfl rfl)
theorem dX4_settles_67 : decode cX4_settles 67 = .ok (.aload_n 0, 1) := dk_42 (dk_at dksX4_settles_2 21 rfl rfl)
theorem dX4_settles_68 : decode cX4_settles 68 = .ok (.getfield 7, 3) := dk_180 0 7 (dk_at dksX4_settles_3 0 rfl rfl)
theorem dX4_settles_71 : decode cX4_settles 71 = .ok (.bipush 120, 2) := dk_16 120 (dk_at dksX4_settles_3 3 rfl rfl)
theorem dX4_settles_73 : decode cX4_settles 73 = .ok (.iload_n 1, 1) := dk_27 (dk_at dksX4_settles_3 5 rfl rfl)
theorem dX4_settles_74 : decode cX4_settles 74 = .ok (.iadd, 1) := dk_96 (dk_at dksX4_settles_3 6 rfl rfl)
theorem dX4_settles_75 : decode cX4_settles 75 = .ok (.iaload, 1) := dk_46 (dk_at dksX4_settles_3 7 rfl rfl)
theorem dX4_settles_76 : decode cX4_settles 76 = .ok (.goto 4, 3) := dk_167 0 4 (dk_at dksX4_settles_3 8 rfl rfl)
theorem dX4_settles_79 : decode cX4_settles 79 = .ok (.iconst (-1), 1) := dk_2 (dk_at dksX4_settles_3 11 rfl rfl)
theorem dX4_settles_80 : decode cX4_settles 80 = .ok (.iastore, 1) := dk_79 (dk_at dksX4_settles_3 12 rfl rfl)
theorem dX4_settles_81 : decode cX4_settles 81 = .ok (.iinc 1 1, 3) := dk_132 1 1 (dk_at dksX4_settles_3 13 rfl rfl)
theorem dX4_settles_84 : decode cX4_settles 84 = .ok (.goto (-78), 3) := dk_167 255 178 (dk_at dksX4_settles_3 16 rfl rfl)
theorem dX4_settles_87 : decode cX4_settles 87 = .ok (.return_, 1) := dk_177 (dk_at dksX4_settles_3 19 rfl rfl)
abbrev cX4_findsAll : ByteArray := prog_17_method_9_code
def yX4_findsAll : MethodName := ⟨RX4, "findsAll", "()V"⟩
def dkwX4_findsAll_1 : List UInt8 := [16, 8, 112, 182, 0, 76, 84, 132, 1, 1, 167, 255, 224, 177]
abbrev dktX4_findsAll_1 : List UInt8 := dkwX4_findsAll_1 ++ []
def dkwX4_findsAll_0 : List UInt8 := [3, 60, 27, 16, 8, 42, 180, 0, 48, 104, 162, 0, 27, 42, 180, 0, 20, 27, 42, 27, 16, 8, 108, 27]
abbrev dktX4_findsAll_0 : List UInt8 := dkwX4_findsAll_0 ++ dktX4_findsAll_1
theorem dksX4_findsAll_0 : cX4_findsAll.data.toList.drop 0 = dktX4_findsAll_0 := by decide +kernel
theorem dksX4_findsAll_1 : cX4_findsAll.data.toList.drop 24 = dktX4_findsAll_1 := dk_seg dksX4_findsAll_0 24 rfl rfl
theorem dX4_findsAll_0 : decode cX4_findsAll 0 = .ok (.iconst 0, 1) := dk_3 (dk_at dksX4_findsAll_0 0 rfl rfl)
theorem dX4_findsAll_1 : decode cX4_findsAll 1 = .ok (.istore_n 1, 1) := dk_60 (dk_at dksX4_findsAll_0 1 rfl rfl)
theorem dX4_findsAll_2 : decode cX4_findsAll 2 = .ok (.iload_n 1, 1) := dk_27 (dk_at dksX4_findsAll_0 2 rfl rfl)
theorem dX4_findsAll_3 : decode cX4_findsAll 3 = .ok (.bipush 8, 2) := dk_16 8 (dk_at dksX4_findsAll_0 3 rfl rfl)
theorem dX4_findsAll_5 : decode cX4_findsAll 5 = .ok (.aload_n 0, 1) := dk_42 (dk_at dksX4_findsAll_0 5 rfl rfl)
theorem dX4_findsAll_6 : decode cX4_findsAll 6 = .ok (.getfield 48, 3) := dk_180 0 48 (dk_at dksX4_findsAll_0 6 rfl rfl)
theorem dX4_findsAll_9 : decode cX4_findsAll 9 = .ok (.imul, 1) := dk_104 (dk_at dksX4_findsAll_0 9 rfl rfl)
theorem dX4_findsAll_10 : decode cX4_findsAll 10 = .ok (.if_icmp .ge 27, 3) := dk_162 0 27 (dk_at dksX4_findsAll_0 10 rfl rfl)
theorem dX4_findsAll_13 : decode cX4_findsAll 13 = .ok (.aload_n 0, 1) := dk_42 (dk_at dksX4_findsAll_0 13 rfl rfl)
theorem dX4_findsAll_14 : decode cX4_findsAll 14 = .ok (.getfield 20, 3) := dk_180 0 20 (dk_at dksX4_findsAll_0 14 rfl rfl)
theorem dX4_findsAll_17 : decode cX4_findsAll 17 = .ok (.iload_n 1, 1) := dk_27 (dk_at dksX4_findsAll_0 17 rfl rfl)
theorem dX4_findsAll_18 : decode cX4_findsAll 18 = .ok (.aload_n 0, 1) := dk_42 (dk_at dksX4_findsAll_0 18 rfl rfl)
theorem dX4_findsAll_19 : decode cX4_findsAll 19 = .ok (.iload_n 1, 1) := dk_27 (dk_at dksX4_findsAll_0 19 rfl rfl)
theorem dX4_findsAll_20 : decode cX4_findsAll 20 = .ok (.bipush 8, 2) := dk_16 8 (dk_at dksX4_findsAll_0 20 rfl rfl)
theorem dX4_findsAll_22 : decode cX4_findsAll 22 = .ok (.idiv, 1) := dk_108 (dk_at dksX4_findsAll_0 22 rfl rfl)
theorem dX4_findsAll_23 : decode cX4_findsAll 23 = .ok (.iload_n 1, 1) := dk_27 (dk_at dksX4_findsAll_0 23 rfl rfl)
theorem dX4_findsAll_24 : decode cX4_findsAll 24 = .ok (.bipush 8, 2) := dk_16 8 (dk_at dksX4_findsAll_1 0 rfl rfl)
theorem dX4_findsAll_26 : decode cX4_findsAll 26 = .ok (.irem, 1) := dk_112 (dk_at dksX4_findsAll_1 2 rfl rfl)
theorem dX4_findsAll_27 : decode cX4_findsAll 27 = .ok (.invokevirtual 76, 3) := dk_182 0 76 (dk_at dksX4_findsAll_1 3 rfl rfl)
theorem dX4_findsAll_30 : decode cX4_findsAll 30 = .ok (.bastore, 1) := dk_84 (dk_at dksX4_findsAll_1 6 rfl rfl)
theorem dX4_findsAll_31 : decode cX4_findsAll 31 = .ok (.iinc 1 1, 3) := dk_132 1 1 (dk_at dksX4_findsAll_1 7 rfl rfl)
theorem dX4_findsAll_34 : decode cX4_findsAll 34 = .ok (.goto (-32), 3) := dk_167 255 224 (dk_at dksX4_findsAll_1 10 rfl rfl)
theorem dX4_findsAll_37 : decode cX4_findsAll 37 = .ok (.return_, 1) := dk_177 (dk_at dksX4_findsAll_1 13 rfl rfl)
abbrev cX4_finds : ByteArray := prog_17_method_8_code
def yX4_finds : MethodName := ⟨RX4, "finds", "(II)Z"⟩
def dkwX4_finds_7 : List UInt8 := [154, 0, 7, 4, 167, 0, 4, 3, 54, 5, 132, 6, 1, 167, 255, 204, 21, 5, 172]
abbrev dktX4_finds_7 : List UInt8 := dkwX4_finds_7 ++ []
def dkwX4_finds_6 : List UInt8 := [27, 28, 42, 180, 0, 7, 3, 21, 6, 96, 46, 42, 180, 0, 7, 16, 20, 21, 6, 96, 46, 182, 0, 72]
abbrev dktX4_finds_6 : List UInt8 := dkwX4_finds_6 ++ dktX4_finds_7
def dkwX4_finds_5 : List UInt8 := [167, 0, 4, 3, 54, 5, 3, 54, 6, 21, 6, 42, 180, 0, 48, 162, 0, 49, 21, 5, 153, 0, 44, 42]
abbrev dktX4_finds_5 : List UInt8 := dkwX4_finds_5 ++ dktX4_finds_6
def dkwX4_finds_4 : List UInt8 := [180, 0, 7, 16, 60, 27, 96, 46, 96, 42, 180, 0, 58, 42, 180, 0, 17, 96, 163, 0, 7, 4]
abbrev dktX4_finds_4 : List UInt8 := dkwX4_finds_4 ++ dktX4_finds_5
def dkwX4_finds_3 : List UInt8 := [180, 0, 7, 16, 40, 27, 96, 46, 96, 42, 180, 0, 55, 42, 180, 0, 13, 96, 163, 0, 31, 21, 4, 42]
abbrev dktX4_finds_3 : List UInt8 := dkwX4_finds_3 ++ dktX4_finds_4
def dkwX4_finds_2 : List UInt8 := [21, 5, 153, 0, 71, 29, 42, 180, 0, 55, 161, 0, 63, 21, 4, 42, 180, 0, 58, 161, 0, 54, 29, 42]
abbrev dktX4_finds_2 : List UInt8 := dkwX4_finds_2 ++ dktX4_finds_3
def dkwX4_finds_1 : List UInt8 := [180, 0, 7, 16, 100, 27, 96, 46, 28, 122, 4, 126, 4, 160, 0, 7, 4, 167, 0, 4, 3, 54, 5]
abbrev dktX4_finds_1 : List UInt8 := dkwX4_finds_1 ++ dktX4_finds_2
def dkwX4_finds_0 : List UInt8 := [42, 27, 28, 182, 0, 61, 62, 42, 27, 28, 182, 0, 65, 54, 4, 42, 27, 182, 0, 68, 153, 0, 24, 42]
abbrev dktX4_finds_0 : List UInt8 := dkwX4_finds_0 ++ dktX4_finds_1
theorem dksX4_finds_0 : cX4_finds.data.toList.drop 0 = dktX4_finds_0 := by decide +kernel
theorem dksX4_finds_1 : cX4_finds.data.toList.drop 24 = dktX4_finds_1 := dk_seg dksX4_finds_0 24 rfl rfl
theorem dksX4_finds_2 : cX4_finds.data.toList.drop 47 = dktX4_finds_2 := dk_seg dksX4_finds_1 23 rfl rfl
theorem dksX4_finds_3 : cX4_finds.data.toList.drop 71 = dktX4_finds_3 := dk_seg dksX4_finds_2 24 rfl rfl
theorem dksX4_finds_4 : cX4_finds.data.toList.drop 95 = dktX4_finds_4 := dk_seg dksX4_finds_3 24 rfl rfl
theorem dksX4_finds_5 : cX4_finds.data.toList.drop 117 = dktX4_finds_5 := dk_seg dksX4_finds_4 22 rfl rfl
theorem dksX4_finds_6 : cX4_finds.data.toList.drop 141 = dktX4_finds_6 := dk_seg dksX4_finds_5 24 rfl rfl
theorem dksX4_finds_7 : cX4_finds.data.toList.drop 165 = dktX4_finds_7 := dk_seg dksX4_finds_6 24 rfl rfl
theorem dX4_finds_0 : decode cX4_finds 0 = .ok (.aload_n 0, 1) := dk_42 (dk_at dksX4_finds_0 0 rfl rfl)
theorem dX4_finds_1 : decode cX4_finds 1 = .ok (.iload_n 1, 1) := dk_27 (dk_at dksX4_finds_0 1 rfl rfl)
theorem dX4_finds_2 : decode cX4_finds 2 = .ok (.iload_n 2, 1) := dk_28 (dk_at dksX4_finds_0 2 rfl rfl)
theorem dX4_finds_3 : decode cX4_finds 3 = .ok (.invokevirtual 61, 3) := dk_182 0 61 (dk_at dksX4_finds_0 3 rfl rfl)
theorem dX4_finds_6 : decode cX4_finds 6 = .ok (.istore_n 3, 1) := dk_62 (dk_at dksX4_finds_0 6 rfl rfl)
theorem dX4_finds_7 : decode cX4_finds 7 = .ok (.aload_n 0, 1) := dk_42 (dk_at dksX4_finds_0 7 rfl rfl)
theorem dX4_finds_8 : decode cX4_finds 8 = .ok (.iload_n 1, 1) := dk_27 (dk_at dksX4_finds_0 8 rfl rfl)
theorem dX4_finds_9 : decode cX4_finds 9 = .ok (.iload_n 2, 1) := dk_28 (dk_at dksX4_finds_0 9 rfl rfl)
theorem dX4_finds_10 : decode cX4_finds 10 = .ok (.invokevirtual 65, 3) := dk_182 0 65 (dk_at dksX4_finds_0 10 rfl rfl)
theorem dX4_finds_13 : decode cX4_finds 13 = .ok (.istore 4, 2) := dk_54 4 (dk_at dksX4_finds_0 13 rfl rfl)
theorem dX4_finds_15 : decode cX4_finds 15 = .ok (.aload_n 0, 1) := dk_42 (dk_at dksX4_finds_0 15 rfl rfl)
theorem dX4_finds_16 : decode cX4_finds 16 = .ok (.iload_n 1, 1) := dk_27 (dk_at dksX4_finds_0 16 rfl rfl)
theorem dX4_finds_17 : decode cX4_finds 17 = .ok (.invokevirtual 68, 3) := dk_182 0 68 (dk_at dksX4_finds_0 17 rfl rfl)
theorem dX4_finds_20 : decode cX4_finds 20 = .ok (.ifCond .eq 24, 3) := dk_153 0 24 (dk_at dksX4_finds_0 20 rfl rfl)
theorem dX4_finds_23 : decode cX4_finds 23 = .ok (.aload_n 0, 1) := dk_42 (dk_at dksX4_finds_0 23 rfl rfl)
theorem dX4_finds_24 : decode cX4_finds 24 = .ok (.getfield 7, 3) := dk_180 0 7 (dk_at dksX4_finds_1 0 rfl rfl)
theorem dX4_finds_27 : decode cX4_finds 27 = .ok (.bipush 100, 2) := dk_16 100 (dk_at dksX4_finds_1 3 rfl rfl)
theorem dX4_finds_29 : decode cX4_finds 29 = .ok (.iload_n 1, 1) := dk_27 (dk_at dksX4_finds_1 5 rfl rfl)
theorem dX4_finds_30 : decode cX4_finds 30 = .ok (.iadd, 1) := dk_96 (dk_at dksX4_finds_1 6 rfl rfl)
theorem dX4_finds_31 : decode cX4_finds 31 = .ok (.iaload, 1) := dk_46 (dk_at dksX4_finds_1 7 rfl rfl)
theorem dX4_finds_32 : decode cX4_finds 32 = .ok (.iload_n 2, 1) := dk_28 (dk_at dksX4_finds_1 8 rfl rfl)
theorem dX4_finds_33 : decode cX4_finds 33 = .ok (.ishr, 1) := dk_122 (dk_at dksX4_finds_1 9 rfl rfl)
theorem dX4_finds_34 : decode cX4_finds 34 = .ok (.iconst 1, 1) := dk_4 (dk_at dksX4_finds_1 10 rfl rfl)
theorem dX4_finds_35 : decode cX4_finds 35 = .ok (.iand, 1) := dk_126 (dk_at dksX4_finds_1 11 rfl rfl)
theorem dX4_finds_36 : decode cX4_finds 36 = .ok (.iconst 1, 1) := dk_4 (dk_at dksX4_finds_1 12 rfl rfl)
theorem dX4_finds_37 : decode cX4_finds 37 = .ok (.if_icmp .ne 7, 3) := dk_160 0 7 (dk_at dksX4_finds_1 13 rfl rfl)
theorem dX4_finds_40 : decode cX4_finds 40 = .ok (.iconst 1, 1) := dk_4 (dk_at dksX4_finds_1 16 rfl rfl)
theorem dX4_finds_41 : decode cX4_finds 41 = .ok (.goto 4, 3) := dk_167 0 4 (dk_at dksX4_finds_1 17 rfl rfl)
theorem dX4_finds_44 : decode cX4_finds 44 = .ok (.iconst 0, 1) := dk_3 (dk_at dksX4_finds_1 20 rfl rfl)
theorem dX4_finds_45 : decode cX4_finds 45 = .ok (.istore 5, 2) := dk_54 5 (dk_at dksX4_finds_1 21 rfl rfl)
theorem dX4_finds_47 : decode cX4_finds 47 = .ok (.iload 5, 2) := dk_21 5 (dk_at dksX4_finds_2 0 rfl rfl)
theorem dX4_finds_49 : decode cX4_finds 49 = .ok (.ifCond .eq 71, 3) := dk_153 0 71 (dk_at dksX4_finds_2 2 rfl rfl)
theorem dX4_finds_52 : decode cX4_finds 52 = .ok (.iload_n 3, 1) := dk_29 (dk_at dksX4_finds_2 5 rfl rfl)
theorem dX4_finds_53 : decode cX4_finds 53 = .ok (.aload_n 0, 1) := dk_42 (dk_at dksX4_finds_2 6 rfl rfl)
theorem dX4_finds_54 : decode cX4_finds 54 = .ok (.getfield 55, 3) := dk_180 0 55 (dk_at dksX4_finds_2 7 rfl rfl)
theorem dX4_finds_57 : decode cX4_finds 57 = .ok (.if_icmp .lt 63, 3) := dk_161 0 63 (dk_at dksX4_finds_2 10 rfl rfl)
theorem dX4_finds_60 : decode cX4_finds 60 = .ok (.iload 4, 2) := dk_21 4 (dk_at dksX4_finds_2 13 rfl rfl)
theorem dX4_finds_62 : decode cX4_finds 62 = .ok (.aload_n 0, 1) := dk_42 (dk_at dksX4_finds_2 15 rfl rfl)
theorem dX4_finds_63 : decode cX4_finds 63 = .ok (.getfield 58, 3) := dk_180 0 58 (dk_at dksX4_finds_2 16 rfl rfl)
theorem dX4_finds_66 : decode cX4_finds 66 = .ok (.if_icmp .lt 54, 3) := dk_161 0 54 (dk_at dksX4_finds_2 19 rfl rfl)
theorem dX4_finds_69 : decode cX4_finds 69 = .ok (.iload_n 3, 1) := dk_29 (dk_at dksX4_finds_2 22 rfl rfl)
theorem dX4_finds_70 : decode cX4_finds 70 = .ok (.aload_n 0, 1) := dk_42 (dk_at dksX4_finds_2 23 rfl rfl)
theorem dX4_finds_71 : decode cX4_finds 71 = .ok (.getfield 7, 3) := dk_180 0 7 (dk_at dksX4_finds_3 0 rfl rfl)
theorem dX4_finds_74 : decode cX4_finds 74 = .ok (.bipush 40, 2) := dk_16 40 (dk_at dksX4_finds_3 3 rfl rfl)
theorem dX4_finds_76 : decode cX4_finds 76 = .ok (.iload_n 1, 1) := dk_27 (dk_at dksX4_finds_3 5 rfl rfl)
theorem dX4_finds_77 : decode cX4_finds 77 = .ok (.iadd, 1) := dk_96 (dk_at dksX4_finds_3 6 rfl rfl)
theorem dX4_finds_78 : decode cX4_finds 78 = .ok (.iaload, 1) := dk_46 (dk_at dksX4_finds_3 7 rfl rfl)
theorem dX4_finds_79 : decode cX4_finds 79 = .ok (.iadd, 1) := dk_96 (dk_at dksX4_finds_3 8 rfl rfl)
theorem dX4_finds_80 : decode cX4_finds 80 = .ok (.aload_n 0, 1) := dk_42 (dk_at dksX4_finds_3 9 rfl rfl)
theorem dX4_finds_81 : decode cX4_finds 81 = .ok (.getfield 55, 3) := dk_180 0 55 (dk_at dksX4_finds_3 10 rfl rfl)
theorem dX4_finds_84 : decode cX4_finds 84 = .ok (.aload_n 0, 1) := dk_42 (dk_at dksX4_finds_3 13 rfl rfl)
theorem dX4_finds_85 : decode cX4_finds 85 = .ok (.getfield 13, 3) := dk_180 0 13 (dk_at dksX4_finds_3 14 rfl rfl)
theorem dX4_finds_88 : decode cX4_finds 88 = .ok (.iadd, 1) := dk_96 (dk_at dksX4_finds_3 17 rfl rfl)
theorem dX4_finds_89 : decode cX4_finds 89 = .ok (.if_icmp .gt 31, 3) := dk_163 0 31 (dk_at dksX4_finds_3 18 rfl rfl)
theorem dX4_finds_92 : decode cX4_finds 92 = .ok (.iload 4, 2) := dk_21 4 (dk_at dksX4_finds_3 21 rfl rfl)
theorem dX4_finds_94 : decode cX4_finds 94 = .ok (.aload_n 0, 1) := dk_42 (dk_at dksX4_finds_3 23 rfl rfl)
theorem dX4_finds_95 : decode cX4_finds 95 = .ok (.getfield 7, 3) := dk_180 0 7 (dk_at dksX4_finds_4 0 rfl rfl)
theorem dX4_finds_98 : decode cX4_finds 98 = .ok (.bipush 60, 2) := dk_16 60 (dk_at dksX4_finds_4 3 rfl rfl)
theorem dX4_finds_100 : decode cX4_finds 100 = .ok (.iload_n 1, 1) := dk_27 (dk_at dksX4_finds_4 5 rfl rfl)
theorem dX4_finds_101 : decode cX4_finds 101 = .ok (.iadd, 1) := dk_96 (dk_at dksX4_finds_4 6 rfl rfl)
theorem dX4_finds_102 : decode cX4_finds 102 = .ok (.iaload, 1) := dk_46 (dk_at dksX4_finds_4 7 rfl rfl)
theorem dX4_finds_103 : decode cX4_finds 103 = .ok (.iadd, 1) := dk_96 (dk_at dksX4_finds_4 8 rfl rfl)
theorem dX4_finds_104 : decode cX4_finds 104 = .ok (.aload_n 0, 1) := dk_42 (dk_at dksX4_finds_4 9 rfl rfl)
theorem dX4_finds_105 : decode cX4_finds 105 = .ok (.getfield 58, 3) := dk_180 0 58 (dk_at dksX4_finds_4 10 rfl rfl)
theorem dX4_finds_108 : decode cX4_finds 108 = .ok (.aload_n 0, 1) := dk_42 (dk_at dksX4_finds_4 13 rfl rfl)
theorem dX4_finds_109 : decode cX4_finds 109 = .ok (.getfield 17, 3) := dk_180 0 17 (dk_at dksX4_finds_4 14 rfl rfl)
theorem dX4_finds_112 : decode cX4_finds 112 = .ok (.iadd, 1) := dk_96 (dk_at dksX4_finds_4 17 rfl rfl)
theorem dX4_finds_113 : decode cX4_finds 113 = .ok (.if_icmp .gt 7, 3) := dk_163 0 7 (dk_at dksX4_finds_4 18 rfl rfl)
theorem dX4_finds_116 : decode cX4_finds 116 = .ok (.iconst 1, 1) := dk_4 (dk_at dksX4_finds_4 21 rfl rfl)
theorem dX4_finds_117 : decode cX4_finds 117 = .ok (.goto 4, 3) := dk_167 0 4 (dk_at dksX4_finds_5 0 rfl rfl)
theorem dX4_finds_120 : decode cX4_finds 120 = .ok (.iconst 0, 1) := dk_3 (dk_at dksX4_finds_5 3 rfl rfl)
theorem dX4_finds_121 : decode cX4_finds 121 = .ok (.istore 5, 2) := dk_54 5 (dk_at dksX4_finds_5 4 rfl rfl)
theorem dX4_finds_123 : decode cX4_finds 123 = .ok (.iconst 0, 1) := dk_3 (dk_at dksX4_finds_5 6 rfl rfl)
theorem dX4_finds_124 : decode cX4_finds 124 = .ok (.istore 6, 2) := dk_54 6 (dk_at dksX4_finds_5 7 rfl rfl)
theorem dX4_finds_126 : decode cX4_finds 126 = .ok (.iload 6, 2) := dk_21 6 (dk_at dksX4_finds_5 9 rfl rfl)
theorem dX4_finds_128 : decode cX4_finds 128 = .ok (.aload_n 0, 1) := dk_42 (dk_at dksX4_finds_5 11 rfl rfl)
theorem dX4_finds_129 : decode cX4_finds 129 = .ok (.getfield 48, 3) := dk_180 0 48 (dk_at dksX4_finds_5 12 rfl rfl)
theorem dX4_finds_132 : decode cX4_finds 132 = .ok (.if_icmp .ge 49, 3) := dk_162 0 49 (dk_at dksX4_finds_5 15 rfl rfl)
theorem dX4_finds_135 : decode cX4_finds 135 = .ok (.iload 5, 2) := dk_21 5 (dk_at dksX4_finds_5 18 rfl rfl)
theorem dX4_finds_137 : decode cX4_finds 137 = .ok (.ifCond .eq 44, 3) := dk_153 0 44 (dk_at dksX4_finds_5 20 rfl rfl)
theorem dX4_finds_140 : decode cX4_finds 140 = .ok (.aload_n 0, 1) := dk_42 (dk_at dksX4_finds_5 23 rfl rfl)
theorem dX4_finds_141 : decode cX4_finds 141 = .ok (.iload_n 1, 1) := dk_27 (dk_at dksX4_finds_6 0 rfl rfl)
theorem dX4_finds_142 : decode cX4_finds 142 = .ok (.iload_n 2, 1) := dk_28 (dk_at dksX4_finds_6 1 rfl rfl)
theorem dX4_finds_143 : decode cX4_finds 143 = .ok (.aload_n 0, 1) := dk_42 (dk_at dksX4_finds_6 2 rfl rfl)
theorem dX4_finds_144 : decode cX4_finds 144 = .ok (.getfield 7, 3) := dk_180 0 7 (dk_at dksX4_finds_6 3 rfl rfl)
theorem dX4_finds_147 : decode cX4_finds 147 = .ok (.iconst 0, 1) := dk_3 (dk_at dksX4_finds_6 6 rfl rfl)
theorem dX4_finds_148 : decode cX4_finds 148 = .ok (.iload 6, 2) := dk_21 6 (dk_at dksX4_finds_6 7 rfl rfl)
theorem dX4_finds_150 : decode cX4_finds 150 = .ok (.iadd, 1) := dk_96 (dk_at dksX4_finds_6 9 rfl rfl)
theorem dX4_finds_151 : decode cX4_finds 151 = .ok (.iaload, 1) := dk_46 (dk_at dksX4_finds_6 10 rfl rfl)
theorem dX4_finds_152 : decode cX4_finds 152 = .ok (.aload_n 0, 1) := dk_42 (dk_at dksX4_finds_6 11 rfl rfl)
theorem dX4_finds_153 : decode cX4_finds 153 = .ok (.getfield 7, 3) := dk_180 0 7 (dk_at dksX4_finds_6 12 rfl rfl)
theorem dX4_finds_156 : decode cX4_finds 156 = .ok (.bipush 20, 2) := dk_16 20 (dk_at dksX4_finds_6 15 rfl rfl)
theorem dX4_finds_158 : decode cX4_finds 158 = .ok (.iload 6, 2) := dk_21 6 (dk_at dksX4_finds_6 17 rfl rfl)
theorem dX4_finds_160 : decode cX4_finds 160 = .ok (.iadd, 1) := dk_96 (dk_at dksX4_finds_6 19 rfl rfl)
theorem dX4_finds_161 : decode cX4_finds 161 = .ok (.iaload, 1) := dk_46 (dk_at dksX4_finds_6 20 rfl rfl)
theorem dX4_finds_162 : decode cX4_finds 162 = .ok (.invokevirtual 72, 3) := dk_182 0 72 (dk_at dksX4_finds_6 21 rfl rfl)
theorem dX4_finds_165 : decode cX4_finds 165 = .ok (.ifCond .ne 7, 3) := dk_154 0 7 (dk_at dksX4_finds_7 0 rfl rfl)
theorem dX4_finds_168 : decode cX4_finds 168 = .ok (.iconst 1, 1) := dk_4 (dk_at dksX4_finds_7 3 rfl rfl)
theorem dX4_finds_169 : decode cX4_finds 169 = .ok (.goto 4, 3) := dk_167 0 4 (dk_at dksX4_finds_7 4 rfl rfl)
theorem dX4_finds_172 : decode cX4_finds 172 = .ok (.iconst 0, 1) := dk_3 (dk_at dksX4_finds_7 7 rfl rfl)
theorem dX4_finds_173 : decode cX4_finds 173 = .ok (.istore 5, 2) := dk_54 5 (dk_at dksX4_finds_7 8 rfl rfl)
theorem dX4_finds_175 : decode cX4_finds 175 = .ok (.iinc 6 1, 3) := dk_132 6 1 (dk_at dksX4_finds_7 10 rfl rfl)
theorem dX4_finds_178 : decode cX4_finds 178 = .ok (.goto (-52), 3) := dk_167 255 204 (dk_at dksX4_finds_7 13 rfl rfl)
theorem dX4_finds_181 : decode cX4_finds 181 = .ok (.iload 5, 2) := dk_21 5 (dk_at dksX4_finds_7 16 rfl rfl)
theorem dX4_finds_183 : decode cX4_finds 183 = .ok (.ireturn, 1) := dk_172 (dk_at dksX4_finds_7 18 rfl rfl)
abbrev cX4_left : ByteArray := prog_17_method_5_code
def yX4_left : MethodName := ⟨RX4, "left", "(II)I"⟩
def dkwX4_left_2 : List UInt8 := [180, 0, 7, 16, 40, 27, 96, 46, 100, 172]
abbrev dktX4_left_2 : List UInt8 := dkwX4_left_2 ++ []
def dkwX4_left_1 : List UInt8 := [4, 100, 5, 108, 100, 167, 0, 26, 28, 5, 112, 154, 0, 9, 29, 4, 96, 167, 0, 14, 29, 42]
abbrev dktX4_left_1 : List UInt8 := dkwX4_left_1 ++ dktX4_left_2
def dkwX4_left_0 : List UInt8 := [42, 180, 0, 7, 3, 27, 96, 46, 62, 28, 8, 164, 0, 21, 29, 42, 180, 0, 7, 16, 40, 27, 96, 46]
abbrev dktX4_left_0 : List UInt8 := dkwX4_left_0 ++ dktX4_left_1
theorem dksX4_left_0 : cX4_left.data.toList.drop 0 = dktX4_left_0 := by decide +kernel
theorem dksX4_left_1 : cX4_left.data.toList.drop 24 = dktX4_left_1 := dk_seg dksX4_left_0 24 rfl rfl
theorem dksX4_left_2 : cX4_left.data.toList.drop 46 = dktX4_left_2 := dk_seg dksX4_left_1 22 rfl rfl
theorem dX4_left_0 : decode cX4_left 0 = .ok (.aload_n 0, 1) := dk_42 (dk_at dksX4_left_0 0 rfl rfl)
theorem dX4_left_1 : decode cX4_left 1 = .ok (.getfield 7, 3) := dk_180 0 7 (dk_at dksX4_left_0 1 rfl rfl)
theorem dX4_left_4 : decode cX4_left 4 = .ok (.iconst 0, 1) := dk_3 (dk_at dksX4_left_0 4 rfl rfl)
theorem dX4_left_5 : decode cX4_left 5 = .ok (.iload_n 1, 1) := dk_27 (dk_at dksX4_left_0 5 rfl rfl)
theorem dX4_left_6 : decode cX4_left 6 = .ok (.iadd, 1) := dk_96 (dk_at dksX4_left_0 6 rfl rfl)
theorem dX4_left_7 : decode cX4_left 7 = .ok (.iaload, 1) := dk_46 (dk_at dksX4_left_0 7 rfl rfl)
theorem dX4_left_8 : decode cX4_left 8 = .ok (.istore_n 3, 1) := dk_62 (dk_at dksX4_left_0 8 rfl rfl)
theorem dX4_left_9 : decode cX4_left 9 = .ok (.iload_n 2, 1) := dk_28 (dk_at dksX4_left_0 9 rfl rfl)
theorem dX4_left_10 : decode cX4_left 10 = .ok (.iconst 5, 1) := dk_8 (dk_at dksX4_left_0 10 rfl rfl)
theorem dX4_left_11 : decode cX4_left 11 = .ok (.if_icmp .le 21, 3) := dk_164 0 21 (dk_at dksX4_left_0 11 rfl rfl)
theorem dX4_left_14 : decode cX4_left 14 = .ok (.iload_n 3, 1) := dk_29 (dk_at dksX4_left_0 14 rfl rfl)
theorem dX4_left_15 : decode cX4_left 15 = .ok (.aload_n 0, 1) := dk_42 (dk_at dksX4_left_0 15 rfl rfl)
theorem dX4_left_16 : decode cX4_left 16 = .ok (.getfield 7, 3) := dk_180 0 7 (dk_at dksX4_left_0 16 rfl rfl)
theorem dX4_left_19 : decode cX4_left 19 = .ok (.bipush 40, 2) := dk_16 40 (dk_at dksX4_left_0 19 rfl rfl)
theorem dX4_left_21 : decode cX4_left 21 = .ok (.iload_n 1, 1) := dk_27 (dk_at dksX4_left_0 21 rfl rfl)
theorem dX4_left_22 : decode cX4_left 22 = .ok (.iadd, 1) := dk_96 (dk_at dksX4_left_0 22 rfl rfl)
theorem dX4_left_23 : decode cX4_left 23 = .ok (.iaload, 1) := dk_46 (dk_at dksX4_left_0 23 rfl rfl)
theorem dX4_left_24 : decode cX4_left 24 = .ok (.iconst 1, 1) := dk_4 (dk_at dksX4_left_1 0 rfl rfl)
theorem dX4_left_25 : decode cX4_left 25 = .ok (.isub, 1) := dk_100 (dk_at dksX4_left_1 1 rfl rfl)
theorem dX4_left_26 : decode cX4_left 26 = .ok (.iconst 2, 1) := dk_5 (dk_at dksX4_left_1 2 rfl rfl)
theorem dX4_left_27 : decode cX4_left 27 = .ok (.idiv, 1) := dk_108 (dk_at dksX4_left_1 3 rfl rfl)
theorem dX4_left_28 : decode cX4_left 28 = .ok (.isub, 1) := dk_100 (dk_at dksX4_left_1 4 rfl rfl)
theorem dX4_left_29 : decode cX4_left 29 = .ok (.goto 26, 3) := dk_167 0 26 (dk_at dksX4_left_1 5 rfl rfl)
theorem dX4_left_32 : decode cX4_left 32 = .ok (.iload_n 2, 1) := dk_28 (dk_at dksX4_left_1 8 rfl rfl)
theorem dX4_left_33 : decode cX4_left 33 = .ok (.iconst 2, 1) := dk_5 (dk_at dksX4_left_1 9 rfl rfl)
theorem dX4_left_34 : decode cX4_left 34 = .ok (.irem, 1) := dk_112 (dk_at dksX4_left_1 10 rfl rfl)
theorem dX4_left_35 : decode cX4_left 35 = .ok (.ifCond .ne 9, 3) := dk_154 0 9 (dk_at dksX4_left_1 11 rfl rfl)
theorem dX4_left_38 : decode cX4_left 38 = .ok (.iload_n 3, 1) := dk_29 (dk_at dksX4_left_1 14 rfl rfl)
theorem dX4_left_39 : decode cX4_left 39 = .ok (.iconst 1, 1) := dk_4 (dk_at dksX4_left_1 15 rfl rfl)
theorem dX4_left_40 : decode cX4_left 40 = .ok (.iadd, 1) := dk_96 (dk_at dksX4_left_1 16 rfl rfl)
theorem dX4_left_41 : decode cX4_left 41 = .ok (.goto 14, 3) := dk_167 0 14 (dk_at dksX4_left_1 17 rfl rfl)
theorem dX4_left_44 : decode cX4_left 44 = .ok (.iload_n 3, 1) := dk_29 (dk_at dksX4_left_1 20 rfl rfl)
theorem dX4_left_45 : decode cX4_left 45 = .ok (.aload_n 0, 1) := dk_42 (dk_at dksX4_left_1 21 rfl rfl)
theorem dX4_left_46 : decode cX4_left 46 = .ok (.getfield 7, 3) := dk_180 0 7 (dk_at dksX4_left_2 0 rfl rfl)
theorem dX4_left_49 : decode cX4_left 49 = .ok (.bipush 40, 2) := dk_16 40 (dk_at dksX4_left_2 3 rfl rfl)
theorem dX4_left_51 : decode cX4_left 51 = .ok (.iload_n 1, 1) := dk_27 (dk_at dksX4_left_2 5 rfl rfl)
theorem dX4_left_52 : decode cX4_left 52 = .ok (.iadd, 1) := dk_96 (dk_at dksX4_left_2 6 rfl rfl)
theorem dX4_left_53 : decode cX4_left 53 = .ok (.iaload, 1) := dk_46 (dk_at dksX4_left_2 7 rfl rfl)
theorem dX4_left_54 : decode cX4_left 54 = .ok (.isub, 1) := dk_100 (dk_at dksX4_left_2 8 rfl rfl)
theorem dX4_left_55 : decode cX4_left 55 = .ok (.ireturn, 1) := dk_172 (dk_at dksX4_left_2 9 rfl rfl)
abbrev cX4_bottom : ByteArray := prog_17_method_6_code
def yX4_bottom : MethodName := ⟨RX4, "bottom", "(II)I"⟩
def dkwX4_bottom_2 : List UInt8 := [16, 6, 160, 0, 9, 29, 4, 96, 167, 0, 14, 29, 42, 180, 0, 7, 16, 60, 27, 96, 46, 100, 172]
abbrev dktX4_bottom_2 : List UInt8 := dkwX4_bottom_2 ++ []
def dkwX4_bottom_1 : List UInt8 := [180, 0, 7, 16, 60, 27, 96, 46, 4, 100, 5, 108, 100, 172, 28, 153, 0, 14, 28, 4, 159, 0, 9, 28]
abbrev dktX4_bottom_1 : List UInt8 := dkwX4_bottom_1 ++ dktX4_bottom_2
def dkwX4_bottom_0 : List UInt8 := [42, 180, 0, 7, 16, 20, 27, 96, 46, 62, 28, 7, 159, 0, 8, 28, 8, 160, 0, 19, 29, 42]
abbrev dktX4_bottom_0 : List UInt8 := dkwX4_bottom_0 ++ dktX4_bottom_1
theorem dksX4_bottom_0 : cX4_bottom.data.toList.drop 0 = dktX4_bottom_0 := by decide +kernel
theorem dksX4_bottom_1 : cX4_bottom.data.toList.drop 22 = dktX4_bottom_1 := dk_seg dksX4_bottom_0 22 rfl rfl
theorem dksX4_bottom_2 : cX4_bottom.data.toList.drop 46 = dktX4_bottom_2 := dk_seg dksX4_bottom_1 24 rfl rfl
theorem dX4_bottom_0 : decode cX4_bottom 0 = .ok (.aload_n 0, 1) := dk_42 (dk_at dksX4_bottom_0 0 rfl rfl)
theorem dX4_bottom_1 : decode cX4_bottom 1 = .ok (.getfield 7, 3) := dk_180 0 7 (dk_at dksX4_bottom_0 1 rfl rfl)
theorem dX4_bottom_4 : decode cX4_bottom 4 = .ok (.bipush 20, 2) := dk_16 20 (dk_at dksX4_bottom_0 4 rfl rfl)
theorem dX4_bottom_6 : decode cX4_bottom 6 = .ok (.iload_n 1, 1) := dk_27 (dk_at dksX4_bottom_0 6 rfl rfl)
theorem dX4_bottom_7 : decode cX4_bottom 7 = .ok (.iadd, 1) := dk_96 (dk_at dksX4_bottom_0 7 rfl rfl)
theorem dX4_bottom_8 : decode cX4_bottom 8 = .ok (.iaload, 1) := dk_46 (dk_at dksX4_bottom_0 8 rfl rfl)
theorem dX4_bottom_9 : decode cX4_bottom 9 = .ok (.istore_n 3, 1) := dk_62 (dk_at dksX4_bottom_0 9 rfl rfl)
theorem dX4_bottom_10 : decode cX4_bottom 10 = .ok (.iload_n 2, 1) := dk_28 (dk_at dksX4_bottom_0 10 rfl rfl)
theorem dX4_bottom_11 : decode cX4_bottom 11 = .ok (.iconst 4, 1) := dk_7 (dk_at dksX4_bottom_0 11 rfl rfl)
theorem dX4_bottom_12 : decode cX4_bottom 12 = .ok (.if_icmp .eq 8, 3) := dk_159 0 8 (dk_at dksX4_bottom_0 12 rfl rfl)
theorem dX4_bottom_15 : decode cX4_bottom 15 = .ok (.iload_n 2, 1) := dk_28 (dk_at dksX4_bottom_0 15 rfl rfl)
theorem dX4_bottom_16 : decode cX4_bottom 16 = .ok (.iconst 5, 1) := dk_8 (dk_at dksX4_bottom_0 16 rfl rfl)
theorem dX4_bottom_17 : decode cX4_bottom 17 = .ok (.if_icmp .ne 19, 3) := dk_160 0 19 (dk_at dksX4_bottom_0 17 rfl rfl)
theorem dX4_bottom_20 : decode cX4_bottom 20 = .ok (.iload_n 3, 1) := dk_29 (dk_at dksX4_bottom_0 20 rfl rfl)
theorem dX4_bottom_21 : decode cX4_bottom 21 = .ok (.aload_n 0, 1) := dk_42 (dk_at dksX4_bottom_0 21 rfl rfl)
theorem dX4_bottom_22 : decode cX4_bottom 22 = .ok (.getfield 7, 3) := dk_180 0 7 (dk_at dksX4_bottom_1 0 rfl rfl)
theorem dX4_bottom_25 : decode cX4_bottom 25 = .ok (.bipush 60, 2) := dk_16 60 (dk_at dksX4_bottom_1 3 rfl rfl)
theorem dX4_bottom_27 : decode cX4_bottom 27 = .ok (.iload_n 1, 1) := dk_27 (dk_at dksX4_bottom_1 5 rfl rfl)
theorem dX4_bottom_28 : decode cX4_bottom 28 = .ok (.iadd, 1) := dk_96 (dk_at dksX4_bottom_1 6 rfl rfl)
theorem dX4_bottom_29 : decode cX4_bottom 29 = .ok (.iaload, 1) := dk_46 (dk_at dksX4_bottom_1 7 rfl rfl)
theorem dX4_bottom_30 : decode cX4_bottom 30 = .ok (.iconst 1, 1) := dk_4 (dk_at dksX4_bottom_1 8 rfl rfl)
theorem dX4_bottom_31 : decode cX4_bottom 31 = .ok (.isub, 1) := dk_100 (dk_at dksX4_bottom_1 9 rfl rfl)
theorem dX4_bottom_32 : decode cX4_bottom 32 = .ok (.iconst 2, 1) := dk_5 (dk_at dksX4_bottom_1 10 rfl rfl)
theorem dX4_bottom_33 : decode cX4_bottom 33 = .ok (.idiv, 1) := dk_108 (dk_at dksX4_bottom_1 11 rfl rfl)
theorem dX4_bottom_34 : decode cX4_bottom 34 = .ok (.isub, 1) := dk_100 (dk_at dksX4_bottom_1 12 rfl rfl)
theorem dX4_bottom_35 : decode cX4_bottom 35 = .ok (.ireturn, 1) := dk_172 (dk_at dksX4_bottom_1 13 rfl rfl)
theorem dX4_bottom_36 : decode cX4_bottom 36 = .ok (.iload_n 2, 1) := dk_28 (dk_at dksX4_bottom_1 14 rfl rfl)
theorem dX4_bottom_37 : decode cX4_bottom 37 = .ok (.ifCond .eq 14, 3) := dk_153 0 14 (dk_at dksX4_bottom_1 15 rfl rfl)
theorem dX4_bottom_40 : decode cX4_bottom 40 = .ok (.iload_n 2, 1) := dk_28 (dk_at dksX4_bottom_1 18 rfl rfl)
theorem dX4_bottom_41 : decode cX4_bottom 41 = .ok (.iconst 1, 1) := dk_4 (dk_at dksX4_bottom_1 19 rfl rfl)
theorem dX4_bottom_42 : decode cX4_bottom 42 = .ok (.if_icmp .eq 9, 3) := dk_159 0 9 (dk_at dksX4_bottom_1 20 rfl rfl)
theorem dX4_bottom_45 : decode cX4_bottom 45 = .ok (.iload_n 2, 1) := dk_28 (dk_at dksX4_bottom_1 23 rfl rfl)
theorem dX4_bottom_46 : decode cX4_bottom 46 = .ok (.bipush 6, 2) := dk_16 6 (dk_at dksX4_bottom_2 0 rfl rfl)
theorem dX4_bottom_48 : decode cX4_bottom 48 = .ok (.if_icmp .ne 9, 3) := dk_160 0 9 (dk_at dksX4_bottom_2 2 rfl rfl)
theorem dX4_bottom_51 : decode cX4_bottom 51 = .ok (.iload_n 3, 1) := dk_29 (dk_at dksX4_bottom_2 5 rfl rfl)
theorem dX4_bottom_52 : decode cX4_bottom 52 = .ok (.iconst 1, 1) := dk_4 (dk_at dksX4_bottom_2 6 rfl rfl)
theorem dX4_bottom_53 : decode cX4_bottom 53 = .ok (.iadd, 1) := dk_96 (dk_at dksX4_bottom_2 7 rfl rfl)
theorem dX4_bottom_54 : decode cX4_bottom 54 = .ok (.goto 14, 3) := dk_167 0 14 (dk_at dksX4_bottom_2 8 rfl rfl)
theorem dX4_bottom_57 : decode cX4_bottom 57 = .ok (.iload_n 3, 1) := dk_29 (dk_at dksX4_bottom_2 11 rfl rfl)
theorem dX4_bottom_58 : decode cX4_bottom 58 = .ok (.aload_n 0, 1) := dk_42 (dk_at dksX4_bottom_2 12 rfl rfl)
theorem dX4_bottom_59 : decode cX4_bottom 59 = .ok (.getfield 7, 3) := dk_180 0 7 (dk_at dksX4_bottom_2 13 rfl rfl)
theorem dX4_bottom_62 : decode cX4_bottom 62 = .ok (.bipush 60, 2) := dk_16 60 (dk_at dksX4_bottom_2 16 rfl rfl)
theorem dX4_bottom_64 : decode cX4_bottom 64 = .ok (.iload_n 1, 1) := dk_27 (dk_at dksX4_bottom_2 18 rfl rfl)
theorem dX4_bottom_65 : decode cX4_bottom 65 = .ok (.iadd, 1) := dk_96 (dk_at dksX4_bottom_2 19 rfl rfl)
theorem dX4_bottom_66 : decode cX4_bottom 66 = .ok (.iaload, 1) := dk_46 (dk_at dksX4_bottom_2 20 rfl rfl)
theorem dX4_bottom_67 : decode cX4_bottom 67 = .ok (.isub, 1) := dk_100 (dk_at dksX4_bottom_2 21 rfl rfl)
theorem dX4_bottom_68 : decode cX4_bottom 68 = .ok (.ireturn, 1) := dk_172 (dk_at dksX4_bottom_2 22 rfl rfl)
abbrev cX4_isVisible : ByteArray := prog_17_method_4_code
def yX4_isVisible : MethodName := ⟨RX4, "isVisible", "(I)Z"⟩
def dkwX4_isVisible_2 : List UInt8 := [180, 0, 58, 42, 180, 0, 17, 96, 4, 100, 133, 184, 0, 51, 153, 0, 7, 4, 167, 0, 4, 3, 172]
abbrev dktX4_isVisible_2 : List UInt8 := dkwX4_isVisible_2 ++ []
def dkwX4_isVisible_1 : List UInt8 := [100, 133, 184, 0, 51, 153, 0, 40, 42, 180, 0, 7, 16, 20, 27, 96, 46, 133, 42, 180, 0, 58, 133, 42]
abbrev dktX4_isVisible_1 : List UInt8 := dkwX4_isVisible_1 ++ dktX4_isVisible_2
def dkwX4_isVisible_0 : List UInt8 := [42, 180, 0, 7, 3, 27, 96, 46, 133, 42, 180, 0, 55, 133, 42, 180, 0, 55, 42, 180, 0, 13, 96, 4]
abbrev dktX4_isVisible_0 : List UInt8 := dkwX4_isVisible_0 ++ dktX4_isVisible_1
theorem dksX4_isVisible_0 : cX4_isVisible.data.toList.drop 0 = dktX4_isVisible_0 := by decide +kernel
theorem dksX4_isVisible_1 : cX4_isVisible.data.toList.drop 24 = dktX4_isVisible_1 := dk_seg dksX4_isVisible_0 24 rfl rfl
theorem dksX4_isVisible_2 : cX4_isVisible.data.toList.drop 48 = dktX4_isVisible_2 := dk_seg dksX4_isVisible_1 24 rfl rfl
theorem dX4_isVisible_0 : decode cX4_isVisible 0 = .ok (.aload_n 0, 1) := dk_42 (dk_at dksX4_isVisible_0 0 rfl rfl)
theorem dX4_isVisible_1 : decode cX4_isVisible 1 = .ok (.getfield 7, 3) := dk_180 0 7 (dk_at dksX4_isVisible_0 1 rfl rfl)
theorem dX4_isVisible_4 : decode cX4_isVisible 4 = .ok (.iconst 0, 1) := dk_3 (dk_at dksX4_isVisible_0 4 rfl rfl)
theorem dX4_isVisible_5 : decode cX4_isVisible 5 = .ok (.iload_n 1, 1) := dk_27 (dk_at dksX4_isVisible_0 5 rfl rfl)
theorem dX4_isVisible_6 : decode cX4_isVisible 6 = .ok (.iadd, 1) := dk_96 (dk_at dksX4_isVisible_0 6 rfl rfl)
theorem dX4_isVisible_7 : decode cX4_isVisible 7 = .ok (.iaload, 1) := dk_46 (dk_at dksX4_isVisible_0 7 rfl rfl)
theorem dX4_isVisible_8 : decode cX4_isVisible 8 = .ok (.i2l, 1) := dk_133 (dk_at dksX4_isVisible_0 8 rfl rfl)
theorem dX4_isVisible_9 : decode cX4_isVisible 9 = .ok (.aload_n 0, 1) := dk_42 (dk_at dksX4_isVisible_0 9 rfl rfl)
theorem dX4_isVisible_10 : decode cX4_isVisible 10 = .ok (.getfield 55, 3) := dk_180 0 55 (dk_at dksX4_isVisible_0 10 rfl rfl)
theorem dX4_isVisible_13 : decode cX4_isVisible 13 = .ok (.i2l, 1) := dk_133 (dk_at dksX4_isVisible_0 13 rfl rfl)
theorem dX4_isVisible_14 : decode cX4_isVisible 14 = .ok (.aload_n 0, 1) := dk_42 (dk_at dksX4_isVisible_0 14 rfl rfl)
theorem dX4_isVisible_15 : decode cX4_isVisible 15 = .ok (.getfield 55, 3) := dk_180 0 55 (dk_at dksX4_isVisible_0 15 rfl rfl)
theorem dX4_isVisible_18 : decode cX4_isVisible 18 = .ok (.aload_n 0, 1) := dk_42 (dk_at dksX4_isVisible_0 18 rfl rfl)
theorem dX4_isVisible_19 : decode cX4_isVisible 19 = .ok (.getfield 13, 3) := dk_180 0 13 (dk_at dksX4_isVisible_0 19 rfl rfl)
theorem dX4_isVisible_22 : decode cX4_isVisible 22 = .ok (.iadd, 1) := dk_96 (dk_at dksX4_isVisible_0 22 rfl rfl)
theorem dX4_isVisible_23 : decode cX4_isVisible 23 = .ok (.iconst 1, 1) := dk_4 (dk_at dksX4_isVisible_0 23 rfl rfl)
theorem dX4_isVisible_24 : decode cX4_isVisible 24 = .ok (.isub, 1) := dk_100 (dk_at dksX4_isVisible_1 0 rfl rfl)
theorem dX4_isVisible_25 : decode cX4_isVisible 25 = .ok (.i2l, 1) := dk_133 (dk_at dksX4_isVisible_1 1 rfl rfl)
theorem dX4_isVisible_26 : decode cX4_isVisible 26 = .ok (.invokestatic 51, 3) := dk_184 0 51 (dk_at dksX4_isVisible_1 2 rfl rfl)
theorem dX4_isVisible_29 : decode cX4_isVisible 29 = .ok (.ifCond .eq 40, 3) := dk_153 0 40 (dk_at dksX4_isVisible_1 5 rfl rfl)
theorem dX4_isVisible_32 : decode cX4_isVisible 32 = .ok (.aload_n 0, 1) := dk_42 (dk_at dksX4_isVisible_1 8 rfl rfl)
theorem dX4_isVisible_33 : decode cX4_isVisible 33 = .ok (.getfield 7, 3) := dk_180 0 7 (dk_at dksX4_isVisible_1 9 rfl rfl)
theorem dX4_isVisible_36 : decode cX4_isVisible 36 = .ok (.bipush 20, 2) := dk_16 20 (dk_at dksX4_isVisible_1 12 rfl rfl)
theorem dX4_isVisible_38 : decode cX4_isVisible 38 = .ok (.iload_n 1, 1) := dk_27 (dk_at dksX4_isVisible_1 14 rfl rfl)
theorem dX4_isVisible_39 : decode cX4_isVisible 39 = .ok (.iadd, 1) := dk_96 (dk_at dksX4_isVisible_1 15 rfl rfl)
theorem dX4_isVisible_40 : decode cX4_isVisible 40 = .ok (.iaload, 1) := dk_46 (dk_at dksX4_isVisible_1 16 rfl rfl)
theorem dX4_isVisible_41 : decode cX4_isVisible 41 = .ok (.i2l, 1) := dk_133 (dk_at dksX4_isVisible_1 17 rfl rfl)
theorem dX4_isVisible_42 : decode cX4_isVisible 42 = .ok (.aload_n 0, 1) := dk_42 (dk_at dksX4_isVisible_1 18 rfl rfl)
theorem dX4_isVisible_43 : decode cX4_isVisible 43 = .ok (.getfield 58, 3) := dk_180 0 58 (dk_at dksX4_isVisible_1 19 rfl rfl)
theorem dX4_isVisible_46 : decode cX4_isVisible 46 = .ok (.i2l, 1) := dk_133 (dk_at dksX4_isVisible_1 22 rfl rfl)
theorem dX4_isVisible_47 : decode cX4_isVisible 47 = .ok (.aload_n 0, 1) := dk_42 (dk_at dksX4_isVisible_1 23 rfl rfl)
theorem dX4_isVisible_48 : decode cX4_isVisible 48 = .ok (.getfield 58, 3) := dk_180 0 58 (dk_at dksX4_isVisible_2 0 rfl rfl)
theorem dX4_isVisible_51 : decode cX4_isVisible 51 = .ok (.aload_n 0, 1) := dk_42 (dk_at dksX4_isVisible_2 3 rfl rfl)
theorem dX4_isVisible_52 : decode cX4_isVisible 52 = .ok (.getfield 17, 3) := dk_180 0 17 (dk_at dksX4_isVisible_2 4 rfl rfl)
theorem dX4_isVisible_55 : decode cX4_isVisible 55 = .ok (.iadd, 1) := dk_96 (dk_at dksX4_isVisible_2 7 rfl rfl)
theorem dX4_isVisible_56 : decode cX4_isVisible 56 = .ok (.iconst 1, 1) := dk_4 (dk_at dksX4_isVisible_2 8 rfl rfl)
theorem dX4_isVisible_57 : decode cX4_isVisible 57 = .ok (.isub, 1) := dk_100 (dk_at dksX4_isVisible_2 9 rfl rfl)
theorem dX4_isVisible_58 : decode cX4_isVisible 58 = .ok (.i2l, 1) := dk_133 (dk_at dksX4_isVisible_2 10 rfl rfl)
theorem dX4_isVisible_59 : decode cX4_isVisible 59 = .ok (.invokestatic 51, 3) := dk_184 0 51 (dk_at dksX4_isVisible_2 11 rfl rfl)
theorem dX4_isVisible_62 : decode cX4_isVisible 62 = .ok (.ifCond .eq 7, 3) := dk_153 0 7 (dk_at dksX4_isVisible_2 14 rfl rfl)
theorem dX4_isVisible_65 : decode cX4_isVisible 65 = .ok (.iconst 1, 1) := dk_4 (dk_at dksX4_isVisible_2 17 rfl rfl)
theorem dX4_isVisible_66 : decode cX4_isVisible 66 = .ok (.goto 4, 3) := dk_167 0 4 (dk_at dksX4_isVisible_2 18 rfl rfl)
theorem dX4_isVisible_69 : decode cX4_isVisible 69 = .ok (.iconst 0, 1) := dk_3 (dk_at dksX4_isVisible_2 21 rfl rfl)
theorem dX4_isVisible_70 : decode cX4_isVisible 70 = .ok (.ireturn, 1) := dk_172 (dk_at dksX4_isVisible_2 22 rfl rfl)
abbrev cX4_covers : ByteArray := prog_17_method_7_code
def yX4_covers : MethodName := ⟨RX4, "covers", "(IIII)Z"⟩
def dkwX4_covers_3 : List UInt8 := [167, 0, 4, 3, 172]
abbrev dktX4_covers_3 : List UInt8 := dkwX4_covers_3 ++ []
def dkwX4_covers_2 : List UInt8 := [21, 6, 42, 180, 0, 7, 16, 60, 27, 96, 46, 96, 4, 100, 133, 184, 0, 51, 153, 0, 7, 4]
abbrev dktX4_covers_2 : List UInt8 := dkwX4_covers_2 ++ dktX4_covers_3
def dkwX4_covers_1 : List UInt8 := [180, 0, 7, 16, 40, 27, 96, 46, 96, 4, 100, 133, 184, 0, 51, 153, 0, 34, 21, 4, 133, 21, 6, 133]
abbrev dktX4_covers_1 : List UInt8 := dkwX4_covers_1 ++ dktX4_covers_2
def dkwX4_covers_0 : List UInt8 := [42, 27, 28, 182, 0, 61, 54, 5, 42, 27, 28, 182, 0, 65, 54, 6, 29, 133, 21, 5, 133, 21, 5, 42]
abbrev dktX4_covers_0 : List UInt8 := dkwX4_covers_0 ++ dktX4_covers_1
theorem dksX4_covers_0 : cX4_covers.data.toList.drop 0 = dktX4_covers_0 := by decide +kernel
theorem dksX4_covers_1 : cX4_covers.data.toList.drop 24 = dktX4_covers_1 := dk_seg dksX4_covers_0 24 rfl rfl
theorem dksX4_covers_2 : cX4_covers.data.toList.drop 48 = dktX4_covers_2 := dk_seg dksX4_covers_1 24 rfl rfl
theorem dksX4_covers_3 : cX4_covers.data.toList.drop 70 = dktX4_covers_3 := dk_seg dksX4_covers_2 22 rfl rfl
theorem dX4_covers_0 : decode cX4_covers 0 = .ok (.aload_n 0, 1) := dk_42 (dk_at dksX4_covers_0 0 rfl rfl)
theorem dX4_covers_1 : decode cX4_covers 1 = .ok (.iload_n 1, 1) := dk_27 (dk_at dksX4_covers_0 1 rfl rfl)
theorem dX4_covers_2 : decode cX4_covers 2 = .ok (.iload_n 2, 1) := dk_28 (dk_at dksX4_covers_0 2 rfl rfl)
theorem dX4_covers_3 : decode cX4_covers 3 = .ok (.invokevirtual 61, 3) := dk_182 0 61 (dk_at dksX4_covers_0 3 rfl rfl)
theorem dX4_covers_6 : decode cX4_covers 6 = .ok (.istore 5, 2) := dk_54 5 (dk_at dksX4_covers_0 6 rfl rfl)
theorem dX4_covers_8 : decode cX4_covers 8 = .ok (.aload_n 0, 1) := dk_42 (dk_at dksX4_covers_0 8 rfl rfl)
theorem dX4_covers_9 : decode cX4_covers 9 = .ok (.iload_n 1, 1) := dk_27 (dk_at dksX4_covers_0 9 rfl rfl)
theorem dX4_covers_10 : decode cX4_covers 10 = .ok (.iload_n 2, 1) := dk_28 (dk_at dksX4_covers_0 10 rfl rfl)
theorem dX4_covers_11 : decode cX4_covers 11 = .ok (.invokevirtual 65, 3) := dk_182 0 65 (dk_at dksX4_covers_0 11 rfl rfl)
theorem dX4_covers_14 : decode cX4_covers 14 = .ok (.istore 6, 2) := dk_54 6 (dk_at dksX4_covers_0 14 rfl rfl)
theorem dX4_covers_16 : decode cX4_covers 16 = .ok (.iload_n 3, 1) := dk_29 (dk_at dksX4_covers_0 16 rfl rfl)
theorem dX4_covers_17 : decode cX4_covers 17 = .ok (.i2l, 1) := dk_133 (dk_at dksX4_covers_0 17 rfl rfl)
theorem dX4_covers_18 : decode cX4_covers 18 = .ok (.iload 5, 2) := dk_21 5 (dk_at dksX4_covers_0 18 rfl rfl)
theorem dX4_covers_20 : decode cX4_covers 20 = .ok (.i2l, 1) := dk_133 (dk_at dksX4_covers_0 20 rfl rfl)
theorem dX4_covers_21 : decode cX4_covers 21 = .ok (.iload 5, 2) := dk_21 5 (dk_at dksX4_covers_0 21 rfl rfl)
theorem dX4_covers_23 : decode cX4_covers 23 = .ok (.aload_n 0, 1) := dk_42 (dk_at dksX4_covers_0 23 rfl rfl)
theorem dX4_covers_24 : decode cX4_covers 24 = .ok (.getfield 7, 3) := dk_180 0 7 (dk_at dksX4_covers_1 0 rfl rfl)
theorem dX4_covers_27 : decode cX4_covers 27 = .ok (.bipush 40, 2) := dk_16 40 (dk_at dksX4_covers_1 3 rfl rfl)
theorem dX4_covers_29 : decode cX4_covers 29 = .ok (.iload_n 1, 1) := dk_27 (dk_at dksX4_covers_1 5 rfl rfl)
theorem dX4_covers_30 : decode cX4_covers 30 = .ok (.iadd, 1) := dk_96 (dk_at dksX4_covers_1 6 rfl rfl)
theorem dX4_covers_31 : decode cX4_covers 31 = .ok (.iaload, 1) := dk_46 (dk_at dksX4_covers_1 7 rfl rfl)
theorem dX4_covers_32 : decode cX4_covers 32 = .ok (.iadd, 1) := dk_96 (dk_at dksX4_covers_1 8 rfl rfl)
theorem dX4_covers_33 : decode cX4_covers 33 = .ok (.iconst 1, 1) := dk_4 (dk_at dksX4_covers_1 9 rfl rfl)
theorem dX4_covers_34 : decode cX4_covers 34 = .ok (.isub, 1) := dk_100 (dk_at dksX4_covers_1 10 rfl rfl)
theorem dX4_covers_35 : decode cX4_covers 35 = .ok (.i2l, 1) := dk_133 (dk_at dksX4_covers_1 11 rfl rfl)
theorem dX4_covers_36 : decode cX4_covers 36 = .ok (.invokestatic 51, 3) := dk_184 0 51 (dk_at dksX4_covers_1 12 rfl rfl)
theorem dX4_covers_39 : decode cX4_covers 39 = .ok (.ifCond .eq 34, 3) := dk_153 0 34 (dk_at dksX4_covers_1 15 rfl rfl)
theorem dX4_covers_42 : decode cX4_covers 42 = .ok (.iload 4, 2) := dk_21 4 (dk_at dksX4_covers_1 18 rfl rfl)
theorem dX4_covers_44 : decode cX4_covers 44 = .ok (.i2l, 1) := dk_133 (dk_at dksX4_covers_1 20 rfl rfl)
theorem dX4_covers_45 : decode cX4_covers 45 = .ok (.iload 6, 2) := dk_21 6 (dk_at dksX4_covers_1 21 rfl rfl)
theorem dX4_covers_47 : decode cX4_covers 47 = .ok (.i2l, 1) := dk_133 (dk_at dksX4_covers_1 23 rfl rfl)
theorem dX4_covers_48 : decode cX4_covers 48 = .ok (.iload 6, 2) := dk_21 6 (dk_at dksX4_covers_2 0 rfl rfl)
theorem dX4_covers_50 : decode cX4_covers 50 = .ok (.aload_n 0, 1) := dk_42 (dk_at dksX4_covers_2 2 rfl rfl)
theorem dX4_covers_51 : decode cX4_covers 51 = .ok (.getfield 7, 3) := dk_180 0 7 (dk_at dksX4_covers_2 3 rfl rfl)
theorem dX4_covers_54 : decode cX4_covers 54 = .ok (.bipush 60, 2) := dk_16 60 (dk_at dksX4_covers_2 6 rfl rfl)
theorem dX4_covers_56 : decode cX4_covers 56 = .ok (.iload_n 1, 1) := dk_27 (dk_at dksX4_covers_2 8 rfl rfl)
theorem dX4_covers_57 : decode cX4_covers 57 = .ok (.iadd, 1) := dk_96 (dk_at dksX4_covers_2 9 rfl rfl)
theorem dX4_covers_58 : decode cX4_covers 58 = .ok (.iaload, 1) := dk_46 (dk_at dksX4_covers_2 10 rfl rfl)
theorem dX4_covers_59 : decode cX4_covers 59 = .ok (.iadd, 1) := dk_96 (dk_at dksX4_covers_2 11 rfl rfl)
theorem dX4_covers_60 : decode cX4_covers 60 = .ok (.iconst 1, 1) := dk_4 (dk_at dksX4_covers_2 12 rfl rfl)
theorem dX4_covers_61 : decode cX4_covers 61 = .ok (.isub, 1) := dk_100 (dk_at dksX4_covers_2 13 rfl rfl)
theorem dX4_covers_62 : decode cX4_covers 62 = .ok (.i2l, 1) := dk_133 (dk_at dksX4_covers_2 14 rfl rfl)
theorem dX4_covers_63 : decode cX4_covers 63 = .ok (.invokestatic 51, 3) := dk_184 0 51 (dk_at dksX4_covers_2 15 rfl rfl)
theorem dX4_covers_66 : decode cX4_covers 66 = .ok (.ifCond .eq 7, 3) := dk_153 0 7 (dk_at dksX4_covers_2 18 rfl rfl)
theorem dX4_covers_69 : decode cX4_covers 69 = .ok (.iconst 1, 1) := dk_4 (dk_at dksX4_covers_2 21 rfl rfl)
theorem dX4_covers_70 : decode cX4_covers 70 = .ok (.goto 4, 3) := dk_167 0 4 (dk_at dksX4_covers_3 0 rfl rfl)
theorem dX4_covers_73 : decode cX4_covers 73 = .ok (.iconst 0, 1) := dk_3 (dk_at dksX4_covers_3 3 rfl rfl)
theorem dX4_covers_74 : decode cX4_covers 74 = .ok (.ireturn, 1) := dk_172 (dk_at dksX4_covers_3 4 rfl rfl)
abbrev cX4_removePoint : ByteArray := prog_17_method_19_code
def yX4_removePoint : MethodName := ⟨RX4, "removePoint", "(I)I"⟩
def dkwX4_removePoint_3 : List UInt8 := [182, 0, 102, 42, 180, 0, 48, 172]
abbrev dktX4_removePoint_3 : List UInt8 := dkwX4_removePoint_3 ++ []
def dkwX4_removePoint_2 : List UInt8 := [180, 0, 7, 28, 29, 96, 4, 96, 46, 79, 132, 3, 1, 167, 255, 227, 132, 2, 20, 167, 255, 212, 42]
abbrev dktX4_removePoint_2 : List UInt8 := dkwX4_removePoint_2 ++ dktX4_removePoint_3
def dkwX4_removePoint_1 : List UInt8 := [17, 0, 140, 162, 0, 43, 27, 62, 29, 42, 180, 0, 48, 162, 0, 27, 42, 180, 0, 7, 28, 29, 96, 42]
abbrev dktX4_removePoint_1 : List UInt8 := dkwX4_removePoint_1 ++ dktX4_removePoint_2
def dkwX4_removePoint_0 : List UInt8 := [42, 27, 182, 0, 105, 154, 0, 6, 16, 254, 172, 42, 89, 180, 0, 48, 4, 100, 181, 0, 48, 3, 61, 28]
abbrev dktX4_removePoint_0 : List UInt8 := dkwX4_removePoint_0 ++ dktX4_removePoint_1
theorem dksX4_removePoint_0 : cX4_removePoint.data.toList.drop 0 = dktX4_removePoint_0 := by decide +kernel
theorem dksX4_removePoint_1 : cX4_removePoint.data.toList.drop 24 = dktX4_removePoint_1 := dk_seg dksX4_removePoint_0 24 rfl rfl
theorem dksX4_removePoint_2 : cX4_removePoint.data.toList.drop 48 = dktX4_removePoint_2 := dk_seg dksX4_removePoint_1 24 rfl rfl
theorem dksX4_removePoint_3 : cX4_removePoint.data.toList.drop 71 = dktX4_removePoint_3 := dk_seg dksX4_removePoint_2 23 rfl rfl
theorem dX4_removePoint_0 : decode cX4_removePoint 0 = .ok (.aload_n 0, 1) := dk_42 (dk_at dksX4_removePoint_0 0 rfl rfl)
theorem dX4_removePoint_1 : decode cX4_removePoint 1 = .ok (.iload_n 1, 1) := dk_27 (dk_at dksX4_removePoint_0 1 rfl rfl)
theorem dX4_removePoint_2 : decode cX4_removePoint 2 = .ok (.invokevirtual 105, 3) := dk_182 0 105 (dk_at dksX4_removePoint_0 2 rfl rfl)
theorem dX4_removePoint_5 : decode cX4_removePoint 5 = .ok (.ifCond .ne 6, 3) := dk_154 0 6 (dk_at dksX4_removePoint_0 5 rfl rfl)
theorem dX4_removePoint_8 : decode cX4_removePoint 8 = .ok (.bipush (-2), 2) := dk_16 254 (dk_at dksX4_removePoint_0 8 rfl rfl)
theorem dX4_removePoint_10 : decode cX4_removePoint 10 = .ok (.ireturn, 1) := dk_172 (dk_at dksX4_removePoint_0 10 rfl rfl)
theorem dX4_removePoint_11 : decode cX4_removePoint 11 = .ok (.aload_n 0, 1) := dk_42 (dk_at dksX4_removePoint_0 11 rfl rfl)
theorem dX4_removePoint_12 : decode cX4_removePoint 12 = .ok (.dup, 1) := dk_89 (dk_at dksX4_removePoint_0 12 rfl rfl)
theorem dX4_removePoint_13 : decode cX4_removePoint 13 = .ok (.getfield 48, 3) := dk_180 0 48 (dk_at dksX4_removePoint_0 13 rfl rfl)
theorem dX4_removePoint_16 : decode cX4_removePoint 16 = .ok (.iconst 1, 1) := dk_4 (dk_at dksX4_removePoint_0 16 rfl rfl)
theorem dX4_removePoint_17 : decode cX4_removePoint 17 = .ok (.isub, 1) := dk_100 (dk_at dksX4_removePoint_0 17 rfl rfl)
theorem dX4_removePoint_18 : decode cX4_removePoint 18 = .ok (.putfield 48, 3) := dk_181 0 48 (dk_at dksX4_removePoint_0 18 rfl rfl)
theorem dX4_removePoint_21 : decode cX4_removePoint 21 = .ok (.iconst 0, 1) := dk_3 (dk_at dksX4_removePoint_0 21 rfl rfl)
theorem dX4_removePoint_22 : decode cX4_removePoint 22 = .ok (.istore_n 2, 1) := dk_61 (dk_at dksX4_removePoint_0 22 rfl rfl)
theorem dX4_removePoint_23 : decode cX4_removePoint 23 = .ok (.iload_n 2, 1) := dk_28 (dk_at dksX4_removePoint_0 23 rfl rfl)
theorem dX4_removePoint_24 : decode cX4_removePoint 24 = .ok (.sipush 140, 3) := dk_17 0 140 (dk_at dksX4_removePoint_1 0 rfl rfl)
theorem dX4_removePoint_27 : decode cX4_removePoint 27 = .ok (.if_icmp .ge 43, 3) := dk_162 0 43 (dk_at dksX4_removePoint_1 3 rfl rfl)
theorem dX4_removePoint_30 : decode cX4_removePoint 30 = .ok (.iload_n 1, 1) := dk_27 (dk_at dksX4_removePoint_1 6 rfl rfl)
theorem dX4_removePoint_31 : decode cX4_removePoint 31 = .ok (.istore_n 3, 1) := dk_62 (dk_at dksX4_removePoint_1 7 rfl rfl)
theorem dX4_removePoint_32 : decode cX4_removePoint 32 = .ok (.iload_n 3, 1) := dk_29 (dk_at dksX4_removePoint_1 8 rfl rfl)
theorem dX4_removePoint_33 : decode cX4_removePoint 33 = .ok (.aload_n 0, 1) := dk_42 (dk_at dksX4_removePoint_1 9 rfl rfl)
theorem dX4_removePoint_34 : decode cX4_removePoint 34 = .ok (.getfield 48, 3) := dk_180 0 48 (dk_at dksX4_removePoint_1 10 rfl rfl)
theorem dX4_removePoint_37 : decode cX4_removePoint 37 = .ok (.if_icmp .ge 27, 3) := dk_162 0 27 (dk_at dksX4_removePoint_1 13 rfl rfl)
theorem dX4_removePoint_40 : decode cX4_removePoint 40 = .ok (.aload_n 0, 1) := dk_42 (dk_at dksX4_removePoint_1 16 rfl rfl)
theorem dX4_removePoint_41 : decode cX4_removePoint 41 = .ok (.getfield 7, 3) := dk_180 0 7 (dk_at dksX4_removePoint_1 17 rfl rfl)
theorem dX4_removePoint_44 : decode cX4_removePoint 44 = .ok (.iload_n 2, 1) := dk_28 (dk_at dksX4_removePoint_1 20 rfl rfl)
theorem dX4_removePoint_45 : decode cX4_removePoint 45 = .ok (.iload_n 3, 1) := dk_29 (dk_at dksX4_removePoint_1 21 rfl rfl)
theorem dX4_removePoint_46 : decode cX4_removePoint 46 = .ok (.iadd, 1) := dk_96 (dk_at dksX4_removePoint_1 22 rfl rfl)
theorem dX4_removePoint_47 : decode cX4_removePoint 47 = .ok (.aload_n 0, 1) := dk_42 (dk_at dksX4_removePoint_1 23 rfl rfl)
theorem dX4_removePoint_48 : decode cX4_removePoint 48 = .ok (.getfield 7, 3) := dk_180 0 7 (dk_at dksX4_removePoint_2 0 rfl rfl)
theorem dX4_removePoint_51 : decode cX4_removePoint 51 = .ok (.iload_n 2, 1) := dk_28 (dk_at dksX4_removePoint_2 3 rfl rfl)
theorem dX4_removePoint_52 : decode cX4_removePoint 52 = .ok (.iload_n 3, 1) := dk_29 (dk_at dksX4_removePoint_2 4 rfl rfl)
theorem dX4_removePoint_53 : decode cX4_removePoint 53 = .ok (.iadd, 1) := dk_96 (dk_at dksX4_removePoint_2 5 rfl rfl)
theorem dX4_removePoint_54 : decode cX4_removePoint 54 = .ok (.iconst 1, 1) := dk_4 (dk_at dksX4_removePoint_2 6 rfl rfl)
theorem dX4_removePoint_55 : decode cX4_removePoint 55 = .ok (.iadd, 1) := dk_96 (dk_at dksX4_removePoint_2 7 rfl rfl)
theorem dX4_removePoint_56 : decode cX4_removePoint 56 = .ok (.iaload, 1) := dk_46 (dk_at dksX4_removePoint_2 8 rfl rfl)
theorem dX4_removePoint_57 : decode cX4_removePoint 57 = .ok (.iastore, 1) := dk_79 (dk_at dksX4_removePoint_2 9 rfl rfl)
theorem dX4_removePoint_58 : decode cX4_removePoint 58 = .ok (.iinc 3 1, 3) := dk_132 3 1 (dk_at dksX4_removePoint_2 10 rfl rfl)
theorem dX4_removePoint_61 : decode cX4_removePoint 61 = .ok (.goto (-29), 3) := dk_167 255 227 (dk_at dksX4_removePoint_2 13 rfl rfl)
theorem dX4_removePoint_64 : decode cX4_removePoint 64 = .ok (.iinc 2 20, 3) := dk_132 2 20 (dk_at dksX4_removePoint_2 16 rfl rfl)
theorem dX4_removePoint_67 : decode cX4_removePoint 67 = .ok (.goto (-44), 3) := dk_167 255 212 (dk_at dksX4_removePoint_2 19 rfl rfl)
theorem dX4_removePoint_70 : decode cX4_removePoint 70 = .ok (.aload_n 0, 1) := dk_42 (dk_at dksX4_removePoint_2 22 rfl rfl)
theorem dX4_removePoint_71 : decode cX4_removePoint 71 = .ok (.invokevirtual 102, 3) := dk_182 0 102 (dk_at dksX4_removePoint_3 0 rfl rfl)
theorem dX4_removePoint_74 : decode cX4_removePoint 74 = .ok (.aload_n 0, 1) := dk_42 (dk_at dksX4_removePoint_3 3 rfl rfl)
theorem dX4_removePoint_75 : decode cX4_removePoint 75 = .ok (.getfield 48, 3) := dk_180 0 48 (dk_at dksX4_removePoint_3 4 rfl rfl)
theorem dX4_removePoint_78 : decode cX4_removePoint 78 = .ok (.ireturn, 1) := dk_172 (dk_at dksX4_removePoint_3 7 rfl rfl)
abbrev cX4_isPoint : ByteArray := prog_17_method_3_code
def yX4_isPoint : MethodName := ⟨RX4, "isPoint", "(I)Z"⟩
def dkwX4_isPoint_0 : List UInt8 := [27, 133, 9, 42, 180, 0, 48, 4, 100, 133, 184, 0, 51, 172]
abbrev dktX4_isPoint_0 : List UInt8 := dkwX4_isPoint_0 ++ []
theorem dksX4_isPoint_0 : cX4_isPoint.data.toList.drop 0 = dktX4_isPoint_0 := by decide +kernel
theorem dX4_isPoint_0 : decode cX4_isPoint 0 = .ok (.iload_n 1, 1) := dk_27 (dk_at dksX4_isPoint_0 0 rfl rfl)
theorem dX4_isPoint_1 : decode cX4_isPoint 1 = .ok (.i2l, 1) := dk_133 (dk_at dksX4_isPoint_0 1 rfl rfl)
theorem dX4_isPoint_2 : decode cX4_isPoint 2 = .ok (.lconst 0, 1) := dk_9 (dk_at dksX4_isPoint_0 2 rfl rfl)
theorem dX4_isPoint_3 : decode cX4_isPoint 3 = .ok (.aload_n 0, 1) := dk_42 (dk_at dksX4_isPoint_0 3 rfl rfl)
theorem dX4_isPoint_4 : decode cX4_isPoint 4 = .ok (.getfield 48, 3) := dk_180 0 48 (dk_at dksX4_isPoint_0 4 rfl rfl)
theorem dX4_isPoint_7 : decode cX4_isPoint 7 = .ok (.iconst 1, 1) := dk_4 (dk_at dksX4_isPoint_0 7 rfl rfl)
theorem dX4_isPoint_8 : decode cX4_isPoint 8 = .ok (.isub, 1) := dk_100 (dk_at dksX4_isPoint_0 8 rfl rfl)
theorem dX4_isPoint_9 : decode cX4_isPoint 9 = .ok (.i2l, 1) := dk_133 (dk_at dksX4_isPoint_0 9 rfl rfl)
theorem dX4_isPoint_10 : decode cX4_isPoint 10 = .ok (.invokestatic 51, 3) := dk_184 0 51 (dk_at dksX4_isPoint_0 10 rfl rfl)
theorem dX4_isPoint_13 : decode cX4_isPoint 13 = .ok (.ireturn, 1) := dk_172 (dk_at dksX4_isPoint_0 13 rfl rfl)
abbrev cX4_setPoint : ByteArray := prog_17_method_20_code
def yX4_setPoint : MethodName := ⟨RX4, "setPoint", "(III)I"⟩
def dkwX4_setPoint_3 : List UInt8 := [27, 96, 46, 2, 182, 0, 108, 158, 0, 13, 42, 180, 0, 7, 16, 120, 27, 96, 2, 79, 21, 4, 172]
abbrev dktX4_setPoint_3 : List UInt8 := dkwX4_setPoint_3 ++ []
def dkwX4_setPoint_2 : List UInt8 := [182, 0, 102, 42, 180, 0, 7, 16, 120, 27, 96, 46, 2, 159, 0, 31, 42, 27, 42, 180, 0, 7, 16, 120]
abbrev dktX4_setPoint_2 : List UInt8 := dkwX4_setPoint_2 ++ dktX4_setPoint_3
def dkwX4_setPoint_1 : List UInt8 := [16, 20, 28, 104, 27, 96, 46, 54, 4, 42, 180, 0, 7, 16, 20, 28, 104, 27, 96, 29, 79, 42]
abbrev dktX4_setPoint_1 : List UInt8 := dkwX4_setPoint_1 ++ dktX4_setPoint_2
def dkwX4_setPoint_0 : List UInt8 := [42, 27, 182, 0, 105, 153, 0, 11, 28, 29, 184, 0, 96, 154, 0, 6, 16, 254, 172, 42, 180, 0, 7]
abbrev dktX4_setPoint_0 : List UInt8 := dkwX4_setPoint_0 ++ dktX4_setPoint_1
theorem dksX4_setPoint_0 : cX4_setPoint.data.toList.drop 0 = dktX4_setPoint_0 := by decide +kernel
theorem dksX4_setPoint_1 : cX4_setPoint.data.toList.drop 23 = dktX4_setPoint_1 := dk_seg dksX4_setPoint_0 23 rfl rfl
theorem dksX4_setPoint_2 : cX4_setPoint.data.toList.drop 45 = dktX4_setPoint_2 := dk_seg dksX4_setPoint_1 22 rfl rfl
theorem dksX4_setPoint_3 : cX4_setPoint.data.toList.drop 69 = dktX4_setPoint_3 := dk_seg dksX4_setPoint_2 24 rfl rfl
theorem dX4_setPoint_0 : decode cX4_setPoint 0 = .ok (.aload_n 0, 1) := dk_42 (dk_at dksX4_setPoint_0 0 rfl rfl)
theorem dX4_setPoint_1 : decode cX4_setPoint 1 = .ok (.iload_n 1, 1) := dk_27 (dk_at dksX4_setPoint_0 1 rfl rfl)
theorem dX4_setPoint_2 : decode cX4_setPoint 2 = .ok (.invokevirtual 105, 3) := dk_182 0 105 (dk_at dksX4_setPoint_0 2 rfl rfl)
theorem dX4_setPoint_5 : decode cX4_setPoint 5 = .ok (.ifCond .eq 11, 3) := dk_153 0 11 (dk_at dksX4_setPoint_0 5 rfl rfl)
theorem dX4_setPoint_8 : decode cX4_setPoint 8 = .ok (.iload_n 2, 1) := dk_28 (dk_at dksX4_setPoint_0 8 rfl rfl)
theorem dX4_setPoint_9 : decode cX4_setPoint 9 = .ok (.iload_n 3, 1) := dk_29 (dk_at dksX4_setPoint_0 9 rfl rfl)
theorem dX4_setPoint_10 : decode cX4_setPoint 10 = .ok (.invokestatic 96, 3) := dk_184 0 96 (dk_at dksX4_setPoint_0 10 rfl rfl)
theorem dX4_setPoint_13 : decode cX4_setPoint 13 = .ok (.ifCond .ne 6, 3) := dk_154 0 6 (dk_at dksX4_setPoint_0 13 rfl rfl)
theorem dX4_setPoint_16 : decode cX4_setPoint 16 = .ok (.bipush (-2), 2) := dk_16 254 (dk_at dksX4_setPoint_0 16 rfl rfl)
theorem dX4_setPoint_18 : decode cX4_setPoint 18 = .ok (.ireturn, 1) := dk_172 (dk_at dksX4_setPoint_0 18 rfl rfl)
theorem dX4_setPoint_19 : decode cX4_setPoint 19 = .ok (.aload_n 0, 1) := dk_42 (dk_at dksX4_setPoint_0 19 rfl rfl)
theorem dX4_setPoint_20 : decode cX4_setPoint 20 = .ok (.getfield 7, 3) := dk_180 0 7 (dk_at dksX4_setPoint_0 20 rfl rfl)
theorem dX4_setPoint_23 : decode cX4_setPoint 23 = .ok (.bipush 20, 2) := dk_16 20 (dk_at dksX4_setPoint_1 0 rfl rfl)
theorem dX4_setPoint_25 : decode cX4_setPoint 25 = .ok (.iload_n 2, 1) := dk_28 (dk_at dksX4_setPoint_1 2 rfl rfl)
theorem dX4_setPoint_26 : decode cX4_setPoint 26 = .ok (.imul, 1) := dk_104 (dk_at dksX4_setPoint_1 3 rfl rfl)
theorem dX4_setPoint_27 : decode cX4_setPoint 27 = .ok (.iload_n 1, 1) := dk_27 (dk_at dksX4_setPoint_1 4 rfl rfl)
theorem dX4_setPoint_28 : decode cX4_setPoint 28 = .ok (.iadd, 1) := dk_96 (dk_at dksX4_setPoint_1 5 rfl rfl)
theorem dX4_setPoint_29 : decode cX4_setPoint 29 = .ok (.iaload, 1) := dk_46 (dk_at dksX4_setPoint_1 6 rfl rfl)
theorem dX4_setPoint_30 : decode cX4_setPoint 30 = .ok (.istore 4, 2) := dk_54 4 (dk_at dksX4_setPoint_1 7 rfl rfl)
theorem dX4_setPoint_32 : decode cX4_setPoint 32 = .ok (.aload_n 0, 1) := dk_42 (dk_at dksX4_setPoint_1 9 rfl rfl)
theorem dX4_setPoint_33 : decode cX4_setPoint 33 = .ok (.getfield 7, 3) := dk_180 0 7 (dk_at dksX4_setPoint_1 10 rfl rfl)
theorem dX4_setPoint_36 : decode cX4_setPoint 36 = .ok (.bipush 20, 2) := dk_16 20 (dk_at dksX4_setPoint_1 13 rfl rfl)
theorem dX4_setPoint_38 : decode cX4_setPoint 38 = .ok (.iload_n 2, 1) := dk_28 (dk_at dksX4_setPoint_1 15 rfl rfl)
theorem dX4_setPoint_39 : decode cX4_setPoint 39 = .ok (.imul, 1) := dk_104 (dk_at dksX4_setPoint_1 16 rfl rfl)
theorem dX4_setPoint_40 : decode cX4_setPoint 40 = .ok (.iload_n 1, 1) := dk_27 (dk_at dksX4_setPoint_1 17 rfl rfl)
theorem dX4_setPoint_41 : decode cX4_setPoint 41 = .ok (.iadd, 1) := dk_96 (dk_at dksX4_setPoint_1 18 rfl rfl)
theorem dX4_setPoint_42 : decode cX4_setPoint 42 = .ok (.iload_n 3, 1) := dk_29 (dk_at dksX4_setPoint_1 19 rfl rfl)
theorem dX4_setPoint_43 : decode cX4_setPoint 43 = .ok (.iastore, 1) := dk_79 (dk_at dksX4_setPoint_1 20 rfl rfl)
theorem dX4_setPoint_44 : decode cX4_setPoint 44 = .ok (.aload_n 0, 1) := dk_42 (dk_at dksX4_setPoint_1 21 rfl rfl)
theorem dX4_setPoint_45 : decode cX4_setPoint 45 = .ok (.invokevirtual 102, 3) := dk_182 0 102 (dk_at dksX4_setPoint_2 0 rfl rfl)
theorem dX4_setPoint_48 : decode cX4_setPoint 48 = .ok (.aload_n 0, 1) := dk_42 (dk_at dksX4_setPoint_2 3 rfl rfl)
theorem dX4_setPoint_49 : decode cX4_setPoint 49 = .ok (.getfield 7, 3) := dk_180 0 7 (dk_at dksX4_setPoint_2 4 rfl rfl)
theorem dX4_setPoint_52 : decode cX4_setPoint 52 = .ok (.bipush 120, 2) := dk_16 120 (dk_at dksX4_setPoint_2 7 rfl rfl)
theorem dX4_setPoint_54 : decode cX4_setPoint 54 = .ok (.iload_n 1, 1) := dk_27 (dk_at dksX4_setPoint_2 9 rfl rfl)
theorem dX4_setPoint_55 : decode cX4_setPoint 55 = .ok (.iadd, 1) := dk_96 (dk_at dksX4_setPoint_2 10 rfl rfl)
theorem dX4_setPoint_56 : decode cX4_setPoint 56 = .ok (.iaload, 1) := dk_46 (dk_at dksX4_setPoint_2 11 rfl rfl)
theorem dX4_setPoint_57 : decode cX4_setPoint 57 = .ok (.iconst (-1), 1) := dk_2 (dk_at dksX4_setPoint_2 12 rfl rfl)
theorem dX4_setPoint_58 : decode cX4_setPoint 58 = .ok (.if_icmp .eq 31, 3) := dk_159 0 31 (dk_at dksX4_setPoint_2 13 rfl rfl)
theorem dX4_setPoint_61 : decode cX4_setPoint 61 = .ok (.aload_n 0, 1) := dk_42 (dk_at dksX4_setPoint_2 16 rfl rfl)
theorem dX4_setPoint_62 : decode cX4_setPoint 62 = .ok (.iload_n 1, 1) := dk_27 (dk_at dksX4_setPoint_2 17 rfl rfl)
theorem dX4_setPoint_63 : decode cX4_setPoint 63 = .ok (.aload_n 0, 1) := dk_42 (dk_at dksX4_setPoint_2 18 rfl rfl)
theorem dX4_setPoint_64 : decode cX4_setPoint 64 = .ok (.getfield 7, 3) := dk_180 0 7 (dk_at dksX4_setPoint_2 19 rfl rfl)
theorem dX4_setPoint_67 : decode cX4_setPoint 67 = .ok (.bipush 120, 2) := dk_16 120 (dk_at dksX4_setPoint_2 22 rfl rfl)
theorem dX4_setPoint_69 : decode cX4_setPoint 69 = .ok (.iload_n 1, 1) := dk_27 (dk_at dksX4_setPoint_3 0 rfl rfl)
theorem dX4_setPoint_70 : decode cX4_setPoint 70 = .ok (.iadd, 1) := dk_96 (dk_at dksX4_setPoint_3 1 rfl rfl)
theorem dX4_setPoint_71 : decode cX4_setPoint 71 = .ok (.iaload, 1) := dk_46 (dk_at dksX4_setPoint_3 2 rfl rfl)
theorem dX4_setPoint_72 : decode cX4_setPoint 72 = .ok (.iconst (-1), 1) := dk_2 (dk_at dksX4_setPoint_3 3 rfl rfl)
theorem dX4_setPoint_73 : decode cX4_setPoint 73 = .ok (.invokevirtual 108, 3) := dk_182 0 108 (dk_at dksX4_setPoint_3 4 rfl rfl)
theorem dX4_setPoint_76 : decode cX4_setPoint 76 = .ok (.ifCond .le 13, 3) := dk_158 0 13 (dk_at dksX4_setPoint_3 7 rfl rfl)
theorem dX4_setPoint_79 : decode cX4_setPoint 79 = .ok (.aload_n 0, 1) := dk_42 (dk_at dksX4_setPoint_3 10 rfl rfl)
theorem dX4_setPoint_80 : decode cX4_setPoint 80 = .ok (.getfield 7, 3) := dk_180 0 7 (dk_at dksX4_setPoint_3 11 rfl rfl)
theorem dX4_setPoint_83 : decode cX4_setPoint 83 = .ok (.bipush 120, 2) := dk_16 120 (dk_at dksX4_setPoint_3 14 rfl rfl)
theorem dX4_setPoint_85 : decode cX4_setPoint 85 = .ok (.iload_n 1, 1) := dk_27 (dk_at dksX4_setPoint_3 16 rfl rfl)
theorem dX4_setPoint_86 : decode cX4_setPoint 86 = .ok (.iadd, 1) := dk_96 (dk_at dksX4_setPoint_3 17 rfl rfl)
theorem dX4_setPoint_87 : decode cX4_setPoint 87 = .ok (.iconst (-1), 1) := dk_2 (dk_at dksX4_setPoint_3 18 rfl rfl)
theorem dX4_setPoint_88 : decode cX4_setPoint 88 = .ok (.iastore, 1) := dk_79 (dk_at dksX4_setPoint_3 19 rfl rfl)
theorem dX4_setPoint_89 : decode cX4_setPoint 89 = .ok (.iload 4, 2) := dk_21 4 (dk_at dksX4_setPoint_3 20 rfl rfl)
theorem dX4_setPoint_91 : decode cX4_setPoint 91 = .ok (.ireturn, 1) := dk_172 (dk_at dksX4_setPoint_3 22 rfl rfl)
abbrev cX4_clashes : ByteArray := prog_17_method_11_code
def yX4_clashes : MethodName := ⟨RX4, "clashes", "(III)I"⟩
def dkwX4_clashes_3 : List UInt8 := [54, 4, 132, 5, 1, 167, 255, 187, 21, 4, 172]
abbrev dktX4_clashes_3 : List UInt8 := dkwX4_clashes_3 ++ []
def dkwX4_clashes_2 : List UInt8 := [21, 5, 42, 180, 0, 7, 16, 120, 21, 5, 96, 46, 182, 0, 80, 153, 0, 7, 4, 167, 0, 4, 3, 96]
abbrev dktX4_clashes_2 : List UInt8 := dkwX4_clashes_2 ++ dktX4_clashes_3
def dkwX4_clashes_1 : List UInt8 := [21, 5, 29, 159, 0, 42, 42, 180, 0, 7, 16, 120, 21, 5, 96, 46, 2, 159, 0, 28, 42, 27, 28]
abbrev dktX4_clashes_1 : List UInt8 := dkwX4_clashes_1 ++ dktX4_clashes_2
def dkwX4_clashes_0 : List UInt8 := [3, 54, 4, 3, 54, 5, 21, 5, 42, 180, 0, 48, 162, 0, 66, 21, 4, 21, 5, 27, 159, 0, 48]
abbrev dktX4_clashes_0 : List UInt8 := dkwX4_clashes_0 ++ dktX4_clashes_1
theorem dksX4_clashes_0 : cX4_clashes.data.toList.drop 0 = dktX4_clashes_0 := by decide +kernel
theorem dksX4_clashes_1 : cX4_clashes.data.toList.drop 23 = dktX4_clashes_1 := dk_seg dksX4_clashes_0 23 rfl rfl
theorem dksX4_clashes_2 : cX4_clashes.data.toList.drop 46 = dktX4_clashes_2 := dk_seg dksX4_clashes_1 23 rfl rfl
theorem dksX4_clashes_3 : cX4_clashes.data.toList.drop 70 = dktX4_clashes_3 := dk_seg dksX4_clashes_2 24 rfl rfl
theorem dX4_clashes_0 : decode cX4_clashes 0 = .ok (.iconst 0, 1) := dk_3 (dk_at dksX4_clashes_0 0 rfl rfl)
theorem dX4_clashes_1 : decode cX4_clashes 1 = .ok (.istore 4, 2) := dk_54 4 (dk_at dksX4_clashes_0 1 rfl rfl)
theorem dX4_clashes_3 : decode cX4_clashes 3 = .ok (.iconst 0, 1) := dk_3 (dk_at dksX4_clashes_0 3 rfl rfl)
theorem dX4_clashes_4 : decode cX4_clashes 4 = .ok (.istore 5, 2) := dk_54 5 (dk_at dksX4_clashes_0 4 rfl rfl)
theorem dX4_clashes_6 : decode cX4_clashes 6 = .ok (.iload 5, 2) := dk_21 5 (dk_at dksX4_clashes_0 6 rfl rfl)
theorem dX4_clashes_8 : decode cX4_clashes 8 = .ok (.aload_n 0, 1) := dk_42 (dk_at dksX4_clashes_0 8 rfl rfl)
theorem dX4_clashes_9 : decode cX4_clashes 9 = .ok (.getfield 48, 3) := dk_180 0 48 (dk_at dksX4_clashes_0 9 rfl rfl)
theorem dX4_clashes_12 : decode cX4_clashes 12 = .ok (.if_icmp .ge 66, 3) := dk_162 0 66 (dk_at dksX4_clashes_0 12 rfl rfl)
theorem dX4_clashes_15 : decode cX4_clashes 15 = .ok (.iload 4, 2) := dk_21 4 (dk_at dksX4_clashes_0 15 rfl rfl)
theorem dX4_clashes_17 : decode cX4_clashes 17 = .ok (.iload 5, 2) := dk_21 5 (dk_at dksX4_clashes_0 17 rfl rfl)
theorem dX4_clashes_19 : decode cX4_clashes 19 = .ok (.iload_n 1, 1) := dk_27 (dk_at dksX4_clashes_0 19 rfl rfl)
theorem dX4_clashes_20 : decode cX4_clashes 20 = .ok (.if_icmp .eq 48, 3) := dk_159 0 48 (dk_at dksX4_clashes_0 20 rfl rfl)
theorem dX4_clashes_23 : decode cX4_clashes 23 = .ok (.iload 5, 2) := dk_21 5 (dk_at dksX4_clashes_1 0 rfl rfl)
theorem dX4_clashes_25 : decode cX4_clashes 25 = .ok (.iload_n 3, 1) := dk_29 (dk_at dksX4_clashes_1 2 rfl rfl)
theorem dX4_clashes_26 : decode cX4_clashes 26 = .ok (.if_icmp .eq 42, 3) := dk_159 0 42 (dk_at dksX4_clashes_1 3 rfl rfl)
theorem dX4_clashes_29 : decode cX4_clashes 29 = .ok (.aload_n 0, 1) := dk_42 (dk_at dksX4_clashes_1 6 rfl rfl)
theorem dX4_clashes_30 : decode cX4_clashes 30 = .ok (.getfield 7, 3) := dk_180 0 7 (dk_at dksX4_clashes_1 7 rfl rfl)
theorem dX4_clashes_33 : decode cX4_clashes 33 = .ok (.bipush 120, 2) := dk_16 120 (dk_at dksX4_clashes_1 10 rfl rfl)
theorem dX4_clashes_35 : decode cX4_clashes 35 = .ok (.iload 5, 2) := dk_21 5 (dk_at dksX4_clashes_1 12 rfl rfl)
theorem dX4_clashes_37 : decode cX4_clashes 37 = .ok (.iadd, 1) := dk_96 (dk_at dksX4_clashes_1 14 rfl rfl)
theorem dX4_clashes_38 : decode cX4_clashes 38 = .ok (.iaload, 1) := dk_46 (dk_at dksX4_clashes_1 15 rfl rfl)
theorem dX4_clashes_39 : decode cX4_clashes 39 = .ok (.iconst (-1), 1) := dk_2 (dk_at dksX4_clashes_1 16 rfl rfl)
theorem dX4_clashes_40 : decode cX4_clashes 40 = .ok (.if_icmp .eq 28, 3) := dk_159 0 28 (dk_at dksX4_clashes_1 17 rfl rfl)
theorem dX4_clashes_43 : decode cX4_clashes 43 = .ok (.aload_n 0, 1) := dk_42 (dk_at dksX4_clashes_1 20 rfl rfl)
theorem dX4_clashes_44 : decode cX4_clashes 44 = .ok (.iload_n 1, 1) := dk_27 (dk_at dksX4_clashes_1 21 rfl rfl)
theorem dX4_clashes_45 : decode cX4_clashes 45 = .ok (.iload_n 2, 1) := dk_28 (dk_at dksX4_clashes_1 22 rfl rfl)
theorem dX4_clashes_46 : decode cX4_clashes 46 = .ok (.iload 5, 2) := dk_21 5 (dk_at dksX4_clashes_2 0 rfl rfl)
theorem dX4_clashes_48 : decode cX4_clashes 48 = .ok (.aload_n 0, 1) := dk_42 (dk_at dksX4_clashes_2 2 rfl rfl)
theorem dX4_clashes_49 : decode cX4_clashes 49 = .ok (.getfield 7, 3) := dk_180 0 7 (dk_at dksX4_clashes_2 3 rfl rfl)
theorem dX4_clashes_52 : decode cX4_clashes 52 = .ok (.bipush 120, 2) := dk_16 120 (dk_at dksX4_clashes_2 6 rfl rfl)
theorem dX4_clashes_54 : decode cX4_clashes 54 = .ok (.iload 5, 2) := dk_21 5 (dk_at dksX4_clashes_2 8 rfl rfl)
theorem dX4_clashes_56 : decode cX4_clashes 56 = .ok (.iadd, 1) := dk_96 (dk_at dksX4_clashes_2 10 rfl rfl)
theorem dX4_clashes_57 : decode cX4_clashes 57 = .ok (.iaload, 1) := dk_46 (dk_at dksX4_clashes_2 11 rfl rfl)
theorem dX4_clashes_58 : decode cX4_clashes 58 = .ok (.invokevirtual 80, 3) := dk_182 0 80 (dk_at dksX4_clashes_2 12 rfl rfl)
theorem dX4_clashes_61 : decode cX4_clashes 61 = .ok (.ifCond .eq 7, 3) := dk_153 0 7 (dk_at dksX4_clashes_2 15 rfl rfl)
theorem dX4_clashes_64 : decode cX4_clashes 64 = .ok (.iconst 1, 1) := dk_4 (dk_at dksX4_clashes_2 18 rfl rfl)
theorem dX4_clashes_65 : decode cX4_clashes 65 = .ok (.goto 4, 3) := dk_167 0 4 (dk_at dksX4_clashes_2 19 rfl rfl)
theorem dX4_clashes_68 : decode cX4_clashes 68 = .ok (.iconst 0, 1) := dk_3 (dk_at dksX4_clashes_2 22 rfl rfl)
theorem dX4_clashes_69 : decode cX4_clashes 69 = .ok (.iadd, 1) := dk_96 (dk_at dksX4_clashes_2 23 rfl rfl)
theorem dX4_clashes_70 : decode cX4_clashes 70 = .ok (.istore 4, 2) := dk_54 4 (dk_at dksX4_clashes_3 0 rfl rfl)
theorem dX4_clashes_72 : decode cX4_clashes 72 = .ok (.iinc 5 1, 3) := dk_132 5 1 (dk_at dksX4_clashes_3 2 rfl rfl)
theorem dX4_clashes_75 : decode cX4_clashes 75 = .ok (.goto (-69), 3) := dk_167 255 187 (dk_at dksX4_clashes_3 5 rfl rfl)
theorem dX4_clashes_78 : decode cX4_clashes 78 = .ok (.iload 4, 2) := dk_21 4 (dk_at dksX4_clashes_3 8 rfl rfl)
theorem dX4_clashes_80 : decode cX4_clashes 80 = .ok (.ireturn, 1) := dk_172 (dk_at dksX4_clashes_3 10 rfl rfl)
abbrev cX4_meet : ByteArray := prog_17_method_10_code
def yX4_meet : MethodName := ⟨RX4, "meet", "(IIII)Z"⟩
def dkwX4_meet_5 : List UInt8 := [167, 0, 4, 3, 172]
abbrev dktX4_meet_5 : List UInt8 := dkwX4_meet_5 ++ []
def dkwX4_meet_4 : List UInt8 := [182, 0, 65, 42, 27, 28, 182, 0, 65, 42, 180, 0, 7, 16, 60, 27, 96, 46, 96, 162, 0, 7, 4]
abbrev dktX4_meet_4 : List UInt8 := dkwX4_meet_4 ++ dktX4_meet_5
def dkwX4_meet_3 : List UInt8 := [29, 21, 4, 182, 0, 65, 42, 180, 0, 7, 16, 60, 29, 96, 46, 96, 162, 0, 33, 42, 29, 21, 4]
abbrev dktX4_meet_3 : List UInt8 := dkwX4_meet_3 ++ dktX4_meet_4
def dkwX4_meet_2 : List UInt8 := [46, 96, 162, 0, 7, 4, 167, 0, 4, 3, 54, 5, 21, 5, 153, 0, 59, 42, 27, 28, 182, 0, 65, 42]
abbrev dktX4_meet_2 : List UInt8 := dkwX4_meet_2 ++ dktX4_meet_3
def dkwX4_meet_1 : List UInt8 := [162, 0, 33, 42, 29, 21, 4, 182, 0, 61, 42, 27, 28, 182, 0, 61, 42, 180, 0, 7, 16, 40, 27, 96]
abbrev dktX4_meet_1 : List UInt8 := dkwX4_meet_1 ++ dktX4_meet_2
def dkwX4_meet_0 : List UInt8 := [42, 27, 28, 182, 0, 61, 42, 29, 21, 4, 182, 0, 61, 42, 180, 0, 7, 16, 40, 29, 96, 46, 96]
abbrev dktX4_meet_0 : List UInt8 := dkwX4_meet_0 ++ dktX4_meet_1
theorem dksX4_meet_0 : cX4_meet.data.toList.drop 0 = dktX4_meet_0 := by decide +kernel
theorem dksX4_meet_1 : cX4_meet.data.toList.drop 23 = dktX4_meet_1 := dk_seg dksX4_meet_0 23 rfl rfl
theorem dksX4_meet_2 : cX4_meet.data.toList.drop 47 = dktX4_meet_2 := dk_seg dksX4_meet_1 24 rfl rfl
theorem dksX4_meet_3 : cX4_meet.data.toList.drop 71 = dktX4_meet_3 := dk_seg dksX4_meet_2 24 rfl rfl
theorem dksX4_meet_4 : cX4_meet.data.toList.drop 94 = dktX4_meet_4 := dk_seg dksX4_meet_3 23 rfl rfl
theorem dksX4_meet_5 : cX4_meet.data.toList.drop 117 = dktX4_meet_5 := dk_seg dksX4_meet_4 23 rfl rfl
theorem dX4_meet_0 : decode cX4_meet 0 = .ok (.aload_n 0, 1) := dk_42 (dk_at dksX4_meet_0 0 rfl rfl)
theorem dX4_meet_1 : decode cX4_meet 1 = .ok (.iload_n 1, 1) := dk_27 (dk_at dksX4_meet_0 1 rfl rfl)
theorem dX4_meet_2 : decode cX4_meet 2 = .ok (.iload_n 2, 1) := dk_28 (dk_at dksX4_meet_0 2 rfl rfl)
theorem dX4_meet_3 : decode cX4_meet 3 = .ok (.invokevirtual 61, 3) := dk_182 0 61 (dk_at dksX4_meet_0 3 rfl rfl)
theorem dX4_meet_6 : decode cX4_meet 6 = .ok (.aload_n 0, 1) := dk_42 (dk_at dksX4_meet_0 6 rfl rfl)
theorem dX4_meet_7 : decode cX4_meet 7 = .ok (.iload_n 3, 1) := dk_29 (dk_at dksX4_meet_0 7 rfl rfl)
theorem dX4_meet_8 : decode cX4_meet 8 = .ok (.iload 4, 2) := dk_21 4 (dk_at dksX4_meet_0 8 rfl rfl)
theorem dX4_meet_10 : decode cX4_meet 10 = .ok (.invokevirtual 61, 3) := dk_182 0 61 (dk_at dksX4_meet_0 10 rfl rfl)
theorem dX4_meet_13 : decode cX4_meet 13 = .ok (.aload_n 0, 1) := dk_42 (dk_at dksX4_meet_0 13 rfl rfl)
theorem dX4_meet_14 : decode cX4_meet 14 = .ok (.getfield 7, 3) := dk_180 0 7 (dk_at dksX4_meet_0 14 rfl rfl)
theorem dX4_meet_17 : decode cX4_meet 17 = .ok (.bipush 40, 2) := dk_16 40 (dk_at dksX4_meet_0 17 rfl rfl)
theorem dX4_meet_19 : decode cX4_meet 19 = .ok (.iload_n 3, 1) := dk_29 (dk_at dksX4_meet_0 19 rfl rfl)
theorem dX4_meet_20 : decode cX4_meet 20 = .ok (.iadd, 1) := dk_96 (dk_at dksX4_meet_0 20 rfl rfl)
theorem dX4_meet_21 : decode cX4_meet 21 = .ok (.iaload, 1) := dk_46 (dk_at dksX4_meet_0 21 rfl rfl)
theorem dX4_meet_22 : decode cX4_meet 22 = .ok (.iadd, 1) := dk_96 (dk_at dksX4_meet_0 22 rfl rfl)
theorem dX4_meet_23 : decode cX4_meet 23 = .ok (.if_icmp .ge 33, 3) := dk_162 0 33 (dk_at dksX4_meet_1 0 rfl rfl)
theorem dX4_meet_26 : decode cX4_meet 26 = .ok (.aload_n 0, 1) := dk_42 (dk_at dksX4_meet_1 3 rfl rfl)
theorem dX4_meet_27 : decode cX4_meet 27 = .ok (.iload_n 3, 1) := dk_29 (dk_at dksX4_meet_1 4 rfl rfl)
theorem dX4_meet_28 : decode cX4_meet 28 = .ok (.iload 4, 2) := dk_21 4 (dk_at dksX4_meet_1 5 rfl rfl)
theorem dX4_meet_30 : decode cX4_meet 30 = .ok (.invokevirtual 61, 3) := dk_182 0 61 (dk_at dksX4_meet_1 7 rfl rfl)
theorem dX4_meet_33 : decode cX4_meet 33 = .ok (.aload_n 0, 1) := dk_42 (dk_at dksX4_meet_1 10 rfl rfl)
theorem dX4_meet_34 : decode cX4_meet 34 = .ok (.iload_n 1, 1) := dk_27 (dk_at dksX4_meet_1 11 rfl rfl)
theorem dX4_meet_35 : decode cX4_meet 35 = .ok (.iload_n 2, 1) := dk_28 (dk_at dksX4_meet_1 12 rfl rfl)
theorem dX4_meet_36 : decode cX4_meet 36 = .ok (.invokevirtual 61, 3) := dk_182 0 61 (dk_at dksX4_meet_1 13 rfl rfl)
theorem dX4_meet_39 : decode cX4_meet 39 = .ok (.aload_n 0, 1) := dk_42 (dk_at dksX4_meet_1 16 rfl rfl)
theorem dX4_meet_40 : decode cX4_meet 40 = .ok (.getfield 7, 3) := dk_180 0 7 (dk_at dksX4_meet_1 17 rfl rfl)
theorem dX4_meet_43 : decode cX4_meet 43 = .ok (.bipush 40, 2) := dk_16 40 (dk_at dksX4_meet_1 20 rfl rfl)
theorem dX4_meet_45 : decode cX4_meet 45 = .ok (.iload_n 1, 1) := dk_27 (dk_at dksX4_meet_1 22 rfl rfl)
theorem dX4_meet_46 : decode cX4_meet 46 = .ok (.iadd, 1) := dk_96 (dk_at dksX4_meet_1 23 rfl rfl)
theorem dX4_meet_47 : decode cX4_meet 47 = .ok (.iaload, 1) := dk_46 (dk_at dksX4_meet_2 0 rfl rfl)
theorem dX4_meet_48 : decode cX4_meet 48 = .ok (.iadd, 1) := dk_96 (dk_at dksX4_meet_2 1 rfl rfl)
theorem dX4_meet_49 : decode cX4_meet 49 = .ok (.if_icmp .ge 7, 3) := dk_162 0 7 (dk_at dksX4_meet_2 2 rfl rfl)
theorem dX4_meet_52 : decode cX4_meet 52 = .ok (.iconst 1, 1) := dk_4 (dk_at dksX4_meet_2 5 rfl rfl)
theorem dX4_meet_53 : decode cX4_meet 53 = .ok (.goto 4, 3) := dk_167 0 4 (dk_at dksX4_meet_2 6 rfl rfl)
theorem dX4_meet_56 : decode cX4_meet 56 = .ok (.iconst 0, 1) := dk_3 (dk_at dksX4_meet_2 9 rfl rfl)
theorem dX4_meet_57 : decode cX4_meet 57 = .ok (.istore 5, 2) := dk_54 5 (dk_at dksX4_meet_2 10 rfl rfl)
theorem dX4_meet_59 : decode cX4_meet 59 = .ok (.iload 5, 2) := dk_21 5 (dk_at dksX4_meet_2 12 rfl rfl)
theorem dX4_meet_61 : decode cX4_meet 61 = .ok (.ifCond .eq 59, 3) := dk_153 0 59 (dk_at dksX4_meet_2 14 rfl rfl)
theorem dX4_meet_64 : decode cX4_meet 64 = .ok (.aload_n 0, 1) := dk_42 (dk_at dksX4_meet_2 17 rfl rfl)
theorem dX4_meet_65 : decode cX4_meet 65 = .ok (.iload_n 1, 1) := dk_27 (dk_at dksX4_meet_2 18 rfl rfl)
theorem dX4_meet_66 : decode cX4_meet 66 = .ok (.iload_n 2, 1) := dk_28 (dk_at dksX4_meet_2 19 rfl rfl)
theorem dX4_meet_67 : decode cX4_meet 67 = .ok (.invokevirtual 65, 3) := dk_182 0 65 (dk_at dksX4_meet_2 20 rfl rfl)
theorem dX4_meet_70 : decode cX4_meet 70 = .ok (.aload_n 0, 1) := dk_42 (dk_at dksX4_meet_2 23 rfl rfl)
theorem dX4_meet_71 : decode cX4_meet 71 = .ok (.iload_n 3, 1) := dk_29 (dk_at dksX4_meet_3 0 rfl rfl)
theorem dX4_meet_72 : decode cX4_meet 72 = .ok (.iload 4, 2) := dk_21 4 (dk_at dksX4_meet_3 1 rfl rfl)
theorem dX4_meet_74 : decode cX4_meet 74 = .ok (.invokevirtual 65, 3) := dk_182 0 65 (dk_at dksX4_meet_3 3 rfl rfl)
theorem dX4_meet_77 : decode cX4_meet 77 = .ok (.aload_n 0, 1) := dk_42 (dk_at dksX4_meet_3 6 rfl rfl)
theorem dX4_meet_78 : decode cX4_meet 78 = .ok (.getfield 7, 3) := dk_180 0 7 (dk_at dksX4_meet_3 7 rfl rfl)
theorem dX4_meet_81 : decode cX4_meet 81 = .ok (.bipush 60, 2) := dk_16 60 (dk_at dksX4_meet_3 10 rfl rfl)
theorem dX4_meet_83 : decode cX4_meet 83 = .ok (.iload_n 3, 1) := dk_29 (dk_at dksX4_meet_3 12 rfl rfl)
theorem dX4_meet_84 : decode cX4_meet 84 = .ok (.iadd, 1) := dk_96 (dk_at dksX4_meet_3 13 rfl rfl)
theorem dX4_meet_85 : decode cX4_meet 85 = .ok (.iaload, 1) := dk_46 (dk_at dksX4_meet_3 14 rfl rfl)
theorem dX4_meet_86 : decode cX4_meet 86 = .ok (.iadd, 1) := dk_96 (dk_at dksX4_meet_3 15 rfl rfl)
theorem dX4_meet_87 : decode cX4_meet 87 = .ok (.if_icmp .ge 33, 3) := dk_162 0 33 (dk_at dksX4_meet_3 16 rfl rfl)
theorem dX4_meet_90 : decode cX4_meet 90 = .ok (.aload_n 0, 1) := dk_42 (dk_at dksX4_meet_3 19 rfl rfl)
theorem dX4_meet_91 : decode cX4_meet 91 = .ok (.iload_n 3, 1) := dk_29 (dk_at dksX4_meet_3 20 rfl rfl)
theorem dX4_meet_92 : decode cX4_meet 92 = .ok (.iload 4, 2) := dk_21 4 (dk_at dksX4_meet_3 21 rfl rfl)
theorem dX4_meet_94 : decode cX4_meet 94 = .ok (.invokevirtual 65, 3) := dk_182 0 65 (dk_at dksX4_meet_4 0 rfl rfl)
theorem dX4_meet_97 : decode cX4_meet 97 = .ok (.aload_n 0, 1) := dk_42 (dk_at dksX4_meet_4 3 rfl rfl)
theorem dX4_meet_98 : decode cX4_meet 98 = .ok (.iload_n 1, 1) := dk_27 (dk_at dksX4_meet_4 4 rfl rfl)
theorem dX4_meet_99 : decode cX4_meet 99 = .ok (.iload_n 2, 1) := dk_28 (dk_at dksX4_meet_4 5 rfl rfl)
theorem dX4_meet_100 : decode cX4_meet 100 = .ok (.invokevirtual 65, 3) := dk_182 0 65 (dk_at dksX4_meet_4 6 rfl rfl)
theorem dX4_meet_103 : decode cX4_meet 103 = .ok (.aload_n 0, 1) := dk_42 (dk_at dksX4_meet_4 9 rfl rfl)
theorem dX4_meet_104 : decode cX4_meet 104 = .ok (.getfield 7, 3) := dk_180 0 7 (dk_at dksX4_meet_4 10 rfl rfl)
theorem dX4_meet_107 : decode cX4_meet 107 = .ok (.bipush 60, 2) := dk_16 60 (dk_at dksX4_meet_4 13 rfl rfl)
theorem dX4_meet_109 : decode cX4_meet 109 = .ok (.iload_n 1, 1) := dk_27 (dk_at dksX4_meet_4 15 rfl rfl)
theorem dX4_meet_110 : decode cX4_meet 110 = .ok (.iadd, 1) := dk_96 (dk_at dksX4_meet_4 16 rfl rfl)
theorem dX4_meet_111 : decode cX4_meet 111 = .ok (.iaload, 1) := dk_46 (dk_at dksX4_meet_4 17 rfl rfl)
theorem dX4_meet_112 : decode cX4_meet 112 = .ok (.iadd, 1) := dk_96 (dk_at dksX4_meet_4 18 rfl rfl)
theorem dX4_meet_113 : decode cX4_meet 113 = .ok (.if_icmp .ge 7, 3) := dk_162 0 7 (dk_at dksX4_meet_4 19 rfl rfl)
theorem dX4_meet_116 : decode cX4_meet 116 = .ok (.iconst 1, 1) := dk_4 (dk_at dksX4_meet_4 22 rfl rfl)
theorem dX4_meet_117 : decode cX4_meet 117 = .ok (.goto 4, 3) := dk_167 0 4 (dk_at dksX4_meet_5 0 rfl rfl)
theorem dX4_meet_120 : decode cX4_meet 120 = .ok (.iconst 0, 1) := dk_3 (dk_at dksX4_meet_5 3 rfl rfl)
theorem dX4_meet_121 : decode cX4_meet 121 = .ok (.ireturn, 1) := dk_172 (dk_at dksX4_meet_5 4 rfl rfl)
abbrev cX4_point : ByteArray := prog_17_method_23_code
def yX4_point : MethodName := ⟨RX4, "point", "(II)I"⟩
def dkwX4_point_1 : List UInt8 := [182, 0, 83, 42, 27, 28, 182, 0, 118, 172]
abbrev dktX4_point_1 : List UInt8 := dkwX4_point_1 ++ []
def dkwX4_point_0 : List UInt8 := [42, 27, 182, 0, 105, 153, 0, 15, 28, 133, 9, 20, 0, 116, 184, 0, 51, 154, 0, 6, 16, 254, 172, 42]
abbrev dktX4_point_0 : List UInt8 := dkwX4_point_0 ++ dktX4_point_1
theorem dksX4_point_0 : cX4_point.data.toList.drop 0 = dktX4_point_0 := by decide +kernel
theorem dksX4_point_1 : cX4_point.data.toList.drop 24 = dktX4_point_1 := dk_seg dksX4_point_0 24 rfl rfl
theorem dX4_point_0 : decode cX4_point 0 = .ok (.aload_n 0, 1) := dk_42 (dk_at dksX4_point_0 0 rfl rfl)
theorem dX4_point_1 : decode cX4_point 1 = .ok (.iload_n 1, 1) := dk_27 (dk_at dksX4_point_0 1 rfl rfl)
theorem dX4_point_2 : decode cX4_point 2 = .ok (.invokevirtual 105, 3) := dk_182 0 105 (dk_at dksX4_point_0 2 rfl rfl)
theorem dX4_point_5 : decode cX4_point 5 = .ok (.ifCond .eq 15, 3) := dk_153 0 15 (dk_at dksX4_point_0 5 rfl rfl)
theorem dX4_point_8 : decode cX4_point 8 = .ok (.iload_n 2, 1) := dk_28 (dk_at dksX4_point_0 8 rfl rfl)
theorem dX4_point_9 : decode cX4_point 9 = .ok (.i2l, 1) := dk_133 (dk_at dksX4_point_0 9 rfl rfl)
theorem dX4_point_10 : decode cX4_point 10 = .ok (.lconst 0, 1) := dk_9 (dk_at dksX4_point_0 10 rfl rfl)
theorem dX4_point_11 : decode cX4_point 11 = .ok (.ldc2_w 116, 3) := dk_20 0 116 (dk_at dksX4_point_0 11 rfl rfl)
theorem dX4_point_14 : decode cX4_point 14 = .ok (.invokestatic 51, 3) := dk_184 0 51 (dk_at dksX4_point_0 14 rfl rfl)
theorem dX4_point_17 : decode cX4_point 17 = .ok (.ifCond .ne 6, 3) := dk_154 0 6 (dk_at dksX4_point_0 17 rfl rfl)
theorem dX4_point_20 : decode cX4_point 20 = .ok (.bipush (-2), 2) := dk_16 254 (dk_at dksX4_point_0 20 rfl rfl)
theorem dX4_point_22 : decode cX4_point 22 = .ok (.ireturn, 1) := dk_172 (dk_at dksX4_point_0 22 rfl rfl)
theorem dX4_point_23 : decode cX4_point 23 = .ok (.aload_n 0, 1) := dk_42 (dk_at dksX4_point_0 23 rfl rfl)
theorem dX4_point_24 : decode cX4_point 24 = .ok (.invokevirtual 83, 3) := dk_182 0 83 (dk_at dksX4_point_1 0 rfl rfl)
theorem dX4_point_27 : decode cX4_point 27 = .ok (.aload_n 0, 1) := dk_42 (dk_at dksX4_point_1 3 rfl rfl)
theorem dX4_point_28 : decode cX4_point 28 = .ok (.iload_n 1, 1) := dk_27 (dk_at dksX4_point_1 4 rfl rfl)
theorem dX4_point_29 : decode cX4_point 29 = .ok (.iload_n 2, 1) := dk_28 (dk_at dksX4_point_1 5 rfl rfl)
theorem dX4_point_30 : decode cX4_point 30 = .ok (.invokevirtual 118, 3) := dk_182 0 118 (dk_at dksX4_point_1 6 rfl rfl)
theorem dX4_point_33 : decode cX4_point 33 = .ok (.ireturn, 1) := dk_172 (dk_at dksX4_point_1 9 rfl rfl)
abbrev cX4_part : ByteArray := prog_17_method_22_code
def yX4_part : MethodName := ⟨RX4, "part", "(II)I"⟩
def dkwX4_part_3 : List UInt8 := [42, 27, 182, 0, 112, 172, 42, 180, 0, 7, 16, 20, 28, 104, 27, 96, 46, 172]
abbrev dktX4_part_3 : List UInt8 := dkwX4_part_3 ++ []
def dkwX4_part_2 : List UInt8 := [42, 27, 182, 0, 68, 153, 0, 7, 4, 167, 0, 4, 3, 172, 42, 180, 0, 7, 16, 120, 27, 96, 46, 172]
abbrev dktX4_part_2 : List UInt8 := dkwX4_part_2 ++ dktX4_part_3
def dkwX4_part_1 : List UInt8 := [170, 0, 0, 0, 0, 0, 57, 0, 0, 0, 6, 0, 0, 0, 8, 0, 0, 0, 27, 0, 0, 0, 41, 0, 0, 0, 51]
abbrev dktX4_part_1 : List UInt8 := dkwX4_part_1 ++ dktX4_part_2
def dkwX4_part_0 : List UInt8 := [28]
abbrev dktX4_part_0 : List UInt8 := dkwX4_part_0 ++ dktX4_part_1
theorem dksX4_part_0 : cX4_part.data.toList.drop 0 = dktX4_part_0 := by decide +kernel
theorem dksX4_part_1 : cX4_part.data.toList.drop 1 = dktX4_part_1 := dk_seg dksX4_part_0 1 rfl rfl
theorem dksX4_part_2 : cX4_part.data.toList.drop 28 = dktX4_part_2 := dk_seg dksX4_part_1 27 rfl rfl
theorem dksX4_part_3 : cX4_part.data.toList.drop 52 = dktX4_part_3 := dk_seg dksX4_part_2 24 rfl rfl
theorem dX4_part_0 : decode cX4_part 0 = .ok (.iload_n 2, 1) := dk_28 (dk_at dksX4_part_0 0 rfl rfl)
theorem dX4_part_1 : decode cX4_part 1 = .ok (.tableswitch 57 6 8 #[27, 41, 51], 27) := by decide +kernel
theorem dX4_part_28 : decode cX4_part 28 = .ok (.aload_n 0, 1) := dk_42 (dk_at dksX4_part_2 0 rfl rfl)
theorem dX4_part_29 : decode cX4_part 29 = .ok (.iload_n 1, 1) := dk_27 (dk_at dksX4_part_2 1 rfl rfl)
theorem dX4_part_30 : decode cX4_part 30 = .ok (.invokevirtual 68, 3) := dk_182 0 68 (dk_at dksX4_part_2 2 rfl rfl)
theorem dX4_part_33 : decode cX4_part 33 = .ok (.ifCond .eq 7, 3) := dk_153 0 7 (dk_at dksX4_part_2 5 rfl rfl)
theorem dX4_part_36 : decode cX4_part 36 = .ok (.iconst 1, 1) := dk_4 (dk_at dksX4_part_2 8 rfl rfl)
theorem dX4_part_37 : decode cX4_part 37 = .ok (.goto 4, 3) := dk_167 0 4 (dk_at dksX4_part_2 9 rfl rfl)
theorem dX4_part_40 : decode cX4_part 40 = .ok (.iconst 0, 1) := dk_3 (dk_at dksX4_part_2 12 rfl rfl)
theorem dX4_part_41 : decode cX4_part 41 = .ok (.ireturn, 1) := dk_172 (dk_at dksX4_part_2 13 rfl rfl)
theorem dX4_part_42 : decode cX4_part 42 = .ok (.aload_n 0, 1) := dk_42 (dk_at dksX4_part_2 14 rfl rfl)
theorem dX4_part_43 : decode cX4_part 43 = .ok (.getfield 7, 3) := dk_180 0 7 (dk_at dksX4_part_2 15 rfl rfl)
theorem dX4_part_46 : decode cX4_part 46 = .ok (.bipush 120, 2) := dk_16 120 (dk_at dksX4_part_2 18 rfl rfl)
theorem dX4_part_48 : decode cX4_part 48 = .ok (.iload_n 1, 1) := dk_27 (dk_at dksX4_part_2 20 rfl rfl)
theorem dX4_part_49 : decode cX4_part 49 = .ok (.iadd, 1) := dk_96 (dk_at dksX4_part_2 21 rfl rfl)
theorem dX4_part_50 : decode cX4_part 50 = .ok (.iaload, 1) := dk_46 (dk_at dksX4_part_2 22 rfl rfl)
theorem dX4_part_51 : decode cX4_part 51 = .ok (.ireturn, 1) := dk_172 (dk_at dksX4_part_2 23 rfl rfl)
theorem dX4_part_52 : decode cX4_part 52 = .ok (.aload_n 0, 1) := dk_42 (dk_at dksX4_part_3 0 rfl rfl)
theorem dX4_part_53 : decode cX4_part 53 = .ok (.iload_n 1, 1) := dk_27 (dk_at dksX4_part_3 1 rfl rfl)
theorem dX4_part_54 : decode cX4_part 54 = .ok (.invokevirtual 112, 3) := dk_182 0 112 (dk_at dksX4_part_3 2 rfl rfl)
theorem dX4_part_57 : decode cX4_part 57 = .ok (.ireturn, 1) := dk_172 (dk_at dksX4_part_3 5 rfl rfl)
theorem dX4_part_58 : decode cX4_part 58 = .ok (.aload_n 0, 1) := dk_42 (dk_at dksX4_part_3 6 rfl rfl)
theorem dX4_part_59 : decode cX4_part 59 = .ok (.getfield 7, 3) := dk_180 0 7 (dk_at dksX4_part_3 7 rfl rfl)
theorem dX4_part_62 : decode cX4_part 62 = .ok (.bipush 20, 2) := dk_16 20 (dk_at dksX4_part_3 10 rfl rfl)
theorem dX4_part_64 : decode cX4_part 64 = .ok (.iload_n 2, 1) := dk_28 (dk_at dksX4_part_3 12 rfl rfl)
theorem dX4_part_65 : decode cX4_part 65 = .ok (.imul, 1) := dk_104 (dk_at dksX4_part_3 13 rfl rfl)
theorem dX4_part_66 : decode cX4_part 66 = .ok (.iload_n 1, 1) := dk_27 (dk_at dksX4_part_3 14 rfl rfl)
theorem dX4_part_67 : decode cX4_part 67 = .ok (.iadd, 1) := dk_96 (dk_at dksX4_part_3 15 rfl rfl)
theorem dX4_part_68 : decode cX4_part 68 = .ok (.iaload, 1) := dk_46 (dk_at dksX4_part_3 16 rfl rfl)
theorem dX4_part_69 : decode cX4_part 69 = .ok (.ireturn, 1) := dk_172 (dk_at dksX4_part_3 17 rfl rfl)
abbrev cX4_placesOf : ByteArray := prog_17_method_21_code
def yX4_placesOf : MethodName := ⟨RX4, "placesOf", "(I)I"⟩
def dkwX4_placesOf_1 : List UInt8 := [153, 0, 7, 4, 167, 0, 4, 3, 96, 61, 132, 3, 1, 167, 255, 225, 28, 172]
abbrev dktX4_placesOf_1 : List UInt8 := dkwX4_placesOf_1 ++ []
def dkwX4_placesOf_0 : List UInt8 := [3, 61, 3, 62, 29, 16, 8, 162, 0, 31, 28, 42, 180, 0, 20, 16, 8, 27, 104, 29, 96, 51]
abbrev dktX4_placesOf_0 : List UInt8 := dkwX4_placesOf_0 ++ dktX4_placesOf_1
theorem dksX4_placesOf_0 : cX4_placesOf.data.toList.drop 0 = dktX4_placesOf_0 := by decide +kernel
theorem dksX4_placesOf_1 : cX4_placesOf.data.toList.drop 22 = dktX4_placesOf_1 := dk_seg dksX4_placesOf_0 22 rfl rfl
theorem dX4_placesOf_0 : decode cX4_placesOf 0 = .ok (.iconst 0, 1) := dk_3 (dk_at dksX4_placesOf_0 0 rfl rfl)
theorem dX4_placesOf_1 : decode cX4_placesOf 1 = .ok (.istore_n 2, 1) := dk_61 (dk_at dksX4_placesOf_0 1 rfl rfl)
theorem dX4_placesOf_2 : decode cX4_placesOf 2 = .ok (.iconst 0, 1) := dk_3 (dk_at dksX4_placesOf_0 2 rfl rfl)
theorem dX4_placesOf_3 : decode cX4_placesOf 3 = .ok (.istore_n 3, 1) := dk_62 (dk_at dksX4_placesOf_0 3 rfl rfl)
theorem dX4_placesOf_4 : decode cX4_placesOf 4 = .ok (.iload_n 3, 1) := dk_29 (dk_at dksX4_placesOf_0 4 rfl rfl)
theorem dX4_placesOf_5 : decode cX4_placesOf 5 = .ok (.bipush 8, 2) := dk_16 8 (dk_at dksX4_placesOf_0 5 rfl rfl)
theorem dX4_placesOf_7 : decode cX4_placesOf 7 = .ok (.if_icmp .ge 31, 3) := dk_162 0 31 (dk_at dksX4_placesOf_0 7 rfl rfl)
theorem dX4_placesOf_10 : decode cX4_placesOf 10 = .ok (.iload_n 2, 1) := dk_28 (dk_at dksX4_placesOf_0 10 rfl rfl)
theorem dX4_placesOf_11 : decode cX4_placesOf 11 = .ok (.aload_n 0, 1) := dk_42 (dk_at dksX4_placesOf_0 11 rfl rfl)
theorem dX4_placesOf_12 : decode cX4_placesOf 12 = .ok (.getfield 20, 3) := dk_180 0 20 (dk_at dksX4_placesOf_0 12 rfl rfl)
theorem dX4_placesOf_15 : decode cX4_placesOf 15 = .ok (.bipush 8, 2) := dk_16 8 (dk_at dksX4_placesOf_0 15 rfl rfl)
theorem dX4_placesOf_17 : decode cX4_placesOf 17 = .ok (.iload_n 1, 1) := dk_27 (dk_at dksX4_placesOf_0 17 rfl rfl)
theorem dX4_placesOf_18 : decode cX4_placesOf 18 = .ok (.imul, 1) := dk_104 (dk_at dksX4_placesOf_0 18 rfl rfl)
theorem dX4_placesOf_19 : decode cX4_placesOf 19 = .ok (.iload_n 3, 1) := dk_29 (dk_at dksX4_placesOf_0 19 rfl rfl)
theorem dX4_placesOf_20 : decode cX4_placesOf 20 = .ok (.iadd, 1) := dk_96 (dk_at dksX4_placesOf_0 20 rfl rfl)
theorem dX4_placesOf_21 : decode cX4_placesOf 21 = .ok (.baload, 1) := dk_51 (dk_at dksX4_placesOf_0 21 rfl rfl)
theorem dX4_placesOf_22 : decode cX4_placesOf 22 = .ok (.ifCond .eq 7, 3) := dk_153 0 7 (dk_at dksX4_placesOf_1 0 rfl rfl)
theorem dX4_placesOf_25 : decode cX4_placesOf 25 = .ok (.iconst 1, 1) := dk_4 (dk_at dksX4_placesOf_1 3 rfl rfl)
theorem dX4_placesOf_26 : decode cX4_placesOf 26 = .ok (.goto 4, 3) := dk_167 0 4 (dk_at dksX4_placesOf_1 4 rfl rfl)
theorem dX4_placesOf_29 : decode cX4_placesOf 29 = .ok (.iconst 0, 1) := dk_3 (dk_at dksX4_placesOf_1 7 rfl rfl)
theorem dX4_placesOf_30 : decode cX4_placesOf 30 = .ok (.iadd, 1) := dk_96 (dk_at dksX4_placesOf_1 8 rfl rfl)
theorem dX4_placesOf_31 : decode cX4_placesOf 31 = .ok (.istore_n 2, 1) := dk_61 (dk_at dksX4_placesOf_1 9 rfl rfl)
theorem dX4_placesOf_32 : decode cX4_placesOf 32 = .ok (.iinc 3 1, 3) := dk_132 3 1 (dk_at dksX4_placesOf_1 10 rfl rfl)
theorem dX4_placesOf_35 : decode cX4_placesOf 35 = .ok (.goto (-31), 3) := dk_167 255 225 (dk_at dksX4_placesOf_1 13 rfl rfl)
theorem dX4_placesOf_38 : decode cX4_placesOf 38 = .ok (.iload_n 2, 1) := dk_28 (dk_at dksX4_placesOf_1 16 rfl rfl)
theorem dX4_placesOf_39 : decode cX4_placesOf 39 = .ok (.ireturn, 1) := dk_172 (dk_at dksX4_placesOf_1 17 rfl rfl)
abbrev cX4_setWindow : ByteArray := prog_17_method_25_code
def yX4_setWindow : MethodName := ⟨RX4, "setWindow", "(IIII)I"⟩
def dkwX4_setWindow_4 : List UInt8 := [181, 0, 17, 42, 182, 0, 102, 42, 182, 0, 125, 172]
abbrev dktX4_setWindow_4 : List UInt8 := dkwX4_setWindow_4 ++ []
def dkwX4_setWindow_3 : List UInt8 := [154, 0, 6, 16, 254, 172, 42, 27, 181, 0, 55, 42, 28, 181, 0, 58, 42, 29, 181, 0, 13, 42, 21, 4]
abbrev dktX4_setWindow_3 : List UInt8 := dkwX4_setWindow_3 ++ dktX4_setWindow_4
def dkwX4_setWindow_2 : List UInt8 := [29, 100, 133, 184, 0, 51, 153, 0, 19, 28, 133, 9, 17, 0, 200, 21, 4, 100, 133, 184, 0, 51]
abbrev dktX4_setWindow_2 : List UInt8 := dkwX4_setWindow_2 ++ dktX4_setWindow_3
def dkwX4_setWindow_1 : List UInt8 := [184, 0, 51, 153, 0, 7, 4, 167, 0, 4, 3, 54, 5, 21, 5, 153, 0, 34, 27, 133, 9, 17, 0, 200]
abbrev dktX4_setWindow_1 : List UInt8 := dkwX4_setWindow_1 ++ dktX4_setWindow_2
def dkwX4_setWindow_0 : List UInt8 := [29, 133, 20, 0, 121, 20, 0, 123, 184, 0, 51, 153, 0, 22, 21, 4, 133, 20, 0, 121, 20, 0, 123]
abbrev dktX4_setWindow_0 : List UInt8 := dkwX4_setWindow_0 ++ dktX4_setWindow_1
theorem dksX4_setWindow_0 : cX4_setWindow.data.toList.drop 0 = dktX4_setWindow_0 := by decide +kernel
theorem dksX4_setWindow_1 : cX4_setWindow.data.toList.drop 23 = dktX4_setWindow_1 := dk_seg dksX4_setWindow_0 23 rfl rfl
theorem dksX4_setWindow_2 : cX4_setWindow.data.toList.drop 47 = dktX4_setWindow_2 := dk_seg dksX4_setWindow_1 24 rfl rfl
theorem dksX4_setWindow_3 : cX4_setWindow.data.toList.drop 69 = dktX4_setWindow_3 := dk_seg dksX4_setWindow_2 22 rfl rfl
theorem dksX4_setWindow_4 : cX4_setWindow.data.toList.drop 93 = dktX4_setWindow_4 := dk_seg dksX4_setWindow_3 24 rfl rfl
theorem dX4_setWindow_0 : decode cX4_setWindow 0 = .ok (.iload_n 3, 1) := dk_29 (dk_at dksX4_setWindow_0 0 rfl rfl)
theorem dX4_setWindow_1 : decode cX4_setWindow 1 = .ok (.i2l, 1) := dk_133 (dk_at dksX4_setWindow_0 1 rfl rfl)
theorem dX4_setWindow_2 : decode cX4_setWindow 2 = .ok (.ldc2_w 121, 3) := dk_20 0 121 (dk_at dksX4_setWindow_0 2 rfl rfl)
theorem dX4_setWindow_5 : decode cX4_setWindow 5 = .ok (.ldc2_w 123, 3) := dk_20 0 123 (dk_at dksX4_setWindow_0 5 rfl rfl)
theorem dX4_setWindow_8 : decode cX4_setWindow 8 = .ok (.invokestatic 51, 3) := dk_184 0 51 (dk_at dksX4_setWindow_0 8 rfl rfl)
theorem dX4_setWindow_11 : decode cX4_setWindow 11 = .ok (.ifCond .eq 22, 3) := dk_153 0 22 (dk_at dksX4_setWindow_0 11 rfl rfl)
theorem dX4_setWindow_14 : decode cX4_setWindow 14 = .ok (.iload 4, 2) := dk_21 4 (dk_at dksX4_setWindow_0 14 rfl rfl)
theorem dX4_setWindow_16 : decode cX4_setWindow 16 = .ok (.i2l, 1) := dk_133 (dk_at dksX4_setWindow_0 16 rfl rfl)
theorem dX4_setWindow_17 : decode cX4_setWindow 17 = .ok (.ldc2_w 121, 3) := dk_20 0 121 (dk_at dksX4_setWindow_0 17 rfl rfl)
theorem dX4_setWindow_20 : decode cX4_setWindow 20 = .ok (.ldc2_w 123, 3) := dk_20 0 123 (dk_at dksX4_setWindow_0 20 rfl rfl)
theorem dX4_setWindow_23 : decode cX4_setWindow 23 = .ok (.invokestatic 51, 3) := dk_184 0 51 (dk_at dksX4_setWindow_1 0 rfl rfl)
theorem dX4_setWindow_26 : decode cX4_setWindow 26 = .ok (.ifCond .eq 7, 3) := dk_153 0 7 (dk_at dksX4_setWindow_1 3 rfl rfl)
theorem dX4_setWindow_29 : decode cX4_setWindow 29 = .ok (.iconst 1, 1) := dk_4 (dk_at dksX4_setWindow_1 6 rfl rfl)
theorem dX4_setWindow_30 : decode cX4_setWindow 30 = .ok (.goto 4, 3) := dk_167 0 4 (dk_at dksX4_setWindow_1 7 rfl rfl)
theorem dX4_setWindow_33 : decode cX4_setWindow 33 = .ok (.iconst 0, 1) := dk_3 (dk_at dksX4_setWindow_1 10 rfl rfl)
theorem dX4_setWindow_34 : decode cX4_setWindow 34 = .ok (.istore 5, 2) := dk_54 5 (dk_at dksX4_setWindow_1 11 rfl rfl)
theorem dX4_setWindow_36 : decode cX4_setWindow 36 = .ok (.iload 5, 2) := dk_21 5 (dk_at dksX4_setWindow_1 13 rfl rfl)
theorem dX4_setWindow_38 : decode cX4_setWindow 38 = .ok (.ifCond .eq 34, 3) := dk_153 0 34 (dk_at dksX4_setWindow_1 15 rfl rfl)
theorem dX4_setWindow_41 : decode cX4_setWindow 41 = .ok (.iload_n 1, 1) := dk_27 (dk_at dksX4_setWindow_1 18 rfl rfl)
theorem dX4_setWindow_42 : decode cX4_setWindow 42 = .ok (.i2l, 1) := dk_133 (dk_at dksX4_setWindow_1 19 rfl rfl)
theorem dX4_setWindow_43 : decode cX4_setWindow 43 = .ok (.lconst 0, 1) := dk_9 (dk_at dksX4_setWindow_1 20 rfl rfl)
theorem dX4_setWindow_44 : decode cX4_setWindow 44 = .ok (.sipush 200, 3) := dk_17 0 200 (dk_at dksX4_setWindow_1 21 rfl rfl)
theorem dX4_setWindow_47 : decode cX4_setWindow 47 = .ok (.iload_n 3, 1) := dk_29 (dk_at dksX4_setWindow_2 0 rfl rfl)
theorem dX4_setWindow_48 : decode cX4_setWindow 48 = .ok (.isub, 1) := dk_100 (dk_at dksX4_setWindow_2 1 rfl rfl)
theorem dX4_setWindow_49 : decode cX4_setWindow 49 = .ok (.i2l, 1) := dk_133 (dk_at dksX4_setWindow_2 2 rfl rfl)
theorem dX4_setWindow_50 : decode cX4_setWindow 50 = .ok (.invokestatic 51, 3) := dk_184 0 51 (dk_at dksX4_setWindow_2 3 rfl rfl)
theorem dX4_setWindow_53 : decode cX4_setWindow 53 = .ok (.ifCond .eq 19, 3) := dk_153 0 19 (dk_at dksX4_setWindow_2 6 rfl rfl)
theorem dX4_setWindow_56 : decode cX4_setWindow 56 = .ok (.iload_n 2, 1) := dk_28 (dk_at dksX4_setWindow_2 9 rfl rfl)
theorem dX4_setWindow_57 : decode cX4_setWindow 57 = .ok (.i2l, 1) := dk_133 (dk_at dksX4_setWindow_2 10 rfl rfl)
theorem dX4_setWindow_58 : decode cX4_setWindow 58 = .ok (.lconst 0, 1) := dk_9 (dk_at dksX4_setWindow_2 11 rfl rfl)
theorem dX4_setWindow_59 : decode cX4_setWindow 59 = .ok (.sipush 200, 3) := dk_17 0 200 (dk_at dksX4_setWindow_2 12 rfl rfl)
theorem dX4_setWindow_62 : decode cX4_setWindow 62 = .ok (.iload 4, 2) := dk_21 4 (dk_at dksX4_setWindow_2 15 rfl rfl)
theorem dX4_setWindow_64 : decode cX4_setWindow 64 = .ok (.isub, 1) := dk_100 (dk_at dksX4_setWindow_2 17 rfl rfl)
theorem dX4_setWindow_65 : decode cX4_setWindow 65 = .ok (.i2l, 1) := dk_133 (dk_at dksX4_setWindow_2 18 rfl rfl)
theorem dX4_setWindow_66 : decode cX4_setWindow 66 = .ok (.invokestatic 51, 3) := dk_184 0 51 (dk_at dksX4_setWindow_2 19 rfl rfl)
theorem dX4_setWindow_69 : decode cX4_setWindow 69 = .ok (.ifCond .ne 6, 3) := dk_154 0 6 (dk_at dksX4_setWindow_3 0 rfl rfl)
theorem dX4_setWindow_72 : decode cX4_setWindow 72 = .ok (.bipush (-2), 2) := dk_16 254 (dk_at dksX4_setWindow_3 3 rfl rfl)
theorem dX4_setWindow_74 : decode cX4_setWindow 74 = .ok (.ireturn, 1) := dk_172 (dk_at dksX4_setWindow_3 5 rfl rfl)
theorem dX4_setWindow_75 : decode cX4_setWindow 75 = .ok (.aload_n 0, 1) := dk_42 (dk_at dksX4_setWindow_3 6 rfl rfl)
theorem dX4_setWindow_76 : decode cX4_setWindow 76 = .ok (.iload_n 1, 1) := dk_27 (dk_at dksX4_setWindow_3 7 rfl rfl)
theorem dX4_setWindow_77 : decode cX4_setWindow 77 = .ok (.putfield 55, 3) := dk_181 0 55 (dk_at dksX4_setWindow_3 8 rfl rfl)
theorem dX4_setWindow_80 : decode cX4_setWindow 80 = .ok (.aload_n 0, 1) := dk_42 (dk_at dksX4_setWindow_3 11 rfl rfl)
theorem dX4_setWindow_81 : decode cX4_setWindow 81 = .ok (.iload_n 2, 1) := dk_28 (dk_at dksX4_setWindow_3 12 rfl rfl)
theorem dX4_setWindow_82 : decode cX4_setWindow 82 = .ok (.putfield 58, 3) := dk_181 0 58 (dk_at dksX4_setWindow_3 13 rfl rfl)
theorem dX4_setWindow_85 : decode cX4_setWindow 85 = .ok (.aload_n 0, 1) := dk_42 (dk_at dksX4_setWindow_3 16 rfl rfl)
theorem dX4_setWindow_86 : decode cX4_setWindow 86 = .ok (.iload_n 3, 1) := dk_29 (dk_at dksX4_setWindow_3 17 rfl rfl)
theorem dX4_setWindow_87 : decode cX4_setWindow 87 = .ok (.putfield 13, 3) := dk_181 0 13 (dk_at dksX4_setWindow_3 18 rfl rfl)
theorem dX4_setWindow_90 : decode cX4_setWindow 90 = .ok (.aload_n 0, 1) := dk_42 (dk_at dksX4_setWindow_3 21 rfl rfl)
theorem dX4_setWindow_91 : decode cX4_setWindow 91 = .ok (.iload 4, 2) := dk_21 4 (dk_at dksX4_setWindow_3 22 rfl rfl)
theorem dX4_setWindow_93 : decode cX4_setWindow 93 = .ok (.putfield 17, 3) := dk_181 0 17 (dk_at dksX4_setWindow_4 0 rfl rfl)
theorem dX4_setWindow_96 : decode cX4_setWindow 96 = .ok (.aload_n 0, 1) := dk_42 (dk_at dksX4_setWindow_4 3 rfl rfl)
theorem dX4_setWindow_97 : decode cX4_setWindow 97 = .ok (.invokevirtual 102, 3) := dk_182 0 102 (dk_at dksX4_setWindow_4 4 rfl rfl)
theorem dX4_setWindow_100 : decode cX4_setWindow 100 = .ok (.aload_n 0, 1) := dk_42 (dk_at dksX4_setWindow_4 7 rfl rfl)
theorem dX4_setWindow_101 : decode cX4_setWindow 101 = .ok (.invokevirtual 125, 3) := dk_182 0 125 (dk_at dksX4_setWindow_4 8 rfl rfl)
theorem dX4_setWindow_104 : decode cX4_setWindow 104 = .ok (.ireturn, 1) := dk_172 (dk_at dksX4_setWindow_4 11 rfl rfl)
abbrev cX4_visible : ByteArray := prog_17_method_24_code
def yX4_visible : MethodName := ⟨RX4, "visible", "()I"⟩
def dkwX4_visible_1 : List UInt8 := [167, 0, 4, 3, 96, 60, 132, 2, 1, 167, 255, 229, 27, 172]
abbrev dktX4_visible_1 : List UInt8 := dkwX4_visible_1 ++ []
def dkwX4_visible_0 : List UInt8 := [3, 60, 3, 61, 28, 42, 180, 0, 48, 162, 0, 25, 27, 42, 28, 182, 0, 68, 153, 0, 7, 4]
abbrev dktX4_visible_0 : List UInt8 := dkwX4_visible_0 ++ dktX4_visible_1
theorem dksX4_visible_0 : cX4_visible.data.toList.drop 0 = dktX4_visible_0 := by decide +kernel
theorem dksX4_visible_1 : cX4_visible.data.toList.drop 22 = dktX4_visible_1 := dk_seg dksX4_visible_0 22 rfl rfl
theorem dX4_visible_0 : decode cX4_visible 0 = .ok (.iconst 0, 1) := dk_3 (dk_at dksX4_visible_0 0 rfl rfl)
theorem dX4_visible_1 : decode cX4_visible 1 = .ok (.istore_n 1, 1) := dk_60 (dk_at dksX4_visible_0 1 rfl rfl)
theorem dX4_visible_2 : decode cX4_visible 2 = .ok (.iconst 0, 1) := dk_3 (dk_at dksX4_visible_0 2 rfl rfl)
theorem dX4_visible_3 : decode cX4_visible 3 = .ok (.istore_n 2, 1) := dk_61 (dk_at dksX4_visible_0 3 rfl rfl)
theorem dX4_visible_4 : decode cX4_visible 4 = .ok (.iload_n 2, 1) := dk_28 (dk_at dksX4_visible_0 4 rfl rfl)
theorem dX4_visible_5 : decode cX4_visible 5 = .ok (.aload_n 0, 1) := dk_42 (dk_at dksX4_visible_0 5 rfl rfl)
theorem dX4_visible_6 : decode cX4_visible 6 = .ok (.getfield 48, 3) := dk_180 0 48 (dk_at dksX4_visible_0 6 rfl rfl)
theorem dX4_visible_9 : decode cX4_visible 9 = .ok (.if_icmp .ge 25, 3) := dk_162 0 25 (dk_at dksX4_visible_0 9 rfl rfl)
theorem dX4_visible_12 : decode cX4_visible 12 = .ok (.iload_n 1, 1) := dk_27 (dk_at dksX4_visible_0 12 rfl rfl)
theorem dX4_visible_13 : decode cX4_visible 13 = .ok (.aload_n 0, 1) := dk_42 (dk_at dksX4_visible_0 13 rfl rfl)
theorem dX4_visible_14 : decode cX4_visible 14 = .ok (.iload_n 2, 1) := dk_28 (dk_at dksX4_visible_0 14 rfl rfl)
theorem dX4_visible_15 : decode cX4_visible 15 = .ok (.invokevirtual 68, 3) := dk_182 0 68 (dk_at dksX4_visible_0 15 rfl rfl)
theorem dX4_visible_18 : decode cX4_visible 18 = .ok (.ifCond .eq 7, 3) := dk_153 0 7 (dk_at dksX4_visible_0 18 rfl rfl)
theorem dX4_visible_21 : decode cX4_visible 21 = .ok (.iconst 1, 1) := dk_4 (dk_at dksX4_visible_0 21 rfl rfl)
theorem dX4_visible_22 : decode cX4_visible 22 = .ok (.goto 4, 3) := dk_167 0 4 (dk_at dksX4_visible_1 0 rfl rfl)
theorem dX4_visible_25 : decode cX4_visible 25 = .ok (.iconst 0, 1) := dk_3 (dk_at dksX4_visible_1 3 rfl rfl)
theorem dX4_visible_26 : decode cX4_visible 26 = .ok (.iadd, 1) := dk_96 (dk_at dksX4_visible_1 4 rfl rfl)
theorem dX4_visible_27 : decode cX4_visible 27 = .ok (.istore_n 1, 1) := dk_60 (dk_at dksX4_visible_1 5 rfl rfl)
theorem dX4_visible_28 : decode cX4_visible 28 = .ok (.iinc 2 1, 3) := dk_132 2 1 (dk_at dksX4_visible_1 6 rfl rfl)
theorem dX4_visible_31 : decode cX4_visible 31 = .ok (.goto (-27), 3) := dk_167 255 229 (dk_at dksX4_visible_1 9 rfl rfl)
theorem dX4_visible_34 : decode cX4_visible 34 = .ok (.iload_n 1, 1) := dk_27 (dk_at dksX4_visible_1 12 rfl rfl)
theorem dX4_visible_35 : decode cX4_visible 35 = .ok (.ireturn, 1) := dk_172 (dk_at dksX4_visible_1 13 rfl rfl)
abbrev cX4_pan : ByteArray := prog_17_method_26_code
def yX4_pan : MethodName := ⟨RX4, "pan", "(II)I"⟩
def dkwX4_pan_4 : List UInt8 := [29, 172]
abbrev dktX4_pan_4 : List UInt8 := dkwX4_pan_4 ++ []
def dkwX4_pan_3 : List UInt8 := [182, 0, 102, 42, 182, 0, 129, 62, 42, 182, 0, 132, 54, 4, 21, 4, 156, 0, 8, 21, 4, 167, 0, 4]
abbrev dktX4_pan_3 : List UInt8 := dkwX4_pan_3 ++ dktX4_pan_4
def dkwX4_pan_2 : List UInt8 := [16, 254, 172, 42, 89, 180, 0, 55, 27, 96, 181, 0, 55, 42, 89, 180, 0, 58, 28, 96, 181, 0, 58, 42]
abbrev dktX4_pan_2 : List UInt8 := dkwX4_pan_2 ++ dktX4_pan_3
def dkwX4_pan_1 : List UInt8 := [42, 180, 0, 58, 133, 28, 133, 97, 9, 17, 0, 200, 42, 180, 0, 17, 100, 133, 184, 0, 51, 154, 0, 6]
abbrev dktX4_pan_1 : List UInt8 := dkwX4_pan_1 ++ dktX4_pan_2
def dkwX4_pan_0 : List UInt8 := [42, 180, 0, 55, 133, 27, 133, 97, 9, 17, 0, 200, 42, 180, 0, 13, 100, 133, 184, 0, 51, 153, 0, 27]
abbrev dktX4_pan_0 : List UInt8 := dkwX4_pan_0 ++ dktX4_pan_1
theorem dksX4_pan_0 : cX4_pan.data.toList.drop 0 = dktX4_pan_0 := by decide +kernel
theorem dksX4_pan_1 : cX4_pan.data.toList.drop 24 = dktX4_pan_1 := dk_seg dksX4_pan_0 24 rfl rfl
theorem dksX4_pan_2 : cX4_pan.data.toList.drop 48 = dktX4_pan_2 := dk_seg dksX4_pan_1 24 rfl rfl
theorem dksX4_pan_3 : cX4_pan.data.toList.drop 72 = dktX4_pan_3 := dk_seg dksX4_pan_2 24 rfl rfl
theorem dksX4_pan_4 : cX4_pan.data.toList.drop 96 = dktX4_pan_4 := dk_seg dksX4_pan_3 24 rfl rfl
theorem dX4_pan_0 : decode cX4_pan 0 = .ok (.aload_n 0, 1) := dk_42 (dk_at dksX4_pan_0 0 rfl rfl)
theorem dX4_pan_1 : decode cX4_pan 1 = .ok (.getfield 55, 3) := dk_180 0 55 (dk_at dksX4_pan_0 1 rfl rfl)
theorem dX4_pan_4 : decode cX4_pan 4 = .ok (.i2l, 1) := dk_133 (dk_at dksX4_pan_0 4 rfl rfl)
theorem dX4_pan_5 : decode cX4_pan 5 = .ok (.iload_n 1, 1) := dk_27 (dk_at dksX4_pan_0 5 rfl rfl)
theorem dX4_pan_6 : decode cX4_pan 6 = .ok (.i2l, 1) := dk_133 (dk_at dksX4_pan_0 6 rfl rfl)
theorem dX4_pan_7 : decode cX4_pan 7 = .ok (.ladd, 1) := dk_97 (dk_at dksX4_pan_0 7 rfl rfl)
theorem dX4_pan_8 : decode cX4_pan 8 = .ok (.lconst 0, 1) := dk_9 (dk_at dksX4_pan_0 8 rfl rfl)
theorem dX4_pan_9 : decode cX4_pan 9 = .ok (.sipush 200, 3) := dk_17 0 200 (dk_at dksX4_pan_0 9 rfl rfl)
theorem dX4_pan_12 : decode cX4_pan 12 = .ok (.aload_n 0, 1) := dk_42 (dk_at dksX4_pan_0 12 rfl rfl)
theorem dX4_pan_13 : decode cX4_pan 13 = .ok (.getfield 13, 3) := dk_180 0 13 (dk_at dksX4_pan_0 13 rfl rfl)
theorem dX4_pan_16 : decode cX4_pan 16 = .ok (.isub, 1) := dk_100 (dk_at dksX4_pan_0 16 rfl rfl)
theorem dX4_pan_17 : decode cX4_pan 17 = .ok (.i2l, 1) := dk_133 (dk_at dksX4_pan_0 17 rfl rfl)
theorem dX4_pan_18 : decode cX4_pan 18 = .ok (.invokestatic 51, 3) := dk_184 0 51 (dk_at dksX4_pan_0 18 rfl rfl)
theorem dX4_pan_21 : decode cX4_pan 21 = .ok (.ifCond .eq 27, 3) := dk_153 0 27 (dk_at dksX4_pan_0 21 rfl rfl)
theorem dX4_pan_24 : decode cX4_pan 24 = .ok (.aload_n 0, 1) := dk_42 (dk_at dksX4_pan_1 0 rfl rfl)
theorem dX4_pan_25 : decode cX4_pan 25 = .ok (.getfield 58, 3) := dk_180 0 58 (dk_at dksX4_pan_1 1 rfl rfl)
theorem dX4_pan_28 : decode cX4_pan 28 = .ok (.i2l, 1) := dk_133 (dk_at dksX4_pan_1 4 rfl rfl)
theorem dX4_pan_29 : decode cX4_pan 29 = .ok (.iload_n 2, 1) := dk_28 (dk_at dksX4_pan_1 5 rfl rfl)
theorem dX4_pan_30 : decode cX4_pan 30 = .ok (.i2l, 1) := dk_133 (dk_at dksX4_pan_1 6 rfl rfl)
theorem dX4_pan_31 : decode cX4_pan 31 = .ok (.ladd, 1) := dk_97 (dk_at dksX4_pan_1 7 rfl rfl)
theorem dX4_pan_32 : decode cX4_pan 32 = .ok (.lconst 0, 1) := dk_9 (dk_at dksX4_pan_1 8 rfl rfl)
theorem dX4_pan_33 : decode cX4_pan 33 = .ok (.sipush 200, 3) := dk_17 0 200 (dk_at dksX4_pan_1 9 rfl rfl)
theorem dX4_pan_36 : decode cX4_pan 36 = .ok (.aload_n 0, 1) := dk_42 (dk_at dksX4_pan_1 12 rfl rfl)
theorem dX4_pan_37 : decode cX4_pan 37 = .ok (.getfield 17, 3) := dk_180 0 17 (dk_at dksX4_pan_1 13 rfl rfl)
theorem dX4_pan_40 : decode cX4_pan 40 = .ok (.isub, 1) := dk_100 (dk_at dksX4_pan_1 16 rfl rfl)
theorem dX4_pan_41 : decode cX4_pan 41 = .ok (.i2l, 1) := dk_133 (dk_at dksX4_pan_1 17 rfl rfl)
theorem dX4_pan_42 : decode cX4_pan 42 = .ok (.invokestatic 51, 3) := dk_184 0 51 (dk_at dksX4_pan_1 18 rfl rfl)
theorem dX4_pan_45 : decode cX4_pan 45 = .ok (.ifCond .ne 6, 3) := dk_154 0 6 (dk_at dksX4_pan_1 21 rfl rfl)
theorem dX4_pan_48 : decode cX4_pan 48 = .ok (.bipush (-2), 2) := dk_16 254 (dk_at dksX4_pan_2 0 rfl rfl)
theorem dX4_pan_50 : decode cX4_pan 50 = .ok (.ireturn, 1) := dk_172 (dk_at dksX4_pan_2 2 rfl rfl)
theorem dX4_pan_51 : decode cX4_pan 51 = .ok (.aload_n 0, 1) := dk_42 (dk_at dksX4_pan_2 3 rfl rfl)
theorem dX4_pan_52 : decode cX4_pan 52 = .ok (.dup, 1) := dk_89 (dk_at dksX4_pan_2 4 rfl rfl)
theorem dX4_pan_53 : decode cX4_pan 53 = .ok (.getfield 55, 3) := dk_180 0 55 (dk_at dksX4_pan_2 5 rfl rfl)
theorem dX4_pan_56 : decode cX4_pan 56 = .ok (.iload_n 1, 1) := dk_27 (dk_at dksX4_pan_2 8 rfl rfl)
theorem dX4_pan_57 : decode cX4_pan 57 = .ok (.iadd, 1) := dk_96 (dk_at dksX4_pan_2 9 rfl rfl)
theorem dX4_pan_58 : decode cX4_pan 58 = .ok (.putfield 55, 3) := dk_181 0 55 (dk_at dksX4_pan_2 10 rfl rfl)
theorem dX4_pan_61 : decode cX4_pan 61 = .ok (.aload_n 0, 1) := dk_42 (dk_at dksX4_pan_2 13 rfl rfl)
theorem dX4_pan_62 : decode cX4_pan 62 = .ok (.dup, 1) := dk_89 (dk_at dksX4_pan_2 14 rfl rfl)
theorem dX4_pan_63 : decode cX4_pan 63 = .ok (.getfield 58, 3) := dk_180 0 58 (dk_at dksX4_pan_2 15 rfl rfl)
theorem dX4_pan_66 : decode cX4_pan 66 = .ok (.iload_n 2, 1) := dk_28 (dk_at dksX4_pan_2 18 rfl rfl)
theorem dX4_pan_67 : decode cX4_pan 67 = .ok (.iadd, 1) := dk_96 (dk_at dksX4_pan_2 19 rfl rfl)
theorem dX4_pan_68 : decode cX4_pan 68 = .ok (.putfield 58, 3) := dk_181 0 58 (dk_at dksX4_pan_2 20 rfl rfl)
theorem dX4_pan_71 : decode cX4_pan 71 = .ok (.aload_n 0, 1) := dk_42 (dk_at dksX4_pan_2 23 rfl rfl)
theorem dX4_pan_72 : decode cX4_pan 72 = .ok (.invokevirtual 102, 3) := dk_182 0 102 (dk_at dksX4_pan_3 0 rfl rfl)
theorem dX4_pan_75 : decode cX4_pan 75 = .ok (.aload_n 0, 1) := dk_42 (dk_at dksX4_pan_3 3 rfl rfl)
theorem dX4_pan_76 : decode cX4_pan 76 = .ok (.invokevirtual 129, 3) := dk_182 0 129 (dk_at dksX4_pan_3 4 rfl rfl)
theorem dX4_pan_79 : decode cX4_pan 79 = .ok (.istore_n 3, 1) := dk_62 (dk_at dksX4_pan_3 7 rfl rfl)
theorem dX4_pan_80 : decode cX4_pan 80 = .ok (.aload_n 0, 1) := dk_42 (dk_at dksX4_pan_3 8 rfl rfl)
theorem dX4_pan_81 : decode cX4_pan 81 = .ok (.invokevirtual 132, 3) := dk_182 0 132 (dk_at dksX4_pan_3 9 rfl rfl)
theorem dX4_pan_84 : decode cX4_pan 84 = .ok (.istore 4, 2) := dk_54 4 (dk_at dksX4_pan_3 12 rfl rfl)
theorem dX4_pan_86 : decode cX4_pan 86 = .ok (.iload 4, 2) := dk_21 4 (dk_at dksX4_pan_3 14 rfl rfl)
theorem dX4_pan_88 : decode cX4_pan 88 = .ok (.ifCond .ge 8, 3) := dk_156 0 8 (dk_at dksX4_pan_3 16 rfl rfl)
theorem dX4_pan_91 : decode cX4_pan 91 = .ok (.iload 4, 2) := dk_21 4 (dk_at dksX4_pan_3 19 rfl rfl)
theorem dX4_pan_93 : decode cX4_pan 93 = .ok (.goto 4, 3) := dk_167 0 4 (dk_at dksX4_pan_3 21 rfl rfl)
theorem dX4_pan_96 : decode cX4_pan 96 = .ok (.iload_n 3, 1) := dk_29 (dk_at dksX4_pan_4 0 rfl rfl)
theorem dX4_pan_97 : decode cX4_pan 97 = .ok (.ireturn, 1) := dk_172 (dk_at dksX4_pan_4 1 rfl rfl)
abbrev cX4_shown : ByteArray := prog_17_method_14_code
def yX4_shown : MethodName := ⟨RX4, "shown", "()I"⟩
def dkwX4_shown_1 : List UInt8 := [159, 0, 7, 4, 167, 0, 4, 3, 96, 60, 132, 2, 1, 167, 255, 224, 27, 172]
abbrev dktX4_shown_1 : List UInt8 := dkwX4_shown_1 ++ []
def dkwX4_shown_0 : List UInt8 := [3, 60, 3, 61, 28, 42, 180, 0, 48, 162, 0, 30, 27, 42, 180, 0, 7, 16, 120, 28, 96, 46, 2]
abbrev dktX4_shown_0 : List UInt8 := dkwX4_shown_0 ++ dktX4_shown_1
theorem dksX4_shown_0 : cX4_shown.data.toList.drop 0 = dktX4_shown_0 := by decide +kernel
theorem dksX4_shown_1 : cX4_shown.data.toList.drop 23 = dktX4_shown_1 := dk_seg dksX4_shown_0 23 rfl rfl
theorem dX4_shown_0 : decode cX4_shown 0 = .ok (.iconst 0, 1) := dk_3 (dk_at dksX4_shown_0 0 rfl rfl)
theorem dX4_shown_1 : decode cX4_shown 1 = .ok (.istore_n 1, 1) := dk_60 (dk_at dksX4_shown_0 1 rfl rfl)
theorem dX4_shown_2 : decode cX4_shown 2 = .ok (.iconst 0, 1) := dk_3 (dk_at dksX4_shown_0 2 rfl rfl)
theorem dX4_shown_3 : decode cX4_shown 3 = .ok (.istore_n 2, 1) := dk_61 (dk_at dksX4_shown_0 3 rfl rfl)
theorem dX4_shown_4 : decode cX4_shown 4 = .ok (.iload_n 2, 1) := dk_28 (dk_at dksX4_shown_0 4 rfl rfl)
theorem dX4_shown_5 : decode cX4_shown 5 = .ok (.aload_n 0, 1) := dk_42 (dk_at dksX4_shown_0 5 rfl rfl)
theorem dX4_shown_6 : decode cX4_shown 6 = .ok (.getfield 48, 3) := dk_180 0 48 (dk_at dksX4_shown_0 6 rfl rfl)
theorem dX4_shown_9 : decode cX4_shown 9 = .ok (.if_icmp .ge 30, 3) := dk_162 0 30 (dk_at dksX4_shown_0 9 rfl rfl)
theorem dX4_shown_12 : decode cX4_shown 12 = .ok (.iload_n 1, 1) := dk_27 (dk_at dksX4_shown_0 12 rfl rfl)
theorem dX4_shown_13 : decode cX4_shown 13 = .ok (.aload_n 0, 1) := dk_42 (dk_at dksX4_shown_0 13 rfl rfl)
theorem dX4_shown_14 : decode cX4_shown 14 = .ok (.getfield 7, 3) := dk_180 0 7 (dk_at dksX4_shown_0 14 rfl rfl)
theorem dX4_shown_17 : decode cX4_shown 17 = .ok (.bipush 120, 2) := dk_16 120 (dk_at dksX4_shown_0 17 rfl rfl)
theorem dX4_shown_19 : decode cX4_shown 19 = .ok (.iload_n 2, 1) := dk_28 (dk_at dksX4_shown_0 19 rfl rfl)
theorem dX4_shown_20 : decode cX4_shown 20 = .ok (.iadd, 1) := dk_96 (dk_at dksX4_shown_0 20 rfl rfl)
theorem dX4_shown_21 : decode cX4_shown 21 = .ok (.iaload, 1) := dk_46 (dk_at dksX4_shown_0 21 rfl rfl)
theorem dX4_shown_22 : decode cX4_shown 22 = .ok (.iconst (-1), 1) := dk_2 (dk_at dksX4_shown_0 22 rfl rfl)
theorem dX4_shown_23 : decode cX4_shown 23 = .ok (.if_icmp .eq 7, 3) := dk_159 0 7 (dk_at dksX4_shown_1 0 rfl rfl)
theorem dX4_shown_26 : decode cX4_shown 26 = .ok (.iconst 1, 1) := dk_4 (dk_at dksX4_shown_1 3 rfl rfl)
theorem dX4_shown_27 : decode cX4_shown 27 = .ok (.goto 4, 3) := dk_167 0 4 (dk_at dksX4_shown_1 4 rfl rfl)
theorem dX4_shown_30 : decode cX4_shown 30 = .ok (.iconst 0, 1) := dk_3 (dk_at dksX4_shown_1 7 rfl rfl)
theorem dX4_shown_31 : decode cX4_shown 31 = .ok (.iadd, 1) := dk_96 (dk_at dksX4_shown_1 8 rfl rfl)
theorem dX4_shown_32 : decode cX4_shown 32 = .ok (.istore_n 1, 1) := dk_60 (dk_at dksX4_shown_1 9 rfl rfl)
theorem dX4_shown_33 : decode cX4_shown 33 = .ok (.iinc 2 1, 3) := dk_132 2 1 (dk_at dksX4_shown_1 10 rfl rfl)
theorem dX4_shown_36 : decode cX4_shown 36 = .ok (.goto (-32), 3) := dk_167 255 224 (dk_at dksX4_shown_1 13 rfl rfl)
theorem dX4_shown_39 : decode cX4_shown 39 = .ok (.iload_n 1, 1) := dk_27 (dk_at dksX4_shown_1 16 rfl rfl)
theorem dX4_shown_40 : decode cX4_shown 40 = .ok (.ireturn, 1) := dk_172 (dk_at dksX4_shown_1 17 rfl rfl)
abbrev cX4_fill : ByteArray := prog_17_method_34_code
def yX4_fill : MethodName := ⟨RX4, "fill", "()I"⟩
def dkwX4_fill_4 : List UInt8 := [132, 2, 1, 167, 255, 174, 27, 172]
abbrev dktX4_fill_4 : List UInt8 := dkwX4_fill_4 ++ []
def dkwX4_fill_3 : List UInt8 := [154, 0, 17, 42, 180, 0, 7, 16, 120, 29, 96, 21, 4, 79, 132, 1, 1, 132, 4, 1, 167, 255, 198]
abbrev dktX4_fill_3 : List UInt8 := dkwX4_fill_3 ++ dktX4_fill_4
def dkwX4_fill_2 : List UInt8 := [180, 0, 20, 16, 8, 29, 104, 21, 4, 96, 51, 153, 0, 28, 42, 29, 21, 4, 2, 182, 0, 108]
abbrev dktX4_fill_2 : List UInt8 := dkwX4_fill_2 ++ dktX4_fill_3
def dkwX4_fill_1 : List UInt8 := [28, 46, 62, 3, 54, 4, 21, 4, 16, 8, 162, 0, 57, 42, 29, 182, 0, 151, 153, 0, 49, 42]
abbrev dktX4_fill_1 : List UInt8 := dkwX4_fill_1 ++ dktX4_fill_2
def dkwX4_fill_0 : List UInt8 := [42, 182, 0, 83, 42, 182, 0, 148, 3, 60, 3, 61, 28, 42, 180, 0, 48, 162, 0, 80, 42, 180, 0, 24]
abbrev dktX4_fill_0 : List UInt8 := dkwX4_fill_0 ++ dktX4_fill_1
theorem dksX4_fill_0 : cX4_fill.data.toList.drop 0 = dktX4_fill_0 := by decide +kernel
theorem dksX4_fill_1 : cX4_fill.data.toList.drop 24 = dktX4_fill_1 := dk_seg dksX4_fill_0 24 rfl rfl
theorem dksX4_fill_2 : cX4_fill.data.toList.drop 46 = dktX4_fill_2 := dk_seg dksX4_fill_1 22 rfl rfl
theorem dksX4_fill_3 : cX4_fill.data.toList.drop 68 = dktX4_fill_3 := dk_seg dksX4_fill_2 22 rfl rfl
theorem dksX4_fill_4 : cX4_fill.data.toList.drop 91 = dktX4_fill_4 := dk_seg dksX4_fill_3 23 rfl rfl
theorem dX4_fill_0 : decode cX4_fill 0 = .ok (.aload_n 0, 1) := dk_42 (dk_at dksX4_fill_0 0 rfl rfl)
theorem dX4_fill_1 : decode cX4_fill 1 = .ok (.invokevirtual 83, 3) := dk_182 0 83 (dk_at dksX4_fill_0 1 rfl rfl)
theorem dX4_fill_4 : decode cX4_fill 4 = .ok (.aload_n 0, 1) := dk_42 (dk_at dksX4_fill_0 4 rfl rfl)
theorem dX4_fill_5 : decode cX4_fill 5 = .ok (.invokevirtual 148, 3) := dk_182 0 148 (dk_at dksX4_fill_0 5 rfl rfl)
theorem dX4_fill_8 : decode cX4_fill 8 = .ok (.iconst 0, 1) := dk_3 (dk_at dksX4_fill_0 8 rfl rfl)
theorem dX4_fill_9 : decode cX4_fill 9 = .ok (.istore_n 1, 1) := dk_60 (dk_at dksX4_fill_0 9 rfl rfl)
theorem dX4_fill_10 : decode cX4_fill 10 = .ok (.iconst 0, 1) := dk_3 (dk_at dksX4_fill_0 10 rfl rfl)
theorem dX4_fill_11 : decode cX4_fill 11 = .ok (.istore_n 2, 1) := dk_61 (dk_at dksX4_fill_0 11 rfl rfl)
theorem dX4_fill_12 : decode cX4_fill 12 = .ok (.iload_n 2, 1) := dk_28 (dk_at dksX4_fill_0 12 rfl rfl)
theorem dX4_fill_13 : decode cX4_fill 13 = .ok (.aload_n 0, 1) := dk_42 (dk_at dksX4_fill_0 13 rfl rfl)
theorem dX4_fill_14 : decode cX4_fill 14 = .ok (.getfield 48, 3) := dk_180 0 48 (dk_at dksX4_fill_0 14 rfl rfl)
theorem dX4_fill_17 : decode cX4_fill 17 = .ok (.if_icmp .ge 80, 3) := dk_162 0 80 (dk_at dksX4_fill_0 17 rfl rfl)
theorem dX4_fill_20 : decode cX4_fill 20 = .ok (.aload_n 0, 1) := dk_42 (dk_at dksX4_fill_0 20 rfl rfl)
theorem dX4_fill_21 : decode cX4_fill 21 = .ok (.getfield 24, 3) := dk_180 0 24 (dk_at dksX4_fill_0 21 rfl rfl)
theorem dX4_fill_24 : decode cX4_fill 24 = .ok (.iload_n 2, 1) := dk_28 (dk_at dksX4_fill_1 0 rfl rfl)
theorem dX4_fill_25 : decode cX4_fill 25 = .ok (.iaload, 1) := dk_46 (dk_at dksX4_fill_1 1 rfl rfl)
theorem dX4_fill_26 : decode cX4_fill 26 = .ok (.istore_n 3, 1) := dk_62 (dk_at dksX4_fill_1 2 rfl rfl)
theorem dX4_fill_27 : decode cX4_fill 27 = .ok (.iconst 0, 1) := dk_3 (dk_at dksX4_fill_1 3 rfl rfl)
theorem dX4_fill_28 : decode cX4_fill 28 = .ok (.istore 4, 2) := dk_54 4 (dk_at dksX4_fill_1 4 rfl rfl)
theorem dX4_fill_30 : decode cX4_fill 30 = .ok (.iload 4, 2) := dk_21 4 (dk_at dksX4_fill_1 6 rfl rfl)
theorem dX4_fill_32 : decode cX4_fill 32 = .ok (.bipush 8, 2) := dk_16 8 (dk_at dksX4_fill_1 8 rfl rfl)
theorem dX4_fill_34 : decode cX4_fill 34 = .ok (.if_icmp .ge 57, 3) := dk_162 0 57 (dk_at dksX4_fill_1 10 rfl rfl)
theorem dX4_fill_37 : decode cX4_fill 37 = .ok (.aload_n 0, 1) := dk_42 (dk_at dksX4_fill_1 13 rfl rfl)
theorem dX4_fill_38 : decode cX4_fill 38 = .ok (.iload_n 3, 1) := dk_29 (dk_at dksX4_fill_1 14 rfl rfl)
theorem dX4_fill_39 : decode cX4_fill 39 = .ok (.invokevirtual 151, 3) := dk_182 0 151 (dk_at dksX4_fill_1 15 rfl rfl)
theorem dX4_fill_42 : decode cX4_fill 42 = .ok (.ifCond .eq 49, 3) := dk_153 0 49 (dk_at dksX4_fill_1 18 rfl rfl)
theorem dX4_fill_45 : decode cX4_fill 45 = .ok (.aload_n 0, 1) := dk_42 (dk_at dksX4_fill_1 21 rfl rfl)
theorem dX4_fill_46 : decode cX4_fill 46 = .ok (.getfield 20, 3) := dk_180 0 20 (dk_at dksX4_fill_2 0 rfl rfl)
theorem dX4_fill_49 : decode cX4_fill 49 = .ok (.bipush 8, 2) := dk_16 8 (dk_at dksX4_fill_2 3 rfl rfl)
theorem dX4_fill_51 : decode cX4_fill 51 = .ok (.iload_n 3, 1) := dk_29 (dk_at dksX4_fill_2 5 rfl rfl)
theorem dX4_fill_52 : decode cX4_fill 52 = .ok (.imul, 1) := dk_104 (dk_at dksX4_fill_2 6 rfl rfl)
theorem dX4_fill_53 : decode cX4_fill 53 = .ok (.iload 4, 2) := dk_21 4 (dk_at dksX4_fill_2 7 rfl rfl)
theorem dX4_fill_55 : decode cX4_fill 55 = .ok (.iadd, 1) := dk_96 (dk_at dksX4_fill_2 9 rfl rfl)
theorem dX4_fill_56 : decode cX4_fill 56 = .ok (.baload, 1) := dk_51 (dk_at dksX4_fill_2 10 rfl rfl)
theorem dX4_fill_57 : decode cX4_fill 57 = .ok (.ifCond .eq 28, 3) := dk_153 0 28 (dk_at dksX4_fill_2 11 rfl rfl)
theorem dX4_fill_60 : decode cX4_fill 60 = .ok (.aload_n 0, 1) := dk_42 (dk_at dksX4_fill_2 14 rfl rfl)
theorem dX4_fill_61 : decode cX4_fill 61 = .ok (.iload_n 3, 1) := dk_29 (dk_at dksX4_fill_2 15 rfl rfl)
theorem dX4_fill_62 : decode cX4_fill 62 = .ok (.iload 4, 2) := dk_21 4 (dk_at dksX4_fill_2 16 rfl rfl)
theorem dX4_fill_64 : decode cX4_fill 64 = .ok (.iconst (-1), 1) := dk_2 (dk_at dksX4_fill_2 18 rfl rfl)
theorem dX4_fill_65 : decode cX4_fill 65 = .ok (.invokevirtual 108, 3) := dk_182 0 108 (dk_at dksX4_fill_2 19 rfl rfl)
theorem dX4_fill_68 : decode cX4_fill 68 = .ok (.ifCond .ne 17, 3) := dk_154 0 17 (dk_at dksX4_fill_3 0 rfl rfl)
theorem dX4_fill_71 : decode cX4_fill 71 = .ok (.aload_n 0, 1) := dk_42 (dk_at dksX4_fill_3 3 rfl rfl)
theorem dX4_fill_72 : decode cX4_fill 72 = .ok (.getfield 7, 3) := dk_180 0 7 (dk_at dksX4_fill_3 4 rfl rfl)
theorem dX4_fill_75 : decode cX4_fill 75 = .ok (.bipush 120, 2) := dk_16 120 (dk_at dksX4_fill_3 7 rfl rfl)
theorem dX4_fill_77 : decode cX4_fill 77 = .ok (.iload_n 3, 1) := dk_29 (dk_at dksX4_fill_3 9 rfl rfl)
theorem dX4_fill_78 : decode cX4_fill 78 = .ok (.iadd, 1) := dk_96 (dk_at dksX4_fill_3 10 rfl rfl)
theorem dX4_fill_79 : decode cX4_fill 79 = .ok (.iload 4, 2) := dk_21 4 (dk_at dksX4_fill_3 11 rfl rfl)
theorem dX4_fill_81 : decode cX4_fill 81 = .ok (.iastore, 1) := dk_79 (dk_at dksX4_fill_3 13 rfl rfl)
theorem dX4_fill_82 : decode cX4_fill 82 = .ok (.iinc 1 1, 3) := dk_132 1 1 (dk_at dksX4_fill_3 14 rfl rfl)
theorem dX4_fill_85 : decode cX4_fill 85 = .ok (.iinc 4 1, 3) := dk_132 4 1 (dk_at dksX4_fill_3 17 rfl rfl)
theorem dX4_fill_88 : decode cX4_fill 88 = .ok (.goto (-58), 3) := dk_167 255 198 (dk_at dksX4_fill_3 20 rfl rfl)
theorem dX4_fill_91 : decode cX4_fill 91 = .ok (.iinc 2 1, 3) := dk_132 2 1 (dk_at dksX4_fill_4 0 rfl rfl)
theorem dX4_fill_94 : decode cX4_fill 94 = .ok (.goto (-82), 3) := dk_167 255 174 (dk_at dksX4_fill_4 3 rfl rfl)
theorem dX4_fill_97 : decode cX4_fill 97 = .ok (.iload_n 1, 1) := dk_27 (dk_at dksX4_fill_4 6 rfl rfl)
theorem dX4_fill_98 : decode cX4_fill 98 = .ok (.ireturn, 1) := dk_172 (dk_at dksX4_fill_4 7 rfl rfl)
abbrev cX4_orders : ByteArray := prog_17_method_15_code
def yX4_orders : MethodName := ⟨RX4, "orders", "()V"⟩
def dkwX4_orders_2 : List UInt8 := [167, 255, 222, 132, 2, 255, 167, 255, 210, 177]
abbrev dktX4_orders_2 : List UInt8 := dkwX4_orders_2 ++ []
def dkwX4_orders_1 : List UInt8 := [16, 80, 29, 96, 46, 28, 160, 0, 13, 42, 180, 0, 24, 27, 29, 79, 132, 1, 1, 132, 3, 1]
abbrev dktX4_orders_1 : List UInt8 := dkwX4_orders_1 ++ dktX4_orders_2
def dkwX4_orders_0 : List UInt8 := [3, 60, 16, 9, 61, 28, 158, 0, 48, 3, 62, 29, 42, 180, 0, 48, 162, 0, 32, 42, 180, 0, 7]
abbrev dktX4_orders_0 : List UInt8 := dkwX4_orders_0 ++ dktX4_orders_1
theorem dksX4_orders_0 : cX4_orders.data.toList.drop 0 = dktX4_orders_0 := by decide +kernel
theorem dksX4_orders_1 : cX4_orders.data.toList.drop 23 = dktX4_orders_1 := dk_seg dksX4_orders_0 23 rfl rfl
theorem dksX4_orders_2 : cX4_orders.data.toList.drop 45 = dktX4_orders_2 := dk_seg dksX4_orders_1 22 rfl rfl
theorem dX4_orders_0 : decode cX4_orders 0 = .ok (.iconst 0, 1) := dk_3 (dk_at dksX4_orders_0 0 rfl rfl)
theorem dX4_orders_1 : decode cX4_orders 1 = .ok (.istore_n 1, 1) := dk_60 (dk_at dksX4_orders_0 1 rfl rfl)
theorem dX4_orders_2 : decode cX4_orders 2 = .ok (.bipush 9, 2) := dk_16 9 (dk_at dksX4_orders_0 2 rfl rfl)
theorem dX4_orders_4 : decode cX4_orders 4 = .ok (.istore_n 2, 1) := dk_61 (dk_at dksX4_orders_0 4 rfl rfl)
theorem dX4_orders_5 : decode cX4_orders 5 = .ok (.iload_n 2, 1) := dk_28 (dk_at dksX4_orders_0 5 rfl rfl)
theorem dX4_orders_6 : decode cX4_orders 6 = .ok (.ifCond .le 48, 3) := dk_158 0 48 (dk_at dksX4_orders_0 6 rfl rfl)
theorem dX4_orders_9 : decode cX4_orders 9 = .ok (.iconst 0, 1) := dk_3 (dk_at dksX4_orders_0 9 rfl rfl)
theorem dX4_orders_10 : decode cX4_orders 10 = .ok (.istore_n 3, 1) := dk_62 (dk_at dksX4_orders_0 10 rfl rfl)
theorem dX4_orders_11 : decode cX4_orders 11 = .ok (.iload_n 3, 1) := dk_29 (dk_at dksX4_orders_0 11 rfl rfl)
theorem dX4_orders_12 : decode cX4_orders 12 = .ok (.aload_n 0, 1) := dk_42 (dk_at dksX4_orders_0 12 rfl rfl)
theorem dX4_orders_13 : decode cX4_orders 13 = .ok (.getfield 48, 3) := dk_180 0 48 (dk_at dksX4_orders_0 13 rfl rfl)
theorem dX4_orders_16 : decode cX4_orders 16 = .ok (.if_icmp .ge 32, 3) := dk_162 0 32 (dk_at dksX4_orders_0 16 rfl rfl)
theorem dX4_orders_19 : decode cX4_orders 19 = .ok (.aload_n 0, 1) := dk_42 (dk_at dksX4_orders_0 19 rfl rfl)
theorem dX4_orders_20 : decode cX4_orders 20 = .ok (.getfield 7, 3) := dk_180 0 7 (dk_at dksX4_orders_0 20 rfl rfl)
theorem dX4_orders_23 : decode cX4_orders 23 = .ok (.bipush 80, 2) := dk_16 80 (dk_at dksX4_orders_1 0 rfl rfl)
theorem dX4_orders_25 : decode cX4_orders 25 = .ok (.iload_n 3, 1) := dk_29 (dk_at dksX4_orders_1 2 rfl rfl)
theorem dX4_orders_26 : decode cX4_orders 26 = .ok (.iadd, 1) := dk_96 (dk_at dksX4_orders_1 3 rfl rfl)
theorem dX4_orders_27 : decode cX4_orders 27 = .ok (.iaload, 1) := dk_46 (dk_at dksX4_orders_1 4 rfl rfl)
theorem dX4_orders_28 : decode cX4_orders 28 = .ok (.iload_n 2, 1) := dk_28 (dk_at dksX4_orders_1 5 rfl rfl)
theorem dX4_orders_29 : decode cX4_orders 29 = .ok (.if_icmp .ne 13, 3) := dk_160 0 13 (dk_at dksX4_orders_1 6 rfl rfl)
theorem dX4_orders_32 : decode cX4_orders 32 = .ok (.aload_n 0, 1) := dk_42 (dk_at dksX4_orders_1 9 rfl rfl)
theorem dX4_orders_33 : decode cX4_orders 33 = .ok (.getfield 24, 3) := dk_180 0 24 (dk_at dksX4_orders_1 10 rfl rfl)
theorem dX4_orders_36 : decode cX4_orders 36 = .ok (.iload_n 1, 1) := dk_27 (dk_at dksX4_orders_1 13 rfl rfl)
theorem dX4_orders_37 : decode cX4_orders 37 = .ok (.iload_n 3, 1) := dk_29 (dk_at dksX4_orders_1 14 rfl rfl)
theorem dX4_orders_38 : decode cX4_orders 38 = .ok (.iastore, 1) := dk_79 (dk_at dksX4_orders_1 15 rfl rfl)
theorem dX4_orders_39 : decode cX4_orders 39 = .ok (.iinc 1 1, 3) := dk_132 1 1 (dk_at dksX4_orders_1 16 rfl rfl)
theorem dX4_orders_42 : decode cX4_orders 42 = .ok (.iinc 3 1, 3) := dk_132 3 1 (dk_at dksX4_orders_1 19 rfl rfl)
theorem dX4_orders_45 : decode cX4_orders 45 = .ok (.goto (-34), 3) := dk_167 255 222 (dk_at dksX4_orders_2 0 rfl rfl)
theorem dX4_orders_48 : decode cX4_orders 48 = .ok (.iinc 2 (-1), 3) := dk_132 2 255 (dk_at dksX4_orders_2 3 rfl rfl)
theorem dX4_orders_51 : decode cX4_orders 51 = .ok (.goto (-46), 3) := dk_167 255 210 (dk_at dksX4_orders_2 6 rfl rfl)
theorem dX4_orders_54 : decode cX4_orders 54 = .ok (.return_, 1) := dk_177 (dk_at dksX4_orders_2 9 rfl rfl)
abbrev cX4_wants : ByteArray := prog_17_method_33_code
def yX4_wants : MethodName := ⟨RX4, "wants", "(I)Z"⟩
def dkwX4_wants_1 : List UInt8 := [167, 0, 4, 3, 172]
abbrev dktX4_wants_1 : List UInt8 := dkwX4_wants_1 ++ []
def dkwX4_wants_0 : List UInt8 := [42, 180, 0, 7, 16, 120, 27, 96, 46, 2, 160, 0, 15, 42, 27, 182, 0, 68, 153, 0, 7, 4]
abbrev dktX4_wants_0 : List UInt8 := dkwX4_wants_0 ++ dktX4_wants_1
theorem dksX4_wants_0 : cX4_wants.data.toList.drop 0 = dktX4_wants_0 := by decide +kernel
theorem dksX4_wants_1 : cX4_wants.data.toList.drop 22 = dktX4_wants_1 := dk_seg dksX4_wants_0 22 rfl rfl
theorem dX4_wants_0 : decode cX4_wants 0 = .ok (.aload_n 0, 1) := dk_42 (dk_at dksX4_wants_0 0 rfl rfl)
theorem dX4_wants_1 : decode cX4_wants 1 = .ok (.getfield 7, 3) := dk_180 0 7 (dk_at dksX4_wants_0 1 rfl rfl)
theorem dX4_wants_4 : decode cX4_wants 4 = .ok (.bipush 120, 2) := dk_16 120 (dk_at dksX4_wants_0 4 rfl rfl)
theorem dX4_wants_6 : decode cX4_wants 6 = .ok (.iload_n 1, 1) := dk_27 (dk_at dksX4_wants_0 6 rfl rfl)
theorem dX4_wants_7 : decode cX4_wants 7 = .ok (.iadd, 1) := dk_96 (dk_at dksX4_wants_0 7 rfl rfl)
theorem dX4_wants_8 : decode cX4_wants 8 = .ok (.iaload, 1) := dk_46 (dk_at dksX4_wants_0 8 rfl rfl)
theorem dX4_wants_9 : decode cX4_wants 9 = .ok (.iconst (-1), 1) := dk_2 (dk_at dksX4_wants_0 9 rfl rfl)
theorem dX4_wants_10 : decode cX4_wants 10 = .ok (.if_icmp .ne 15, 3) := dk_160 0 15 (dk_at dksX4_wants_0 10 rfl rfl)
theorem dX4_wants_13 : decode cX4_wants 13 = .ok (.aload_n 0, 1) := dk_42 (dk_at dksX4_wants_0 13 rfl rfl)
theorem dX4_wants_14 : decode cX4_wants 14 = .ok (.iload_n 1, 1) := dk_27 (dk_at dksX4_wants_0 14 rfl rfl)
theorem dX4_wants_15 : decode cX4_wants 15 = .ok (.invokevirtual 68, 3) := dk_182 0 68 (dk_at dksX4_wants_0 15 rfl rfl)
theorem dX4_wants_18 : decode cX4_wants 18 = .ok (.ifCond .eq 7, 3) := dk_153 0 7 (dk_at dksX4_wants_0 18 rfl rfl)
theorem dX4_wants_21 : decode cX4_wants 21 = .ok (.iconst 1, 1) := dk_4 (dk_at dksX4_wants_0 21 rfl rfl)
theorem dX4_wants_22 : decode cX4_wants 22 = .ok (.goto 4, 3) := dk_167 0 4 (dk_at dksX4_wants_1 0 rfl rfl)
theorem dX4_wants_25 : decode cX4_wants 25 = .ok (.iconst 0, 1) := dk_3 (dk_at dksX4_wants_1 3 rfl rfl)
theorem dX4_wants_26 : decode cX4_wants 26 = .ok (.ireturn, 1) := dk_172 (dk_at dksX4_wants_1 4 rfl rfl)
abbrev cX4_place : ByteArray := prog_17_method_30_code
def yX4_place : MethodName := ⟨RX4, "place", "(III)I"⟩
def dkwX4_place_1 : List UInt8 := [154, 0, 6, 16, 254, 172, 42, 182, 0, 83, 42, 27, 28, 29, 182, 0, 145, 172]
abbrev dktX4_place_1 : List UInt8 := dkwX4_place_1 ++ []
def dkwX4_place_0 : List UInt8 := [42, 27, 182, 0, 105, 153, 0, 22, 28, 184, 0, 140, 153, 0, 15, 29, 133, 9, 20, 0, 143, 184, 0, 51]
abbrev dktX4_place_0 : List UInt8 := dkwX4_place_0 ++ dktX4_place_1
theorem dksX4_place_0 : cX4_place.data.toList.drop 0 = dktX4_place_0 := by decide +kernel
theorem dksX4_place_1 : cX4_place.data.toList.drop 24 = dktX4_place_1 := dk_seg dksX4_place_0 24 rfl rfl
theorem dX4_place_0 : decode cX4_place 0 = .ok (.aload_n 0, 1) := dk_42 (dk_at dksX4_place_0 0 rfl rfl)
theorem dX4_place_1 : decode cX4_place 1 = .ok (.iload_n 1, 1) := dk_27 (dk_at dksX4_place_0 1 rfl rfl)
theorem dX4_place_2 : decode cX4_place 2 = .ok (.invokevirtual 105, 3) := dk_182 0 105 (dk_at dksX4_place_0 2 rfl rfl)
theorem dX4_place_5 : decode cX4_place 5 = .ok (.ifCond .eq 22, 3) := dk_153 0 22 (dk_at dksX4_place_0 5 rfl rfl)
theorem dX4_place_8 : decode cX4_place 8 = .ok (.iload_n 2, 1) := dk_28 (dk_at dksX4_place_0 8 rfl rfl)
theorem dX4_place_9 : decode cX4_place 9 = .ok (.invokestatic 140, 3) := dk_184 0 140 (dk_at dksX4_place_0 9 rfl rfl)
theorem dX4_place_12 : decode cX4_place 12 = .ok (.ifCond .eq 15, 3) := dk_153 0 15 (dk_at dksX4_place_0 12 rfl rfl)
theorem dX4_place_15 : decode cX4_place 15 = .ok (.iload_n 3, 1) := dk_29 (dk_at dksX4_place_0 15 rfl rfl)
theorem dX4_place_16 : decode cX4_place 16 = .ok (.i2l, 1) := dk_133 (dk_at dksX4_place_0 16 rfl rfl)
theorem dX4_place_17 : decode cX4_place 17 = .ok (.lconst 0, 1) := dk_9 (dk_at dksX4_place_0 17 rfl rfl)
theorem dX4_place_18 : decode cX4_place 18 = .ok (.ldc2_w 143, 3) := dk_20 0 143 (dk_at dksX4_place_0 18 rfl rfl)
theorem dX4_place_21 : decode cX4_place 21 = .ok (.invokestatic 51, 3) := dk_184 0 51 (dk_at dksX4_place_0 21 rfl rfl)
theorem dX4_place_24 : decode cX4_place 24 = .ok (.ifCond .ne 6, 3) := dk_154 0 6 (dk_at dksX4_place_1 0 rfl rfl)
theorem dX4_place_27 : decode cX4_place 27 = .ok (.bipush (-2), 2) := dk_16 254 (dk_at dksX4_place_1 3 rfl rfl)
theorem dX4_place_29 : decode cX4_place 29 = .ok (.ireturn, 1) := dk_172 (dk_at dksX4_place_1 5 rfl rfl)
theorem dX4_place_30 : decode cX4_place 30 = .ok (.aload_n 0, 1) := dk_42 (dk_at dksX4_place_1 6 rfl rfl)
theorem dX4_place_31 : decode cX4_place 31 = .ok (.invokevirtual 83, 3) := dk_182 0 83 (dk_at dksX4_place_1 7 rfl rfl)
theorem dX4_place_34 : decode cX4_place 34 = .ok (.aload_n 0, 1) := dk_42 (dk_at dksX4_place_1 10 rfl rfl)
theorem dX4_place_35 : decode cX4_place 35 = .ok (.iload_n 1, 1) := dk_27 (dk_at dksX4_place_1 11 rfl rfl)
theorem dX4_place_36 : decode cX4_place 36 = .ok (.iload_n 2, 1) := dk_28 (dk_at dksX4_place_1 12 rfl rfl)
theorem dX4_place_37 : decode cX4_place 37 = .ok (.iload_n 3, 1) := dk_29 (dk_at dksX4_place_1 13 rfl rfl)
theorem dX4_place_38 : decode cX4_place 38 = .ok (.invokevirtual 145, 3) := dk_182 0 145 (dk_at dksX4_place_1 14 rfl rfl)
theorem dX4_place_41 : decode cX4_place 41 = .ok (.ireturn, 1) := dk_172 (dk_at dksX4_place_1 17 rfl rfl)
abbrev cX4_isSide : ByteArray := prog_17_method_29_code
def yX4_isSide : MethodName := ⟨RX4, "isSide", "(I)Z"⟩
def dkwX4_isSide_0 : List UInt8 := [26, 133, 9, 20, 0, 138, 184, 0, 51, 172]
abbrev dktX4_isSide_0 : List UInt8 := dkwX4_isSide_0 ++ []
theorem dksX4_isSide_0 : cX4_isSide.data.toList.drop 0 = dktX4_isSide_0 := by decide +kernel
theorem dX4_isSide_0 : decode cX4_isSide 0 = .ok (.iload_n 0, 1) := dk_26 (dk_at dksX4_isSide_0 0 rfl rfl)
theorem dX4_isSide_1 : decode cX4_isSide 1 = .ok (.i2l, 1) := dk_133 (dk_at dksX4_isSide_0 1 rfl rfl)
theorem dX4_isSide_2 : decode cX4_isSide 2 = .ok (.lconst 0, 1) := dk_9 (dk_at dksX4_isSide_0 2 rfl rfl)
theorem dX4_isSide_3 : decode cX4_isSide 3 = .ok (.ldc2_w 138, 3) := dk_20 0 138 (dk_at dksX4_isSide_0 3 rfl rfl)
theorem dX4_isSide_6 : decode cX4_isSide 6 = .ok (.invokestatic 51, 3) := dk_184 0 51 (dk_at dksX4_isSide_0 6 rfl rfl)
theorem dX4_isSide_9 : decode cX4_isSide 9 = .ok (.ireturn, 1) := dk_172 (dk_at dksX4_isSide_0 9 rfl rfl)
abbrev cX4_placePart : ByteArray := prog_17_method_28_code
def yX4_placePart : MethodName := ⟨RX4, "placePart", "(III)I"⟩
def dkwX4_placePart_4 : List UInt8 := [28, 2, 182, 0, 108, 167, 0, 4, 3, 172]
abbrev dktX4_placePart_4 : List UInt8 := dkwX4_placePart_4 ++ []
def dkwX4_placePart_3 : List UInt8 := [172, 21, 4, 153, 0, 12, 42, 27, 28, 182, 0, 135, 167, 0, 4, 3, 172, 21, 4, 153, 0, 13, 42, 27]
abbrev dktX4_placePart_3 : List UInt8 := dkwX4_placePart_3 ++ dktX4_placePart_4
def dkwX4_placePart_2 : List UInt8 := [21, 4, 153, 0, 7, 4, 167, 0, 4, 3, 172, 42, 27, 28, 182, 0, 61, 172, 42, 27, 28, 182, 0, 65]
abbrev dktX4_placePart_2 : List UInt8 := dkwX4_placePart_2 ++ dktX4_placePart_3
def dkwX4_placePart_1 : List UInt8 := [170, 0, 0, 0, 0, 71, 0, 0, 0, 0, 0, 0, 0, 3, 0, 0, 0, 30, 0, 0, 0, 41, 0, 0, 0, 48, 0, 0, 0, 55]
abbrev dktX4_placePart_1 : List UInt8 := dkwX4_placePart_1 ++ dktX4_placePart_2
def dkwX4_placePart_0 : List UInt8 := [42, 180, 0, 20, 16, 8, 27, 104, 28, 96, 51, 54, 4, 29]
abbrev dktX4_placePart_0 : List UInt8 := dkwX4_placePart_0 ++ dktX4_placePart_1
theorem dksX4_placePart_0 : cX4_placePart.data.toList.drop 0 = dktX4_placePart_0 := by decide +kernel
theorem dksX4_placePart_1 : cX4_placePart.data.toList.drop 14 = dktX4_placePart_1 := dk_seg dksX4_placePart_0 14 rfl rfl
theorem dksX4_placePart_2 : cX4_placePart.data.toList.drop 44 = dktX4_placePart_2 := dk_seg dksX4_placePart_1 30 rfl rfl
theorem dksX4_placePart_3 : cX4_placePart.data.toList.drop 68 = dktX4_placePart_3 := dk_seg dksX4_placePart_2 24 rfl rfl
theorem dksX4_placePart_4 : cX4_placePart.data.toList.drop 92 = dktX4_placePart_4 := dk_seg dksX4_placePart_3 24 rfl rfl
theorem dX4_placePart_0 : decode cX4_placePart 0 = .ok (.aload_n 0, 1) := dk_42 (dk_at dksX4_placePart_0 0 rfl rfl)
theorem dX4_placePart_1 : decode cX4_placePart 1 = .ok (.getfield 20, 3) := dk_180 0 20 (dk_at dksX4_placePart_0 1 rfl rfl)
theorem dX4_placePart_4 : decode cX4_placePart 4 = .ok (.bipush 8, 2) := dk_16 8 (dk_at dksX4_placePart_0 4 rfl rfl)
theorem dX4_placePart_6 : decode cX4_placePart 6 = .ok (.iload_n 1, 1) := dk_27 (dk_at dksX4_placePart_0 6 rfl rfl)
theorem dX4_placePart_7 : decode cX4_placePart 7 = .ok (.imul, 1) := dk_104 (dk_at dksX4_placePart_0 7 rfl rfl)
theorem dX4_placePart_8 : decode cX4_placePart 8 = .ok (.iload_n 2, 1) := dk_28 (dk_at dksX4_placePart_0 8 rfl rfl)
theorem dX4_placePart_9 : decode cX4_placePart 9 = .ok (.iadd, 1) := dk_96 (dk_at dksX4_placePart_0 9 rfl rfl)
theorem dX4_placePart_10 : decode cX4_placePart 10 = .ok (.baload, 1) := dk_51 (dk_at dksX4_placePart_0 10 rfl rfl)
theorem dX4_placePart_11 : decode cX4_placePart 11 = .ok (.istore 4, 2) := dk_54 4 (dk_at dksX4_placePart_0 11 rfl rfl)
theorem dX4_placePart_13 : decode cX4_placePart 13 = .ok (.iload_n 3, 1) := dk_29 (dk_at dksX4_placePart_0 13 rfl rfl)
theorem dX4_placePart_14 : decode cX4_placePart 14 = .ok (.tableswitch 71 0 3 #[30, 41, 48, 55], 30) := by decide +kernel
theorem dX4_placePart_44 : decode cX4_placePart 44 = .ok (.iload 4, 2) := dk_21 4 (dk_at dksX4_placePart_2 0 rfl rfl)
theorem dX4_placePart_46 : decode cX4_placePart 46 = .ok (.ifCond .eq 7, 3) := dk_153 0 7 (dk_at dksX4_placePart_2 2 rfl rfl)
theorem dX4_placePart_49 : decode cX4_placePart 49 = .ok (.iconst 1, 1) := dk_4 (dk_at dksX4_placePart_2 5 rfl rfl)
theorem dX4_placePart_50 : decode cX4_placePart 50 = .ok (.goto 4, 3) := dk_167 0 4 (dk_at dksX4_placePart_2 6 rfl rfl)
theorem dX4_placePart_53 : decode cX4_placePart 53 = .ok (.iconst 0, 1) := dk_3 (dk_at dksX4_placePart_2 9 rfl rfl)
theorem dX4_placePart_54 : decode cX4_placePart 54 = .ok (.ireturn, 1) := dk_172 (dk_at dksX4_placePart_2 10 rfl rfl)
theorem dX4_placePart_55 : decode cX4_placePart 55 = .ok (.aload_n 0, 1) := dk_42 (dk_at dksX4_placePart_2 11 rfl rfl)
theorem dX4_placePart_56 : decode cX4_placePart 56 = .ok (.iload_n 1, 1) := dk_27 (dk_at dksX4_placePart_2 12 rfl rfl)
theorem dX4_placePart_57 : decode cX4_placePart 57 = .ok (.iload_n 2, 1) := dk_28 (dk_at dksX4_placePart_2 13 rfl rfl)
theorem dX4_placePart_58 : decode cX4_placePart 58 = .ok (.invokevirtual 61, 3) := dk_182 0 61 (dk_at dksX4_placePart_2 14 rfl rfl)
theorem dX4_placePart_61 : decode cX4_placePart 61 = .ok (.ireturn, 1) := dk_172 (dk_at dksX4_placePart_2 17 rfl rfl)
theorem dX4_placePart_62 : decode cX4_placePart 62 = .ok (.aload_n 0, 1) := dk_42 (dk_at dksX4_placePart_2 18 rfl rfl)
theorem dX4_placePart_63 : decode cX4_placePart 63 = .ok (.iload_n 1, 1) := dk_27 (dk_at dksX4_placePart_2 19 rfl rfl)
theorem dX4_placePart_64 : decode cX4_placePart 64 = .ok (.iload_n 2, 1) := dk_28 (dk_at dksX4_placePart_2 20 rfl rfl)
theorem dX4_placePart_65 : decode cX4_placePart 65 = .ok (.invokevirtual 65, 3) := dk_182 0 65 (dk_at dksX4_placePart_2 21 rfl rfl)
theorem dX4_placePart_68 : decode cX4_placePart 68 = .ok (.ireturn, 1) := dk_172 (dk_at dksX4_placePart_3 0 rfl rfl)
theorem dX4_placePart_69 : decode cX4_placePart 69 = .ok (.iload 4, 2) := dk_21 4 (dk_at dksX4_placePart_3 1 rfl rfl)
theorem dX4_placePart_71 : decode cX4_placePart 71 = .ok (.ifCond .eq 12, 3) := dk_153 0 12 (dk_at dksX4_placePart_3 3 rfl rfl)
theorem dX4_placePart_74 : decode cX4_placePart 74 = .ok (.aload_n 0, 1) := dk_42 (dk_at dksX4_placePart_3 6 rfl rfl)
theorem dX4_placePart_75 : decode cX4_placePart 75 = .ok (.iload_n 1, 1) := dk_27 (dk_at dksX4_placePart_3 7 rfl rfl)
theorem dX4_placePart_76 : decode cX4_placePart 76 = .ok (.iload_n 2, 1) := dk_28 (dk_at dksX4_placePart_3 8 rfl rfl)
theorem dX4_placePart_77 : decode cX4_placePart 77 = .ok (.invokevirtual 135, 3) := dk_182 0 135 (dk_at dksX4_placePart_3 9 rfl rfl)
theorem dX4_placePart_80 : decode cX4_placePart 80 = .ok (.goto 4, 3) := dk_167 0 4 (dk_at dksX4_placePart_3 12 rfl rfl)
theorem dX4_placePart_83 : decode cX4_placePart 83 = .ok (.iconst 0, 1) := dk_3 (dk_at dksX4_placePart_3 15 rfl rfl)
theorem dX4_placePart_84 : decode cX4_placePart 84 = .ok (.ireturn, 1) := dk_172 (dk_at dksX4_placePart_3 16 rfl rfl)
theorem dX4_placePart_85 : decode cX4_placePart 85 = .ok (.iload 4, 2) := dk_21 4 (dk_at dksX4_placePart_3 17 rfl rfl)
theorem dX4_placePart_87 : decode cX4_placePart 87 = .ok (.ifCond .eq 13, 3) := dk_153 0 13 (dk_at dksX4_placePart_3 19 rfl rfl)
theorem dX4_placePart_90 : decode cX4_placePart 90 = .ok (.aload_n 0, 1) := dk_42 (dk_at dksX4_placePart_3 22 rfl rfl)
theorem dX4_placePart_91 : decode cX4_placePart 91 = .ok (.iload_n 1, 1) := dk_27 (dk_at dksX4_placePart_3 23 rfl rfl)
theorem dX4_placePart_92 : decode cX4_placePart 92 = .ok (.iload_n 2, 1) := dk_28 (dk_at dksX4_placePart_4 0 rfl rfl)
theorem dX4_placePart_93 : decode cX4_placePart 93 = .ok (.iconst (-1), 1) := dk_2 (dk_at dksX4_placePart_4 1 rfl rfl)
theorem dX4_placePart_94 : decode cX4_placePart 94 = .ok (.invokevirtual 108, 3) := dk_182 0 108 (dk_at dksX4_placePart_4 2 rfl rfl)
theorem dX4_placePart_97 : decode cX4_placePart 97 = .ok (.goto 4, 3) := dk_167 0 4 (dk_at dksX4_placePart_4 5 rfl rfl)
theorem dX4_placePart_100 : decode cX4_placePart 100 = .ok (.iconst 0, 1) := dk_3 (dk_at dksX4_placePart_4 8 rfl rfl)
theorem dX4_placePart_101 : decode cX4_placePart 101 = .ok (.ireturn, 1) := dk_172 (dk_at dksX4_placePart_4 9 rfl rfl)
abbrev cX4_meets : ByteArray := prog_17_method_27_code
def yX4_meets : MethodName := ⟨RX4, "meets", "(II)I"⟩
def dkwX4_meets_2 : List UInt8 := [16, 8, 112, 182, 0, 80, 153, 0, 7, 4, 167, 0, 4, 3, 96, 62, 132, 4, 1, 167, 255, 195, 29, 172]
abbrev dktX4_meets_2 : List UInt8 := dkwX4_meets_2 ++ []
def dkwX4_meets_1 : List UInt8 := [159, 0, 36, 42, 180, 0, 20, 21, 4, 51, 153, 0, 26, 42, 27, 28, 21, 4, 16, 8, 108, 21, 4]
abbrev dktX4_meets_1 : List UInt8 := dkwX4_meets_1 ++ dktX4_meets_2
def dkwX4_meets_0 : List UInt8 := [3, 62, 3, 54, 4, 21, 4, 16, 8, 42, 180, 0, 48, 104, 162, 0, 55, 29, 21, 4, 16, 8, 108, 27]
abbrev dktX4_meets_0 : List UInt8 := dkwX4_meets_0 ++ dktX4_meets_1
theorem dksX4_meets_0 : cX4_meets.data.toList.drop 0 = dktX4_meets_0 := by decide +kernel
theorem dksX4_meets_1 : cX4_meets.data.toList.drop 24 = dktX4_meets_1 := dk_seg dksX4_meets_0 24 rfl rfl
theorem dksX4_meets_2 : cX4_meets.data.toList.drop 47 = dktX4_meets_2 := dk_seg dksX4_meets_1 23 rfl rfl
theorem dX4_meets_0 : decode cX4_meets 0 = .ok (.iconst 0, 1) := dk_3 (dk_at dksX4_meets_0 0 rfl rfl)
theorem dX4_meets_1 : decode cX4_meets 1 = .ok (.istore_n 3, 1) := dk_62 (dk_at dksX4_meets_0 1 rfl rfl)
theorem dX4_meets_2 : decode cX4_meets 2 = .ok (.iconst 0, 1) := dk_3 (dk_at dksX4_meets_0 2 rfl rfl)
theorem dX4_meets_3 : decode cX4_meets 3 = .ok (.istore 4, 2) := dk_54 4 (dk_at dksX4_meets_0 3 rfl rfl)
theorem dX4_meets_5 : decode cX4_meets 5 = .ok (.iload 4, 2) := dk_21 4 (dk_at dksX4_meets_0 5 rfl rfl)
theorem dX4_meets_7 : decode cX4_meets 7 = .ok (.bipush 8, 2) := dk_16 8 (dk_at dksX4_meets_0 7 rfl rfl)
theorem dX4_meets_9 : decode cX4_meets 9 = .ok (.aload_n 0, 1) := dk_42 (dk_at dksX4_meets_0 9 rfl rfl)
theorem dX4_meets_10 : decode cX4_meets 10 = .ok (.getfield 48, 3) := dk_180 0 48 (dk_at dksX4_meets_0 10 rfl rfl)
theorem dX4_meets_13 : decode cX4_meets 13 = .ok (.imul, 1) := dk_104 (dk_at dksX4_meets_0 13 rfl rfl)
theorem dX4_meets_14 : decode cX4_meets 14 = .ok (.if_icmp .ge 55, 3) := dk_162 0 55 (dk_at dksX4_meets_0 14 rfl rfl)
theorem dX4_meets_17 : decode cX4_meets 17 = .ok (.iload_n 3, 1) := dk_29 (dk_at dksX4_meets_0 17 rfl rfl)
theorem dX4_meets_18 : decode cX4_meets 18 = .ok (.iload 4, 2) := dk_21 4 (dk_at dksX4_meets_0 18 rfl rfl)
theorem dX4_meets_20 : decode cX4_meets 20 = .ok (.bipush 8, 2) := dk_16 8 (dk_at dksX4_meets_0 20 rfl rfl)
theorem dX4_meets_22 : decode cX4_meets 22 = .ok (.idiv, 1) := dk_108 (dk_at dksX4_meets_0 22 rfl rfl)
theorem dX4_meets_23 : decode cX4_meets 23 = .ok (.iload_n 1, 1) := dk_27 (dk_at dksX4_meets_0 23 rfl rfl)
theorem dX4_meets_24 : decode cX4_meets 24 = .ok (.if_icmp .eq 36, 3) := dk_159 0 36 (dk_at dksX4_meets_1 0 rfl rfl)
theorem dX4_meets_27 : decode cX4_meets 27 = .ok (.aload_n 0, 1) := dk_42 (dk_at dksX4_meets_1 3 rfl rfl)
theorem dX4_meets_28 : decode cX4_meets 28 = .ok (.getfield 20, 3) := dk_180 0 20 (dk_at dksX4_meets_1 4 rfl rfl)
theorem dX4_meets_31 : decode cX4_meets 31 = .ok (.iload 4, 2) := dk_21 4 (dk_at dksX4_meets_1 7 rfl rfl)
theorem dX4_meets_33 : decode cX4_meets 33 = .ok (.baload, 1) := dk_51 (dk_at dksX4_meets_1 9 rfl rfl)
theorem dX4_meets_34 : decode cX4_meets 34 = .ok (.ifCond .eq 26, 3) := dk_153 0 26 (dk_at dksX4_meets_1 10 rfl rfl)
theorem dX4_meets_37 : decode cX4_meets 37 = .ok (.aload_n 0, 1) := dk_42 (dk_at dksX4_meets_1 13 rfl rfl)
theorem dX4_meets_38 : decode cX4_meets 38 = .ok (.iload_n 1, 1) := dk_27 (dk_at dksX4_meets_1 14 rfl rfl)
theorem dX4_meets_39 : decode cX4_meets 39 = .ok (.iload_n 2, 1) := dk_28 (dk_at dksX4_meets_1 15 rfl rfl)
theorem dX4_meets_40 : decode cX4_meets 40 = .ok (.iload 4, 2) := dk_21 4 (dk_at dksX4_meets_1 16 rfl rfl)
theorem dX4_meets_42 : decode cX4_meets 42 = .ok (.bipush 8, 2) := dk_16 8 (dk_at dksX4_meets_1 18 rfl rfl)
theorem dX4_meets_44 : decode cX4_meets 44 = .ok (.idiv, 1) := dk_108 (dk_at dksX4_meets_1 20 rfl rfl)
theorem dX4_meets_45 : decode cX4_meets 45 = .ok (.iload 4, 2) := dk_21 4 (dk_at dksX4_meets_1 21 rfl rfl)
theorem dX4_meets_47 : decode cX4_meets 47 = .ok (.bipush 8, 2) := dk_16 8 (dk_at dksX4_meets_2 0 rfl rfl)
theorem dX4_meets_49 : decode cX4_meets 49 = .ok (.irem, 1) := dk_112 (dk_at dksX4_meets_2 2 rfl rfl)
theorem dX4_meets_50 : decode cX4_meets 50 = .ok (.invokevirtual 80, 3) := dk_182 0 80 (dk_at dksX4_meets_2 3 rfl rfl)
theorem dX4_meets_53 : decode cX4_meets 53 = .ok (.ifCond .eq 7, 3) := dk_153 0 7 (dk_at dksX4_meets_2 6 rfl rfl)
theorem dX4_meets_56 : decode cX4_meets 56 = .ok (.iconst 1, 1) := dk_4 (dk_at dksX4_meets_2 9 rfl rfl)
theorem dX4_meets_57 : decode cX4_meets 57 = .ok (.goto 4, 3) := dk_167 0 4 (dk_at dksX4_meets_2 10 rfl rfl)
theorem dX4_meets_60 : decode cX4_meets 60 = .ok (.iconst 0, 1) := dk_3 (dk_at dksX4_meets_2 13 rfl rfl)
theorem dX4_meets_61 : decode cX4_meets 61 = .ok (.iadd, 1) := dk_96 (dk_at dksX4_meets_2 14 rfl rfl)
theorem dX4_meets_62 : decode cX4_meets 62 = .ok (.istore_n 3, 1) := dk_62 (dk_at dksX4_meets_2 15 rfl rfl)
theorem dX4_meets_63 : decode cX4_meets 63 = .ok (.iinc 4 1, 3) := dk_132 4 1 (dk_at dksX4_meets_2 16 rfl rfl)
theorem dX4_meets_66 : decode cX4_meets 66 = .ok (.goto (-61), 3) := dk_167 255 195 (dk_at dksX4_meets_2 19 rfl rfl)
theorem dX4_meets_69 : decode cX4_meets 69 = .ok (.iload_n 3, 1) := dk_29 (dk_at dksX4_meets_2 22 rfl rfl)
theorem dX4_meets_70 : decode cX4_meets 70 = .ok (.ireturn, 1) := dk_172 (dk_at dksX4_meets_2 23 rfl rfl)
abbrev cX4_clash : ByteArray := prog_17_method_31_code
def yX4_clash : MethodName := ⟨RX4, "clash", "(IIII)I"⟩
def dkwX4_clash_3 : List UInt8 := [154, 0, 6, 16, 253, 172, 42, 27, 28, 29, 21, 4, 182, 0, 80, 153, 0, 7, 4, 167, 0, 4, 3, 172]
abbrev dktX4_clash_3 : List UInt8 := dkwX4_clash_3 ++ []
def dkwX4_clash_2 : List UInt8 := [16, 8, 27, 104, 28, 96, 51, 153, 0, 18, 42, 180, 0, 20, 16, 8, 29, 104, 21, 4, 96, 51]
abbrev dktX4_clash_2 : List UInt8 := dkwX4_clash_2 ++ dktX4_clash_3
def dkwX4_clash_1 : List UInt8 := [21, 4, 184, 0, 140, 153, 0, 8, 27, 29, 160, 0, 6, 16, 254, 172, 42, 182, 0, 83, 42, 180, 0, 20]
abbrev dktX4_clash_1 : List UInt8 := dkwX4_clash_1 ++ dktX4_clash_2
def dkwX4_clash_0 : List UInt8 := [42, 27, 182, 0, 105, 153, 0, 31, 28, 184, 0, 140, 153, 0, 24, 42, 29, 182, 0, 105, 153, 0, 16]
abbrev dktX4_clash_0 : List UInt8 := dkwX4_clash_0 ++ dktX4_clash_1
theorem dksX4_clash_0 : cX4_clash.data.toList.drop 0 = dktX4_clash_0 := by decide +kernel
theorem dksX4_clash_1 : cX4_clash.data.toList.drop 23 = dktX4_clash_1 := dk_seg dksX4_clash_0 23 rfl rfl
theorem dksX4_clash_2 : cX4_clash.data.toList.drop 47 = dktX4_clash_2 := dk_seg dksX4_clash_1 24 rfl rfl
theorem dksX4_clash_3 : cX4_clash.data.toList.drop 69 = dktX4_clash_3 := dk_seg dksX4_clash_2 22 rfl rfl
theorem dX4_clash_0 : decode cX4_clash 0 = .ok (.aload_n 0, 1) := dk_42 (dk_at dksX4_clash_0 0 rfl rfl)
theorem dX4_clash_1 : decode cX4_clash 1 = .ok (.iload_n 1, 1) := dk_27 (dk_at dksX4_clash_0 1 rfl rfl)
theorem dX4_clash_2 : decode cX4_clash 2 = .ok (.invokevirtual 105, 3) := dk_182 0 105 (dk_at dksX4_clash_0 2 rfl rfl)
theorem dX4_clash_5 : decode cX4_clash 5 = .ok (.ifCond .eq 31, 3) := dk_153 0 31 (dk_at dksX4_clash_0 5 rfl rfl)
theorem dX4_clash_8 : decode cX4_clash 8 = .ok (.iload_n 2, 1) := dk_28 (dk_at dksX4_clash_0 8 rfl rfl)
theorem dX4_clash_9 : decode cX4_clash 9 = .ok (.invokestatic 140, 3) := dk_184 0 140 (dk_at dksX4_clash_0 9 rfl rfl)
theorem dX4_clash_12 : decode cX4_clash 12 = .ok (.ifCond .eq 24, 3) := dk_153 0 24 (dk_at dksX4_clash_0 12 rfl rfl)
theorem dX4_clash_15 : decode cX4_clash 15 = .ok (.aload_n 0, 1) := dk_42 (dk_at dksX4_clash_0 15 rfl rfl)
theorem dX4_clash_16 : decode cX4_clash 16 = .ok (.iload_n 3, 1) := dk_29 (dk_at dksX4_clash_0 16 rfl rfl)
theorem dX4_clash_17 : decode cX4_clash 17 = .ok (.invokevirtual 105, 3) := dk_182 0 105 (dk_at dksX4_clash_0 17 rfl rfl)
theorem dX4_clash_20 : decode cX4_clash 20 = .ok (.ifCond .eq 16, 3) := dk_153 0 16 (dk_at dksX4_clash_0 20 rfl rfl)
theorem dX4_clash_23 : decode cX4_clash 23 = .ok (.iload 4, 2) := dk_21 4 (dk_at dksX4_clash_1 0 rfl rfl)
theorem dX4_clash_25 : decode cX4_clash 25 = .ok (.invokestatic 140, 3) := dk_184 0 140 (dk_at dksX4_clash_1 2 rfl rfl)
theorem dX4_clash_28 : decode cX4_clash 28 = .ok (.ifCond .eq 8, 3) := dk_153 0 8 (dk_at dksX4_clash_1 5 rfl rfl)
theorem dX4_clash_31 : decode cX4_clash 31 = .ok (.iload_n 1, 1) := dk_27 (dk_at dksX4_clash_1 8 rfl rfl)
theorem dX4_clash_32 : decode cX4_clash 32 = .ok (.iload_n 3, 1) := dk_29 (dk_at dksX4_clash_1 9 rfl rfl)
theorem dX4_clash_33 : decode cX4_clash 33 = .ok (.if_icmp .ne 6, 3) := dk_160 0 6 (dk_at dksX4_clash_1 10 rfl rfl)
theorem dX4_clash_36 : decode cX4_clash 36 = .ok (.bipush (-2), 2) := dk_16 254 (dk_at dksX4_clash_1 13 rfl rfl)
theorem dX4_clash_38 : decode cX4_clash 38 = .ok (.ireturn, 1) := dk_172 (dk_at dksX4_clash_1 15 rfl rfl)
theorem dX4_clash_39 : decode cX4_clash 39 = .ok (.aload_n 0, 1) := dk_42 (dk_at dksX4_clash_1 16 rfl rfl)
theorem dX4_clash_40 : decode cX4_clash 40 = .ok (.invokevirtual 83, 3) := dk_182 0 83 (dk_at dksX4_clash_1 17 rfl rfl)
theorem dX4_clash_43 : decode cX4_clash 43 = .ok (.aload_n 0, 1) := dk_42 (dk_at dksX4_clash_1 20 rfl rfl)
theorem dX4_clash_44 : decode cX4_clash 44 = .ok (.getfield 20, 3) := dk_180 0 20 (dk_at dksX4_clash_1 21 rfl rfl)
theorem dX4_clash_47 : decode cX4_clash 47 = .ok (.bipush 8, 2) := dk_16 8 (dk_at dksX4_clash_2 0 rfl rfl)
theorem dX4_clash_49 : decode cX4_clash 49 = .ok (.iload_n 1, 1) := dk_27 (dk_at dksX4_clash_2 2 rfl rfl)
theorem dX4_clash_50 : decode cX4_clash 50 = .ok (.imul, 1) := dk_104 (dk_at dksX4_clash_2 3 rfl rfl)
theorem dX4_clash_51 : decode cX4_clash 51 = .ok (.iload_n 2, 1) := dk_28 (dk_at dksX4_clash_2 4 rfl rfl)
theorem dX4_clash_52 : decode cX4_clash 52 = .ok (.iadd, 1) := dk_96 (dk_at dksX4_clash_2 5 rfl rfl)
theorem dX4_clash_53 : decode cX4_clash 53 = .ok (.baload, 1) := dk_51 (dk_at dksX4_clash_2 6 rfl rfl)
theorem dX4_clash_54 : decode cX4_clash 54 = .ok (.ifCond .eq 18, 3) := dk_153 0 18 (dk_at dksX4_clash_2 7 rfl rfl)
theorem dX4_clash_57 : decode cX4_clash 57 = .ok (.aload_n 0, 1) := dk_42 (dk_at dksX4_clash_2 10 rfl rfl)
theorem dX4_clash_58 : decode cX4_clash 58 = .ok (.getfield 20, 3) := dk_180 0 20 (dk_at dksX4_clash_2 11 rfl rfl)
theorem dX4_clash_61 : decode cX4_clash 61 = .ok (.bipush 8, 2) := dk_16 8 (dk_at dksX4_clash_2 14 rfl rfl)
theorem dX4_clash_63 : decode cX4_clash 63 = .ok (.iload_n 3, 1) := dk_29 (dk_at dksX4_clash_2 16 rfl rfl)
theorem dX4_clash_64 : decode cX4_clash 64 = .ok (.imul, 1) := dk_104 (dk_at dksX4_clash_2 17 rfl rfl)
theorem dX4_clash_65 : decode cX4_clash 65 = .ok (.iload 4, 2) := dk_21 4 (dk_at dksX4_clash_2 18 rfl rfl)
theorem dX4_clash_67 : decode cX4_clash 67 = .ok (.iadd, 1) := dk_96 (dk_at dksX4_clash_2 20 rfl rfl)
theorem dX4_clash_68 : decode cX4_clash 68 = .ok (.baload, 1) := dk_51 (dk_at dksX4_clash_2 21 rfl rfl)
theorem dX4_clash_69 : decode cX4_clash 69 = .ok (.ifCond .ne 6, 3) := dk_154 0 6 (dk_at dksX4_clash_3 0 rfl rfl)
theorem dX4_clash_72 : decode cX4_clash 72 = .ok (.bipush (-3), 2) := dk_16 253 (dk_at dksX4_clash_3 3 rfl rfl)
theorem dX4_clash_74 : decode cX4_clash 74 = .ok (.ireturn, 1) := dk_172 (dk_at dksX4_clash_3 5 rfl rfl)
theorem dX4_clash_75 : decode cX4_clash 75 = .ok (.aload_n 0, 1) := dk_42 (dk_at dksX4_clash_3 6 rfl rfl)
theorem dX4_clash_76 : decode cX4_clash 76 = .ok (.iload_n 1, 1) := dk_27 (dk_at dksX4_clash_3 7 rfl rfl)
theorem dX4_clash_77 : decode cX4_clash 77 = .ok (.iload_n 2, 1) := dk_28 (dk_at dksX4_clash_3 8 rfl rfl)
theorem dX4_clash_78 : decode cX4_clash 78 = .ok (.iload_n 3, 1) := dk_29 (dk_at dksX4_clash_3 9 rfl rfl)
theorem dX4_clash_79 : decode cX4_clash 79 = .ok (.iload 4, 2) := dk_21 4 (dk_at dksX4_clash_3 10 rfl rfl)
theorem dX4_clash_81 : decode cX4_clash 81 = .ok (.invokevirtual 80, 3) := dk_182 0 80 (dk_at dksX4_clash_3 12 rfl rfl)
theorem dX4_clash_84 : decode cX4_clash 84 = .ok (.ifCond .eq 7, 3) := dk_153 0 7 (dk_at dksX4_clash_3 15 rfl rfl)
theorem dX4_clash_87 : decode cX4_clash 87 = .ok (.iconst 1, 1) := dk_4 (dk_at dksX4_clash_3 18 rfl rfl)
theorem dX4_clash_88 : decode cX4_clash 88 = .ok (.goto 4, 3) := dk_167 0 4 (dk_at dksX4_clash_3 19 rfl rfl)
theorem dX4_clash_91 : decode cX4_clash 91 = .ok (.iconst 0, 1) := dk_3 (dk_at dksX4_clash_3 22 rfl rfl)
theorem dX4_clash_92 : decode cX4_clash 92 = .ok (.ireturn, 1) := dk_172 (dk_at dksX4_clash_3 23 rfl rfl)
abbrev cX4_labelAt : ByteArray := prog_17_method_32_code
def yX4_labelAt : MethodName := ⟨RX4, "labelAt", "(II)I"⟩
def dkwX4_labelAt_3 : List UInt8 := [132, 3, 1, 167, 255, 211, 2, 172]
abbrev dktX4_labelAt_3 : List UInt8 := dkwX4_labelAt_3 ++ []
def dkwX4_labelAt_2 : List UInt8 := [159, 0, 24, 42, 29, 42, 180, 0, 7, 16, 120, 29, 96, 46, 27, 28, 182, 0, 72, 153, 0, 5, 29, 172]
abbrev dktX4_labelAt_2 : List UInt8 := dkwX4_labelAt_2 ++ dktX4_labelAt_3
def dkwX4_labelAt_1 : List UInt8 := [16, 254, 172, 3, 62, 29, 42, 180, 0, 48, 162, 0, 43, 42, 180, 0, 7, 16, 120, 29, 96, 46, 2]
abbrev dktX4_labelAt_1 : List UInt8 := dkwX4_labelAt_1 ++ dktX4_labelAt_2
def dkwX4_labelAt_0 : List UInt8 := [27, 133, 9, 20, 0, 94, 184, 0, 51, 153, 0, 15, 28, 133, 9, 20, 0, 94, 184, 0, 51, 154, 0, 6]
abbrev dktX4_labelAt_0 : List UInt8 := dkwX4_labelAt_0 ++ dktX4_labelAt_1
theorem dksX4_labelAt_0 : cX4_labelAt.data.toList.drop 0 = dktX4_labelAt_0 := by decide +kernel
theorem dksX4_labelAt_1 : cX4_labelAt.data.toList.drop 24 = dktX4_labelAt_1 := dk_seg dksX4_labelAt_0 24 rfl rfl
theorem dksX4_labelAt_2 : cX4_labelAt.data.toList.drop 47 = dktX4_labelAt_2 := dk_seg dksX4_labelAt_1 23 rfl rfl
theorem dksX4_labelAt_3 : cX4_labelAt.data.toList.drop 71 = dktX4_labelAt_3 := dk_seg dksX4_labelAt_2 24 rfl rfl
theorem dX4_labelAt_0 : decode cX4_labelAt 0 = .ok (.iload_n 1, 1) := dk_27 (dk_at dksX4_labelAt_0 0 rfl rfl)
theorem dX4_labelAt_1 : decode cX4_labelAt 1 = .ok (.i2l, 1) := dk_133 (dk_at dksX4_labelAt_0 1 rfl rfl)
theorem dX4_labelAt_2 : decode cX4_labelAt 2 = .ok (.lconst 0, 1) := dk_9 (dk_at dksX4_labelAt_0 2 rfl rfl)
theorem dX4_labelAt_3 : decode cX4_labelAt 3 = .ok (.ldc2_w 94, 3) := dk_20 0 94 (dk_at dksX4_labelAt_0 3 rfl rfl)
theorem dX4_labelAt_6 : decode cX4_labelAt 6 = .ok (.invokestatic 51, 3) := dk_184 0 51 (dk_at dksX4_labelAt_0 6 rfl rfl)
theorem dX4_labelAt_9 : decode cX4_labelAt 9 = .ok (.ifCond .eq 15, 3) := dk_153 0 15 (dk_at dksX4_labelAt_0 9 rfl rfl)
theorem dX4_labelAt_12 : decode cX4_labelAt 12 = .ok (.iload_n 2, 1) := dk_28 (dk_at dksX4_labelAt_0 12 rfl rfl)
theorem dX4_labelAt_13 : decode cX4_labelAt 13 = .ok (.i2l, 1) := dk_133 (dk_at dksX4_labelAt_0 13 rfl rfl)
theorem dX4_labelAt_14 : decode cX4_labelAt 14 = .ok (.lconst 0, 1) := dk_9 (dk_at dksX4_labelAt_0 14 rfl rfl)
theorem dX4_labelAt_15 : decode cX4_labelAt 15 = .ok (.ldc2_w 94, 3) := dk_20 0 94 (dk_at dksX4_labelAt_0 15 rfl rfl)
theorem dX4_labelAt_18 : decode cX4_labelAt 18 = .ok (.invokestatic 51, 3) := dk_184 0 51 (dk_at dksX4_labelAt_0 18 rfl rfl)
theorem dX4_labelAt_21 : decode cX4_labelAt 21 = .ok (.ifCond .ne 6, 3) := dk_154 0 6 (dk_at dksX4_labelAt_0 21 rfl rfl)
theorem dX4_labelAt_24 : decode cX4_labelAt 24 = .ok (.bipush (-2), 2) := dk_16 254 (dk_at dksX4_labelAt_1 0 rfl rfl)
theorem dX4_labelAt_26 : decode cX4_labelAt 26 = .ok (.ireturn, 1) := dk_172 (dk_at dksX4_labelAt_1 2 rfl rfl)
theorem dX4_labelAt_27 : decode cX4_labelAt 27 = .ok (.iconst 0, 1) := dk_3 (dk_at dksX4_labelAt_1 3 rfl rfl)
theorem dX4_labelAt_28 : decode cX4_labelAt 28 = .ok (.istore_n 3, 1) := dk_62 (dk_at dksX4_labelAt_1 4 rfl rfl)
theorem dX4_labelAt_29 : decode cX4_labelAt 29 = .ok (.iload_n 3, 1) := dk_29 (dk_at dksX4_labelAt_1 5 rfl rfl)
theorem dX4_labelAt_30 : decode cX4_labelAt 30 = .ok (.aload_n 0, 1) := dk_42 (dk_at dksX4_labelAt_1 6 rfl rfl)
theorem dX4_labelAt_31 : decode cX4_labelAt 31 = .ok (.getfield 48, 3) := dk_180 0 48 (dk_at dksX4_labelAt_1 7 rfl rfl)
theorem dX4_labelAt_34 : decode cX4_labelAt 34 = .ok (.if_icmp .ge 43, 3) := dk_162 0 43 (dk_at dksX4_labelAt_1 10 rfl rfl)
theorem dX4_labelAt_37 : decode cX4_labelAt 37 = .ok (.aload_n 0, 1) := dk_42 (dk_at dksX4_labelAt_1 13 rfl rfl)
theorem dX4_labelAt_38 : decode cX4_labelAt 38 = .ok (.getfield 7, 3) := dk_180 0 7 (dk_at dksX4_labelAt_1 14 rfl rfl)
theorem dX4_labelAt_41 : decode cX4_labelAt 41 = .ok (.bipush 120, 2) := dk_16 120 (dk_at dksX4_labelAt_1 17 rfl rfl)
theorem dX4_labelAt_43 : decode cX4_labelAt 43 = .ok (.iload_n 3, 1) := dk_29 (dk_at dksX4_labelAt_1 19 rfl rfl)
theorem dX4_labelAt_44 : decode cX4_labelAt 44 = .ok (.iadd, 1) := dk_96 (dk_at dksX4_labelAt_1 20 rfl rfl)
theorem dX4_labelAt_45 : decode cX4_labelAt 45 = .ok (.iaload, 1) := dk_46 (dk_at dksX4_labelAt_1 21 rfl rfl)
theorem dX4_labelAt_46 : decode cX4_labelAt 46 = .ok (.iconst (-1), 1) := dk_2 (dk_at dksX4_labelAt_1 22 rfl rfl)
theorem dX4_labelAt_47 : decode cX4_labelAt 47 = .ok (.if_icmp .eq 24, 3) := dk_159 0 24 (dk_at dksX4_labelAt_2 0 rfl rfl)
theorem dX4_labelAt_50 : decode cX4_labelAt 50 = .ok (.aload_n 0, 1) := dk_42 (dk_at dksX4_labelAt_2 3 rfl rfl)
theorem dX4_labelAt_51 : decode cX4_labelAt 51 = .ok (.iload_n 3, 1) := dk_29 (dk_at dksX4_labelAt_2 4 rfl rfl)
theorem dX4_labelAt_52 : decode cX4_labelAt 52 = .ok (.aload_n 0, 1) := dk_42 (dk_at dksX4_labelAt_2 5 rfl rfl)
theorem dX4_labelAt_53 : decode cX4_labelAt 53 = .ok (.getfield 7, 3) := dk_180 0 7 (dk_at dksX4_labelAt_2 6 rfl rfl)
theorem dX4_labelAt_56 : decode cX4_labelAt 56 = .ok (.bipush 120, 2) := dk_16 120 (dk_at dksX4_labelAt_2 9 rfl rfl)
theorem dX4_labelAt_58 : decode cX4_labelAt 58 = .ok (.iload_n 3, 1) := dk_29 (dk_at dksX4_labelAt_2 11 rfl rfl)
theorem dX4_labelAt_59 : decode cX4_labelAt 59 = .ok (.iadd, 1) := dk_96 (dk_at dksX4_labelAt_2 12 rfl rfl)
theorem dX4_labelAt_60 : decode cX4_labelAt 60 = .ok (.iaload, 1) := dk_46 (dk_at dksX4_labelAt_2 13 rfl rfl)
theorem dX4_labelAt_61 : decode cX4_labelAt 61 = .ok (.iload_n 1, 1) := dk_27 (dk_at dksX4_labelAt_2 14 rfl rfl)
theorem dX4_labelAt_62 : decode cX4_labelAt 62 = .ok (.iload_n 2, 1) := dk_28 (dk_at dksX4_labelAt_2 15 rfl rfl)
theorem dX4_labelAt_63 : decode cX4_labelAt 63 = .ok (.invokevirtual 72, 3) := dk_182 0 72 (dk_at dksX4_labelAt_2 16 rfl rfl)
theorem dX4_labelAt_66 : decode cX4_labelAt 66 = .ok (.ifCond .eq 5, 3) := dk_153 0 5 (dk_at dksX4_labelAt_2 19 rfl rfl)
theorem dX4_labelAt_69 : decode cX4_labelAt 69 = .ok (.iload_n 3, 1) := dk_29 (dk_at dksX4_labelAt_2 22 rfl rfl)
theorem dX4_labelAt_70 : decode cX4_labelAt 70 = .ok (.ireturn, 1) := dk_172 (dk_at dksX4_labelAt_2 23 rfl rfl)
theorem dX4_labelAt_71 : decode cX4_labelAt 71 = .ok (.iinc 3 1, 3) := dk_132 3 1 (dk_at dksX4_labelAt_3 0 rfl rfl)
theorem dX4_labelAt_74 : decode cX4_labelAt 74 = .ok (.goto (-45), 3) := dk_167 255 211 (dk_at dksX4_labelAt_3 3 rfl rfl)
theorem dX4_labelAt_77 : decode cX4_labelAt 77 = .ok (.iconst (-1), 1) := dk_2 (dk_at dksX4_labelAt_3 6 rfl rfl)
theorem dX4_labelAt_78 : decode cX4_labelAt 78 = .ok (.ireturn, 1) := dk_172 (dk_at dksX4_labelAt_3 7 rfl rfl)
abbrev cX4_improve : ByteArray := prog_17_method_37_code
def yX4_improve : MethodName := ⟨RX4, "improve", "()I"⟩
def dkwX4_improve_3 : List UInt8 := [132, 1, 1, 132, 4, 1, 167, 255, 210, 132, 2, 1, 167, 255, 186, 27, 172]
abbrev dktX4_improve_3 : List UInt8 := dkwX4_improve_3 ++ []
def dkwX4_improve_2 : List UInt8 := [180, 0, 20, 16, 8, 29, 104, 21, 4, 96, 51, 153, 0, 16, 42, 29, 21, 4, 182, 0, 160, 153, 0, 6]
abbrev dktX4_improve_2 : List UInt8 := dkwX4_improve_2 ++ dktX4_improve_3
def dkwX4_improve_1 : List UInt8 := [28, 46, 62, 3, 54, 4, 21, 4, 16, 8, 162, 0, 45, 42, 29, 182, 0, 151, 153, 0, 37, 42]
abbrev dktX4_improve_1 : List UInt8 := dkwX4_improve_1 ++ dktX4_improve_2
def dkwX4_improve_0 : List UInt8 := [42, 182, 0, 83, 42, 182, 0, 148, 3, 60, 3, 61, 28, 42, 180, 0, 48, 162, 0, 68, 42, 180, 0, 24]
abbrev dktX4_improve_0 : List UInt8 := dkwX4_improve_0 ++ dktX4_improve_1
theorem dksX4_improve_0 : cX4_improve.data.toList.drop 0 = dktX4_improve_0 := by decide +kernel
theorem dksX4_improve_1 : cX4_improve.data.toList.drop 24 = dktX4_improve_1 := dk_seg dksX4_improve_0 24 rfl rfl
theorem dksX4_improve_2 : cX4_improve.data.toList.drop 46 = dktX4_improve_2 := dk_seg dksX4_improve_1 22 rfl rfl
theorem dksX4_improve_3 : cX4_improve.data.toList.drop 70 = dktX4_improve_3 := dk_seg dksX4_improve_2 24 rfl rfl
theorem dX4_improve_0 : decode cX4_improve 0 = .ok (.aload_n 0, 1) := dk_42 (dk_at dksX4_improve_0 0 rfl rfl)
theorem dX4_improve_1 : decode cX4_improve 1 = .ok (.invokevirtual 83, 3) := dk_182 0 83 (dk_at dksX4_improve_0 1 rfl rfl)
theorem dX4_improve_4 : decode cX4_improve 4 = .ok (.aload_n 0, 1) := dk_42 (dk_at dksX4_improve_0 4 rfl rfl)
theorem dX4_improve_5 : decode cX4_improve 5 = .ok (.invokevirtual 148, 3) := dk_182 0 148 (dk_at dksX4_improve_0 5 rfl rfl)
theorem dX4_improve_8 : decode cX4_improve 8 = .ok (.iconst 0, 1) := dk_3 (dk_at dksX4_improve_0 8 rfl rfl)
theorem dX4_improve_9 : decode cX4_improve 9 = .ok (.istore_n 1, 1) := dk_60 (dk_at dksX4_improve_0 9 rfl rfl)
theorem dX4_improve_10 : decode cX4_improve 10 = .ok (.iconst 0, 1) := dk_3 (dk_at dksX4_improve_0 10 rfl rfl)
theorem dX4_improve_11 : decode cX4_improve 11 = .ok (.istore_n 2, 1) := dk_61 (dk_at dksX4_improve_0 11 rfl rfl)
theorem dX4_improve_12 : decode cX4_improve 12 = .ok (.iload_n 2, 1) := dk_28 (dk_at dksX4_improve_0 12 rfl rfl)
theorem dX4_improve_13 : decode cX4_improve 13 = .ok (.aload_n 0, 1) := dk_42 (dk_at dksX4_improve_0 13 rfl rfl)
theorem dX4_improve_14 : decode cX4_improve 14 = .ok (.getfield 48, 3) := dk_180 0 48 (dk_at dksX4_improve_0 14 rfl rfl)
theorem dX4_improve_17 : decode cX4_improve 17 = .ok (.if_icmp .ge 68, 3) := dk_162 0 68 (dk_at dksX4_improve_0 17 rfl rfl)
theorem dX4_improve_20 : decode cX4_improve 20 = .ok (.aload_n 0, 1) := dk_42 (dk_at dksX4_improve_0 20 rfl rfl)
theorem dX4_improve_21 : decode cX4_improve 21 = .ok (.getfield 24, 3) := dk_180 0 24 (dk_at dksX4_improve_0 21 rfl rfl)
theorem dX4_improve_24 : decode cX4_improve 24 = .ok (.iload_n 2, 1) := dk_28 (dk_at dksX4_improve_1 0 rfl rfl)
theorem dX4_improve_25 : decode cX4_improve 25 = .ok (.iaload, 1) := dk_46 (dk_at dksX4_improve_1 1 rfl rfl)
theorem dX4_improve_26 : decode cX4_improve 26 = .ok (.istore_n 3, 1) := dk_62 (dk_at dksX4_improve_1 2 rfl rfl)
theorem dX4_improve_27 : decode cX4_improve 27 = .ok (.iconst 0, 1) := dk_3 (dk_at dksX4_improve_1 3 rfl rfl)
theorem dX4_improve_28 : decode cX4_improve 28 = .ok (.istore 4, 2) := dk_54 4 (dk_at dksX4_improve_1 4 rfl rfl)
theorem dX4_improve_30 : decode cX4_improve 30 = .ok (.iload 4, 2) := dk_21 4 (dk_at dksX4_improve_1 6 rfl rfl)
theorem dX4_improve_32 : decode cX4_improve 32 = .ok (.bipush 8, 2) := dk_16 8 (dk_at dksX4_improve_1 8 rfl rfl)
theorem dX4_improve_34 : decode cX4_improve 34 = .ok (.if_icmp .ge 45, 3) := dk_162 0 45 (dk_at dksX4_improve_1 10 rfl rfl)
theorem dX4_improve_37 : decode cX4_improve 37 = .ok (.aload_n 0, 1) := dk_42 (dk_at dksX4_improve_1 13 rfl rfl)
theorem dX4_improve_38 : decode cX4_improve 38 = .ok (.iload_n 3, 1) := dk_29 (dk_at dksX4_improve_1 14 rfl rfl)
theorem dX4_improve_39 : decode cX4_improve 39 = .ok (.invokevirtual 151, 3) := dk_182 0 151 (dk_at dksX4_improve_1 15 rfl rfl)
theorem dX4_improve_42 : decode cX4_improve 42 = .ok (.ifCond .eq 37, 3) := dk_153 0 37 (dk_at dksX4_improve_1 18 rfl rfl)
theorem dX4_improve_45 : decode cX4_improve 45 = .ok (.aload_n 0, 1) := dk_42 (dk_at dksX4_improve_1 21 rfl rfl)
theorem dX4_improve_46 : decode cX4_improve 46 = .ok (.getfield 20, 3) := dk_180 0 20 (dk_at dksX4_improve_2 0 rfl rfl)
theorem dX4_improve_49 : decode cX4_improve 49 = .ok (.bipush 8, 2) := dk_16 8 (dk_at dksX4_improve_2 3 rfl rfl)
theorem dX4_improve_51 : decode cX4_improve 51 = .ok (.iload_n 3, 1) := dk_29 (dk_at dksX4_improve_2 5 rfl rfl)
theorem dX4_improve_52 : decode cX4_improve 52 = .ok (.imul, 1) := dk_104 (dk_at dksX4_improve_2 6 rfl rfl)
theorem dX4_improve_53 : decode cX4_improve 53 = .ok (.iload 4, 2) := dk_21 4 (dk_at dksX4_improve_2 7 rfl rfl)
theorem dX4_improve_55 : decode cX4_improve 55 = .ok (.iadd, 1) := dk_96 (dk_at dksX4_improve_2 9 rfl rfl)
theorem dX4_improve_56 : decode cX4_improve 56 = .ok (.baload, 1) := dk_51 (dk_at dksX4_improve_2 10 rfl rfl)
theorem dX4_improve_57 : decode cX4_improve 57 = .ok (.ifCond .eq 16, 3) := dk_153 0 16 (dk_at dksX4_improve_2 11 rfl rfl)
theorem dX4_improve_60 : decode cX4_improve 60 = .ok (.aload_n 0, 1) := dk_42 (dk_at dksX4_improve_2 14 rfl rfl)
theorem dX4_improve_61 : decode cX4_improve 61 = .ok (.iload_n 3, 1) := dk_29 (dk_at dksX4_improve_2 15 rfl rfl)
theorem dX4_improve_62 : decode cX4_improve 62 = .ok (.iload 4, 2) := dk_21 4 (dk_at dksX4_improve_2 16 rfl rfl)
theorem dX4_improve_64 : decode cX4_improve 64 = .ok (.invokevirtual 160, 3) := dk_182 0 160 (dk_at dksX4_improve_2 18 rfl rfl)
theorem dX4_improve_67 : decode cX4_improve 67 = .ok (.ifCond .eq 6, 3) := dk_153 0 6 (dk_at dksX4_improve_2 21 rfl rfl)
theorem dX4_improve_70 : decode cX4_improve 70 = .ok (.iinc 1 1, 3) := dk_132 1 1 (dk_at dksX4_improve_3 0 rfl rfl)
theorem dX4_improve_73 : decode cX4_improve 73 = .ok (.iinc 4 1, 3) := dk_132 4 1 (dk_at dksX4_improve_3 3 rfl rfl)
theorem dX4_improve_76 : decode cX4_improve 76 = .ok (.goto (-46), 3) := dk_167 255 210 (dk_at dksX4_improve_3 6 rfl rfl)
theorem dX4_improve_79 : decode cX4_improve 79 = .ok (.iinc 2 1, 3) := dk_132 2 1 (dk_at dksX4_improve_3 9 rfl rfl)
theorem dX4_improve_82 : decode cX4_improve 82 = .ok (.goto (-70), 3) := dk_167 255 186 (dk_at dksX4_improve_3 12 rfl rfl)
theorem dX4_improve_85 : decode cX4_improve 85 = .ok (.iload_n 1, 1) := dk_27 (dk_at dksX4_improve_3 15 rfl rfl)
theorem dX4_improve_86 : decode cX4_improve 86 = .ok (.ireturn, 1) := dk_172 (dk_at dksX4_improve_3 16 rfl rfl)
abbrev cX4_makesRoom : ByteArray := prog_17_method_36_code
def yX4_makesRoom : MethodName := ⟨RX4, "makesRoom", "(II)Z"⟩
def dkwX4_makesRoom_3 : List UInt8 := [180, 0, 7, 16, 120, 27, 96, 28, 79, 4, 172]
abbrev dktX4_makesRoom_3 : List UInt8 := dkwX4_makesRoom_3 ++ []
def dkwX4_makesRoom_2 : List UInt8 := [160, 0, 5, 3, 172, 29, 4, 160, 0, 15, 42, 180, 0, 7, 16, 120, 21, 4, 96, 21, 5, 79, 42]
abbrev dktX4_makesRoom_2 : List UInt8 := dkwX4_makesRoom_2 ++ dktX4_makesRoom_3
def dkwX4_makesRoom_1 : List UInt8 := [27, 28, 182, 0, 157, 167, 0, 4, 2, 54, 5, 29, 4, 163, 0, 14, 29, 4, 160, 0, 11, 21, 5, 2]
abbrev dktX4_makesRoom_1 : List UInt8 := dkwX4_makesRoom_1 ++ dktX4_makesRoom_2
def dkwX4_makesRoom_0 : List UInt8 := [42, 27, 28, 2, 182, 0, 108, 62, 42, 27, 28, 182, 0, 154, 54, 4, 29, 4, 160, 0, 14, 42, 21, 4]
abbrev dktX4_makesRoom_0 : List UInt8 := dkwX4_makesRoom_0 ++ dktX4_makesRoom_1
theorem dksX4_makesRoom_0 : cX4_makesRoom.data.toList.drop 0 = dktX4_makesRoom_0 := by decide +kernel
theorem dksX4_makesRoom_1 : cX4_makesRoom.data.toList.drop 24 = dktX4_makesRoom_1 := dk_seg dksX4_makesRoom_0 24 rfl rfl
theorem dksX4_makesRoom_2 : cX4_makesRoom.data.toList.drop 48 = dktX4_makesRoom_2 := dk_seg dksX4_makesRoom_1 24 rfl rfl
theorem dksX4_makesRoom_3 : cX4_makesRoom.data.toList.drop 71 = dktX4_makesRoom_3 := dk_seg dksX4_makesRoom_2 23 rfl rfl
theorem dX4_makesRoom_0 : decode cX4_makesRoom 0 = .ok (.aload_n 0, 1) := dk_42 (dk_at dksX4_makesRoom_0 0 rfl rfl)
theorem dX4_makesRoom_1 : decode cX4_makesRoom 1 = .ok (.iload_n 1, 1) := dk_27 (dk_at dksX4_makesRoom_0 1 rfl rfl)
theorem dX4_makesRoom_2 : decode cX4_makesRoom 2 = .ok (.iload_n 2, 1) := dk_28 (dk_at dksX4_makesRoom_0 2 rfl rfl)
theorem dX4_makesRoom_3 : decode cX4_makesRoom 3 = .ok (.iconst (-1), 1) := dk_2 (dk_at dksX4_makesRoom_0 3 rfl rfl)
theorem dX4_makesRoom_4 : decode cX4_makesRoom 4 = .ok (.invokevirtual 108, 3) := dk_182 0 108 (dk_at dksX4_makesRoom_0 4 rfl rfl)
theorem dX4_makesRoom_7 : decode cX4_makesRoom 7 = .ok (.istore_n 3, 1) := dk_62 (dk_at dksX4_makesRoom_0 7 rfl rfl)
theorem dX4_makesRoom_8 : decode cX4_makesRoom 8 = .ok (.aload_n 0, 1) := dk_42 (dk_at dksX4_makesRoom_0 8 rfl rfl)
theorem dX4_makesRoom_9 : decode cX4_makesRoom 9 = .ok (.iload_n 1, 1) := dk_27 (dk_at dksX4_makesRoom_0 9 rfl rfl)
theorem dX4_makesRoom_10 : decode cX4_makesRoom 10 = .ok (.iload_n 2, 1) := dk_28 (dk_at dksX4_makesRoom_0 10 rfl rfl)
theorem dX4_makesRoom_11 : decode cX4_makesRoom 11 = .ok (.invokevirtual 154, 3) := dk_182 0 154 (dk_at dksX4_makesRoom_0 11 rfl rfl)
theorem dX4_makesRoom_14 : decode cX4_makesRoom 14 = .ok (.istore 4, 2) := dk_54 4 (dk_at dksX4_makesRoom_0 14 rfl rfl)
theorem dX4_makesRoom_16 : decode cX4_makesRoom 16 = .ok (.iload_n 3, 1) := dk_29 (dk_at dksX4_makesRoom_0 16 rfl rfl)
theorem dX4_makesRoom_17 : decode cX4_makesRoom 17 = .ok (.iconst 1, 1) := dk_4 (dk_at dksX4_makesRoom_0 17 rfl rfl)
theorem dX4_makesRoom_18 : decode cX4_makesRoom 18 = .ok (.if_icmp .ne 14, 3) := dk_160 0 14 (dk_at dksX4_makesRoom_0 18 rfl rfl)
theorem dX4_makesRoom_21 : decode cX4_makesRoom 21 = .ok (.aload_n 0, 1) := dk_42 (dk_at dksX4_makesRoom_0 21 rfl rfl)
theorem dX4_makesRoom_22 : decode cX4_makesRoom 22 = .ok (.iload 4, 2) := dk_21 4 (dk_at dksX4_makesRoom_0 22 rfl rfl)
theorem dX4_makesRoom_24 : decode cX4_makesRoom 24 = .ok (.iload_n 1, 1) := dk_27 (dk_at dksX4_makesRoom_1 0 rfl rfl)
theorem dX4_makesRoom_25 : decode cX4_makesRoom 25 = .ok (.iload_n 2, 1) := dk_28 (dk_at dksX4_makesRoom_1 1 rfl rfl)
theorem dX4_makesRoom_26 : decode cX4_makesRoom 26 = .ok (.invokevirtual 157, 3) := dk_182 0 157 (dk_at dksX4_makesRoom_1 2 rfl rfl)
theorem dX4_makesRoom_29 : decode cX4_makesRoom 29 = .ok (.goto 4, 3) := dk_167 0 4 (dk_at dksX4_makesRoom_1 5 rfl rfl)
theorem dX4_makesRoom_32 : decode cX4_makesRoom 32 = .ok (.iconst (-1), 1) := dk_2 (dk_at dksX4_makesRoom_1 8 rfl rfl)
theorem dX4_makesRoom_33 : decode cX4_makesRoom 33 = .ok (.istore 5, 2) := dk_54 5 (dk_at dksX4_makesRoom_1 9 rfl rfl)
theorem dX4_makesRoom_35 : decode cX4_makesRoom 35 = .ok (.iload_n 3, 1) := dk_29 (dk_at dksX4_makesRoom_1 11 rfl rfl)
theorem dX4_makesRoom_36 : decode cX4_makesRoom 36 = .ok (.iconst 1, 1) := dk_4 (dk_at dksX4_makesRoom_1 12 rfl rfl)
theorem dX4_makesRoom_37 : decode cX4_makesRoom 37 = .ok (.if_icmp .gt 14, 3) := dk_163 0 14 (dk_at dksX4_makesRoom_1 13 rfl rfl)
theorem dX4_makesRoom_40 : decode cX4_makesRoom 40 = .ok (.iload_n 3, 1) := dk_29 (dk_at dksX4_makesRoom_1 16 rfl rfl)
theorem dX4_makesRoom_41 : decode cX4_makesRoom 41 = .ok (.iconst 1, 1) := dk_4 (dk_at dksX4_makesRoom_1 17 rfl rfl)
theorem dX4_makesRoom_42 : decode cX4_makesRoom 42 = .ok (.if_icmp .ne 11, 3) := dk_160 0 11 (dk_at dksX4_makesRoom_1 18 rfl rfl)
theorem dX4_makesRoom_45 : decode cX4_makesRoom 45 = .ok (.iload 5, 2) := dk_21 5 (dk_at dksX4_makesRoom_1 21 rfl rfl)
theorem dX4_makesRoom_47 : decode cX4_makesRoom 47 = .ok (.iconst (-1), 1) := dk_2 (dk_at dksX4_makesRoom_1 23 rfl rfl)
theorem dX4_makesRoom_48 : decode cX4_makesRoom 48 = .ok (.if_icmp .ne 5, 3) := dk_160 0 5 (dk_at dksX4_makesRoom_2 0 rfl rfl)
theorem dX4_makesRoom_51 : decode cX4_makesRoom 51 = .ok (.iconst 0, 1) := dk_3 (dk_at dksX4_makesRoom_2 3 rfl rfl)
theorem dX4_makesRoom_52 : decode cX4_makesRoom 52 = .ok (.ireturn, 1) := dk_172 (dk_at dksX4_makesRoom_2 4 rfl rfl)
theorem dX4_makesRoom_53 : decode cX4_makesRoom 53 = .ok (.iload_n 3, 1) := dk_29 (dk_at dksX4_makesRoom_2 5 rfl rfl)
theorem dX4_makesRoom_54 : decode cX4_makesRoom 54 = .ok (.iconst 1, 1) := dk_4 (dk_at dksX4_makesRoom_2 6 rfl rfl)
theorem dX4_makesRoom_55 : decode cX4_makesRoom 55 = .ok (.if_icmp .ne 15, 3) := dk_160 0 15 (dk_at dksX4_makesRoom_2 7 rfl rfl)
theorem dX4_makesRoom_58 : decode cX4_makesRoom 58 = .ok (.aload_n 0, 1) := dk_42 (dk_at dksX4_makesRoom_2 10 rfl rfl)
theorem dX4_makesRoom_59 : decode cX4_makesRoom 59 = .ok (.getfield 7, 3) := dk_180 0 7 (dk_at dksX4_makesRoom_2 11 rfl rfl)
theorem dX4_makesRoom_62 : decode cX4_makesRoom 62 = .ok (.bipush 120, 2) := dk_16 120 (dk_at dksX4_makesRoom_2 14 rfl rfl)
theorem dX4_makesRoom_64 : decode cX4_makesRoom 64 = .ok (.iload 4, 2) := dk_21 4 (dk_at dksX4_makesRoom_2 16 rfl rfl)
theorem dX4_makesRoom_66 : decode cX4_makesRoom 66 = .ok (.iadd, 1) := dk_96 (dk_at dksX4_makesRoom_2 18 rfl rfl)
theorem dX4_makesRoom_67 : decode cX4_makesRoom 67 = .ok (.iload 5, 2) := dk_21 5 (dk_at dksX4_makesRoom_2 19 rfl rfl)
theorem dX4_makesRoom_69 : decode cX4_makesRoom 69 = .ok (.iastore, 1) := dk_79 (dk_at dksX4_makesRoom_2 21 rfl rfl)
theorem dX4_makesRoom_70 : decode cX4_makesRoom 70 = .ok (.aload_n 0, 1) := dk_42 (dk_at dksX4_makesRoom_2 22 rfl rfl)
theorem dX4_makesRoom_71 : decode cX4_makesRoom 71 = .ok (.getfield 7, 3) := dk_180 0 7 (dk_at dksX4_makesRoom_3 0 rfl rfl)
theorem dX4_makesRoom_74 : decode cX4_makesRoom 74 = .ok (.bipush 120, 2) := dk_16 120 (dk_at dksX4_makesRoom_3 3 rfl rfl)
theorem dX4_makesRoom_76 : decode cX4_makesRoom 76 = .ok (.iload_n 1, 1) := dk_27 (dk_at dksX4_makesRoom_3 5 rfl rfl)
theorem dX4_makesRoom_77 : decode cX4_makesRoom 77 = .ok (.iadd, 1) := dk_96 (dk_at dksX4_makesRoom_3 6 rfl rfl)
theorem dX4_makesRoom_78 : decode cX4_makesRoom 78 = .ok (.iload_n 2, 1) := dk_28 (dk_at dksX4_makesRoom_3 7 rfl rfl)
theorem dX4_makesRoom_79 : decode cX4_makesRoom 79 = .ok (.iastore, 1) := dk_79 (dk_at dksX4_makesRoom_3 8 rfl rfl)
theorem dX4_makesRoom_80 : decode cX4_makesRoom 80 = .ok (.iconst 1, 1) := dk_4 (dk_at dksX4_makesRoom_3 9 rfl rfl)
theorem dX4_makesRoom_81 : decode cX4_makesRoom 81 = .ok (.ireturn, 1) := dk_172 (dk_at dksX4_makesRoom_3 10 rfl rfl)
abbrev cX4_clashing : ByteArray := prog_17_method_12_code
def yX4_clashing : MethodName := ⟨RX4, "clashing", "(II)I"⟩
def dkwX4_clashing_2 : List UInt8 := [46, 182, 0, 80, 153, 0, 8, 21, 4, 167, 0, 4, 29, 62, 132, 4, 1, 167, 255, 196, 29, 172]
abbrev dktX4_clashing_2 : List UInt8 := dkwX4_clashing_2 ++ []
def dkwX4_clashing_1 : List UInt8 := [16, 120, 21, 4, 96, 46, 2, 159, 0, 29, 42, 27, 28, 21, 4, 42, 180, 0, 7, 16, 120, 21, 4, 96]
abbrev dktX4_clashing_1 : List UInt8 := dkwX4_clashing_1 ++ dktX4_clashing_2
def dkwX4_clashing_0 : List UInt8 := [2, 62, 3, 54, 4, 21, 4, 42, 180, 0, 48, 162, 0, 57, 21, 4, 27, 159, 0, 43, 42, 180, 0, 7]
abbrev dktX4_clashing_0 : List UInt8 := dkwX4_clashing_0 ++ dktX4_clashing_1
theorem dksX4_clashing_0 : cX4_clashing.data.toList.drop 0 = dktX4_clashing_0 := by decide +kernel
theorem dksX4_clashing_1 : cX4_clashing.data.toList.drop 24 = dktX4_clashing_1 := dk_seg dksX4_clashing_0 24 rfl rfl
theorem dksX4_clashing_2 : cX4_clashing.data.toList.drop 48 = dktX4_clashing_2 := dk_seg dksX4_clashing_1 24 rfl rfl
theorem dX4_clashing_0 : decode cX4_clashing 0 = .ok (.iconst (-1), 1) := dk_2 (dk_at dksX4_clashing_0 0 rfl rfl)
theorem dX4_clashing_1 : decode cX4_clashing 1 = .ok (.istore_n 3, 1) := dk_62 (dk_at dksX4_clashing_0 1 rfl rfl)
theorem dX4_clashing_2 : decode cX4_clashing 2 = .ok (.iconst 0, 1) := dk_3 (dk_at dksX4_clashing_0 2 rfl rfl)
theorem dX4_clashing_3 : decode cX4_clashing 3 = .ok (.istore 4, 2) := dk_54 4 (dk_at dksX4_clashing_0 3 rfl rfl)
theorem dX4_clashing_5 : decode cX4_clashing 5 = .ok (.iload 4, 2) := dk_21 4 (dk_at dksX4_clashing_0 5 rfl rfl)
theorem dX4_clashing_7 : decode cX4_clashing 7 = .ok (.aload_n 0, 1) := dk_42 (dk_at dksX4_clashing_0 7 rfl rfl)
theorem dX4_clashing_8 : decode cX4_clashing 8 = .ok (.getfield 48, 3) := dk_180 0 48 (dk_at dksX4_clashing_0 8 rfl rfl)
theorem dX4_clashing_11 : decode cX4_clashing 11 = .ok (.if_icmp .ge 57, 3) := dk_162 0 57 (dk_at dksX4_clashing_0 11 rfl rfl)
theorem dX4_clashing_14 : decode cX4_clashing 14 = .ok (.iload 4, 2) := dk_21 4 (dk_at dksX4_clashing_0 14 rfl rfl)
theorem dX4_clashing_16 : decode cX4_clashing 16 = .ok (.iload_n 1, 1) := dk_27 (dk_at dksX4_clashing_0 16 rfl rfl)
theorem dX4_clashing_17 : decode cX4_clashing 17 = .ok (.if_icmp .eq 43, 3) := dk_159 0 43 (dk_at dksX4_clashing_0 17 rfl rfl)
theorem dX4_clashing_20 : decode cX4_clashing 20 = .ok (.aload_n 0, 1) := dk_42 (dk_at dksX4_clashing_0 20 rfl rfl)
theorem dX4_clashing_21 : decode cX4_clashing 21 = .ok (.getfield 7, 3) := dk_180 0 7 (dk_at dksX4_clashing_0 21 rfl rfl)
theorem dX4_clashing_24 : decode cX4_clashing 24 = .ok (.bipush 120, 2) := dk_16 120 (dk_at dksX4_clashing_1 0 rfl rfl)
theorem dX4_clashing_26 : decode cX4_clashing 26 = .ok (.iload 4, 2) := dk_21 4 (dk_at dksX4_clashing_1 2 rfl rfl)
theorem dX4_clashing_28 : decode cX4_clashing 28 = .ok (.iadd, 1) := dk_96 (dk_at dksX4_clashing_1 4 rfl rfl)
theorem dX4_clashing_29 : decode cX4_clashing 29 = .ok (.iaload, 1) := dk_46 (dk_at dksX4_clashing_1 5 rfl rfl)
theorem dX4_clashing_30 : decode cX4_clashing 30 = .ok (.iconst (-1), 1) := dk_2 (dk_at dksX4_clashing_1 6 rfl rfl)
theorem dX4_clashing_31 : decode cX4_clashing 31 = .ok (.if_icmp .eq 29, 3) := dk_159 0 29 (dk_at dksX4_clashing_1 7 rfl rfl)
theorem dX4_clashing_34 : decode cX4_clashing 34 = .ok (.aload_n 0, 1) := dk_42 (dk_at dksX4_clashing_1 10 rfl rfl)
theorem dX4_clashing_35 : decode cX4_clashing 35 = .ok (.iload_n 1, 1) := dk_27 (dk_at dksX4_clashing_1 11 rfl rfl)
theorem dX4_clashing_36 : decode cX4_clashing 36 = .ok (.iload_n 2, 1) := dk_28 (dk_at dksX4_clashing_1 12 rfl rfl)
theorem dX4_clashing_37 : decode cX4_clashing 37 = .ok (.iload 4, 2) := dk_21 4 (dk_at dksX4_clashing_1 13 rfl rfl)
theorem dX4_clashing_39 : decode cX4_clashing 39 = .ok (.aload_n 0, 1) := dk_42 (dk_at dksX4_clashing_1 15 rfl rfl)
theorem dX4_clashing_40 : decode cX4_clashing 40 = .ok (.getfield 7, 3) := dk_180 0 7 (dk_at dksX4_clashing_1 16 rfl rfl)
theorem dX4_clashing_43 : decode cX4_clashing 43 = .ok (.bipush 120, 2) := dk_16 120 (dk_at dksX4_clashing_1 19 rfl rfl)
theorem dX4_clashing_45 : decode cX4_clashing 45 = .ok (.iload 4, 2) := dk_21 4 (dk_at dksX4_clashing_1 21 rfl rfl)
theorem dX4_clashing_47 : decode cX4_clashing 47 = .ok (.iadd, 1) := dk_96 (dk_at dksX4_clashing_1 23 rfl rfl)
theorem dX4_clashing_48 : decode cX4_clashing 48 = .ok (.iaload, 1) := dk_46 (dk_at dksX4_clashing_2 0 rfl rfl)
theorem dX4_clashing_49 : decode cX4_clashing 49 = .ok (.invokevirtual 80, 3) := dk_182 0 80 (dk_at dksX4_clashing_2 1 rfl rfl)
theorem dX4_clashing_52 : decode cX4_clashing 52 = .ok (.ifCond .eq 8, 3) := dk_153 0 8 (dk_at dksX4_clashing_2 4 rfl rfl)
theorem dX4_clashing_55 : decode cX4_clashing 55 = .ok (.iload 4, 2) := dk_21 4 (dk_at dksX4_clashing_2 7 rfl rfl)
theorem dX4_clashing_57 : decode cX4_clashing 57 = .ok (.goto 4, 3) := dk_167 0 4 (dk_at dksX4_clashing_2 9 rfl rfl)
theorem dX4_clashing_60 : decode cX4_clashing 60 = .ok (.iload_n 3, 1) := dk_29 (dk_at dksX4_clashing_2 12 rfl rfl)
theorem dX4_clashing_61 : decode cX4_clashing 61 = .ok (.istore_n 3, 1) := dk_62 (dk_at dksX4_clashing_2 13 rfl rfl)
theorem dX4_clashing_62 : decode cX4_clashing 62 = .ok (.iinc 4 1, 3) := dk_132 4 1 (dk_at dksX4_clashing_2 14 rfl rfl)
theorem dX4_clashing_65 : decode cX4_clashing 65 = .ok (.goto (-60), 3) := dk_167 255 196 (dk_at dksX4_clashing_2 17 rfl rfl)
theorem dX4_clashing_68 : decode cX4_clashing 68 = .ok (.iload_n 3, 1) := dk_29 (dk_at dksX4_clashing_2 20 rfl rfl)
theorem dX4_clashing_69 : decode cX4_clashing 69 = .ok (.ireturn, 1) := dk_172 (dk_at dksX4_clashing_2 21 rfl rfl)
abbrev cX4_escapes : ByteArray := prog_17_method_35_code
def yX4_escapes : MethodName := ⟨RX4, "escapes", "(III)I"⟩
def dkwX4_escapes_3 : List UInt8 := [182, 0, 108, 154, 0, 6, 21, 4, 172, 132, 4, 1, 167, 255, 179, 2, 172]
abbrev dktX4_escapes_3 : List UInt8 := dkwX4_escapes_3 ++ []
def dkwX4_escapes_2 : List UInt8 := [182, 0, 80, 154, 0, 7, 4, 167, 0, 4, 3, 54, 5, 21, 5, 153, 0, 17, 42, 27, 21, 4, 2]
abbrev dktX4_escapes_2 : List UInt8 := dkwX4_escapes_2 ++ dktX4_escapes_3
def dkwX4_escapes_1 : List UInt8 := [153, 0, 33, 21, 4, 42, 180, 0, 7, 16, 120, 27, 96, 46, 159, 0, 19, 42, 27, 21, 4, 28, 29]
abbrev dktX4_escapes_1 : List UInt8 := dkwX4_escapes_1 ++ dktX4_escapes_2
def dkwX4_escapes_0 : List UInt8 := [3, 54, 4, 21, 4, 16, 8, 162, 0, 76, 42, 180, 0, 20, 16, 8, 27, 104, 21, 4, 96, 51]
abbrev dktX4_escapes_0 : List UInt8 := dkwX4_escapes_0 ++ dktX4_escapes_1
theorem dksX4_escapes_0 : cX4_escapes.data.toList.drop 0 = dktX4_escapes_0 := by decide +kernel
theorem dksX4_escapes_1 : cX4_escapes.data.toList.drop 22 = dktX4_escapes_1 := dk_seg dksX4_escapes_0 22 rfl rfl
theorem dksX4_escapes_2 : cX4_escapes.data.toList.drop 45 = dktX4_escapes_2 := dk_seg dksX4_escapes_1 23 rfl rfl
theorem dksX4_escapes_3 : cX4_escapes.data.toList.drop 68 = dktX4_escapes_3 := dk_seg dksX4_escapes_2 23 rfl rfl
theorem dX4_escapes_0 : decode cX4_escapes 0 = .ok (.iconst 0, 1) := dk_3 (dk_at dksX4_escapes_0 0 rfl rfl)
theorem dX4_escapes_1 : decode cX4_escapes 1 = .ok (.istore 4, 2) := dk_54 4 (dk_at dksX4_escapes_0 1 rfl rfl)
theorem dX4_escapes_3 : decode cX4_escapes 3 = .ok (.iload 4, 2) := dk_21 4 (dk_at dksX4_escapes_0 3 rfl rfl)
theorem dX4_escapes_5 : decode cX4_escapes 5 = .ok (.bipush 8, 2) := dk_16 8 (dk_at dksX4_escapes_0 5 rfl rfl)
theorem dX4_escapes_7 : decode cX4_escapes 7 = .ok (.if_icmp .ge 76, 3) := dk_162 0 76 (dk_at dksX4_escapes_0 7 rfl rfl)
theorem dX4_escapes_10 : decode cX4_escapes 10 = .ok (.aload_n 0, 1) := dk_42 (dk_at dksX4_escapes_0 10 rfl rfl)
theorem dX4_escapes_11 : decode cX4_escapes 11 = .ok (.getfield 20, 3) := dk_180 0 20 (dk_at dksX4_escapes_0 11 rfl rfl)
theorem dX4_escapes_14 : decode cX4_escapes 14 = .ok (.bipush 8, 2) := dk_16 8 (dk_at dksX4_escapes_0 14 rfl rfl)
theorem dX4_escapes_16 : decode cX4_escapes 16 = .ok (.iload_n 1, 1) := dk_27 (dk_at dksX4_escapes_0 16 rfl rfl)
theorem dX4_escapes_17 : decode cX4_escapes 17 = .ok (.imul, 1) := dk_104 (dk_at dksX4_escapes_0 17 rfl rfl)
theorem dX4_escapes_18 : decode cX4_escapes 18 = .ok (.iload 4, 2) := dk_21 4 (dk_at dksX4_escapes_0 18 rfl rfl)
theorem dX4_escapes_20 : decode cX4_escapes 20 = .ok (.iadd, 1) := dk_96 (dk_at dksX4_escapes_0 20 rfl rfl)
theorem dX4_escapes_21 : decode cX4_escapes 21 = .ok (.baload, 1) := dk_51 (dk_at dksX4_escapes_0 21 rfl rfl)
theorem dX4_escapes_22 : decode cX4_escapes 22 = .ok (.ifCond .eq 33, 3) := dk_153 0 33 (dk_at dksX4_escapes_1 0 rfl rfl)
theorem dX4_escapes_25 : decode cX4_escapes 25 = .ok (.iload 4, 2) := dk_21 4 (dk_at dksX4_escapes_1 3 rfl rfl)
theorem dX4_escapes_27 : decode cX4_escapes 27 = .ok (.aload_n 0, 1) := dk_42 (dk_at dksX4_escapes_1 5 rfl rfl)
theorem dX4_escapes_28 : decode cX4_escapes 28 = .ok (.getfield 7, 3) := dk_180 0 7 (dk_at dksX4_escapes_1 6 rfl rfl)
theorem dX4_escapes_31 : decode cX4_escapes 31 = .ok (.bipush 120, 2) := dk_16 120 (dk_at dksX4_escapes_1 9 rfl rfl)
theorem dX4_escapes_33 : decode cX4_escapes 33 = .ok (.iload_n 1, 1) := dk_27 (dk_at dksX4_escapes_1 11 rfl rfl)
theorem dX4_escapes_34 : decode cX4_escapes 34 = .ok (.iadd, 1) := dk_96 (dk_at dksX4_escapes_1 12 rfl rfl)
theorem dX4_escapes_35 : decode cX4_escapes 35 = .ok (.iaload, 1) := dk_46 (dk_at dksX4_escapes_1 13 rfl rfl)
theorem dX4_escapes_36 : decode cX4_escapes 36 = .ok (.if_icmp .eq 19, 3) := dk_159 0 19 (dk_at dksX4_escapes_1 14 rfl rfl)
theorem dX4_escapes_39 : decode cX4_escapes 39 = .ok (.aload_n 0, 1) := dk_42 (dk_at dksX4_escapes_1 17 rfl rfl)
theorem dX4_escapes_40 : decode cX4_escapes 40 = .ok (.iload_n 1, 1) := dk_27 (dk_at dksX4_escapes_1 18 rfl rfl)
theorem dX4_escapes_41 : decode cX4_escapes 41 = .ok (.iload 4, 2) := dk_21 4 (dk_at dksX4_escapes_1 19 rfl rfl)
theorem dX4_escapes_43 : decode cX4_escapes 43 = .ok (.iload_n 2, 1) := dk_28 (dk_at dksX4_escapes_1 21 rfl rfl)
theorem dX4_escapes_44 : decode cX4_escapes 44 = .ok (.iload_n 3, 1) := dk_29 (dk_at dksX4_escapes_1 22 rfl rfl)
theorem dX4_escapes_45 : decode cX4_escapes 45 = .ok (.invokevirtual 80, 3) := dk_182 0 80 (dk_at dksX4_escapes_2 0 rfl rfl)
theorem dX4_escapes_48 : decode cX4_escapes 48 = .ok (.ifCond .ne 7, 3) := dk_154 0 7 (dk_at dksX4_escapes_2 3 rfl rfl)
theorem dX4_escapes_51 : decode cX4_escapes 51 = .ok (.iconst 1, 1) := dk_4 (dk_at dksX4_escapes_2 6 rfl rfl)
theorem dX4_escapes_52 : decode cX4_escapes 52 = .ok (.goto 4, 3) := dk_167 0 4 (dk_at dksX4_escapes_2 7 rfl rfl)
theorem dX4_escapes_55 : decode cX4_escapes 55 = .ok (.iconst 0, 1) := dk_3 (dk_at dksX4_escapes_2 10 rfl rfl)
theorem dX4_escapes_56 : decode cX4_escapes 56 = .ok (.istore 5, 2) := dk_54 5 (dk_at dksX4_escapes_2 11 rfl rfl)
theorem dX4_escapes_58 : decode cX4_escapes 58 = .ok (.iload 5, 2) := dk_21 5 (dk_at dksX4_escapes_2 13 rfl rfl)
theorem dX4_escapes_60 : decode cX4_escapes 60 = .ok (.ifCond .eq 17, 3) := dk_153 0 17 (dk_at dksX4_escapes_2 15 rfl rfl)
theorem dX4_escapes_63 : decode cX4_escapes 63 = .ok (.aload_n 0, 1) := dk_42 (dk_at dksX4_escapes_2 18 rfl rfl)
theorem dX4_escapes_64 : decode cX4_escapes 64 = .ok (.iload_n 1, 1) := dk_27 (dk_at dksX4_escapes_2 19 rfl rfl)
theorem dX4_escapes_65 : decode cX4_escapes 65 = .ok (.iload 4, 2) := dk_21 4 (dk_at dksX4_escapes_2 20 rfl rfl)
theorem dX4_escapes_67 : decode cX4_escapes 67 = .ok (.iconst (-1), 1) := dk_2 (dk_at dksX4_escapes_2 22 rfl rfl)
theorem dX4_escapes_68 : decode cX4_escapes 68 = .ok (.invokevirtual 108, 3) := dk_182 0 108 (dk_at dksX4_escapes_3 0 rfl rfl)
theorem dX4_escapes_71 : decode cX4_escapes 71 = .ok (.ifCond .ne 6, 3) := dk_154 0 6 (dk_at dksX4_escapes_3 3 rfl rfl)
theorem dX4_escapes_74 : decode cX4_escapes 74 = .ok (.iload 4, 2) := dk_21 4 (dk_at dksX4_escapes_3 6 rfl rfl)
theorem dX4_escapes_76 : decode cX4_escapes 76 = .ok (.ireturn, 1) := dk_172 (dk_at dksX4_escapes_3 8 rfl rfl)
theorem dX4_escapes_77 : decode cX4_escapes 77 = .ok (.iinc 4 1, 3) := dk_132 4 1 (dk_at dksX4_escapes_3 9 rfl rfl)
theorem dX4_escapes_80 : decode cX4_escapes 80 = .ok (.goto (-77), 3) := dk_167 255 179 (dk_at dksX4_escapes_3 12 rfl rfl)
theorem dX4_escapes_83 : decode cX4_escapes 83 = .ok (.iconst (-1), 1) := dk_2 (dk_at dksX4_escapes_3 15 rfl rfl)
theorem dX4_escapes_84 : decode cX4_escapes 84 = .ok (.ireturn, 1) := dk_172 (dk_at dksX4_escapes_3 16 rfl rfl)
abbrev cX4_push : ByteArray := prog_17_method_41_code
def yX4_push : MethodName := ⟨RX4, "push", "()I"⟩
def dkwX4_push_1 : List UInt8 := [182, 0, 169, 61, 167, 255, 244, 27, 172]
abbrev dktX4_push_1 : List UInt8 := dkwX4_push_1 ++ []
def dkwX4_push_0 : List UInt8 := [42, 182, 0, 83, 42, 182, 0, 148, 3, 60, 42, 182, 0, 169, 61, 28, 153, 0, 14, 132, 1, 1, 42]
abbrev dktX4_push_0 : List UInt8 := dkwX4_push_0 ++ dktX4_push_1
theorem dksX4_push_0 : cX4_push.data.toList.drop 0 = dktX4_push_0 := by decide +kernel
theorem dksX4_push_1 : cX4_push.data.toList.drop 23 = dktX4_push_1 := dk_seg dksX4_push_0 23 rfl rfl
theorem dX4_push_0 : decode cX4_push 0 = .ok (.aload_n 0, 1) := dk_42 (dk_at dksX4_push_0 0 rfl rfl)
theorem dX4_push_1 : decode cX4_push 1 = .ok (.invokevirtual 83, 3) := dk_182 0 83 (dk_at dksX4_push_0 1 rfl rfl)
theorem dX4_push_4 : decode cX4_push 4 = .ok (.aload_n 0, 1) := dk_42 (dk_at dksX4_push_0 4 rfl rfl)
theorem dX4_push_5 : decode cX4_push 5 = .ok (.invokevirtual 148, 3) := dk_182 0 148 (dk_at dksX4_push_0 5 rfl rfl)
theorem dX4_push_8 : decode cX4_push 8 = .ok (.iconst 0, 1) := dk_3 (dk_at dksX4_push_0 8 rfl rfl)
theorem dX4_push_9 : decode cX4_push 9 = .ok (.istore_n 1, 1) := dk_60 (dk_at dksX4_push_0 9 rfl rfl)
theorem dX4_push_10 : decode cX4_push 10 = .ok (.aload_n 0, 1) := dk_42 (dk_at dksX4_push_0 10 rfl rfl)
theorem dX4_push_11 : decode cX4_push 11 = .ok (.invokevirtual 169, 3) := dk_182 0 169 (dk_at dksX4_push_0 11 rfl rfl)
theorem dX4_push_14 : decode cX4_push 14 = .ok (.istore_n 2, 1) := dk_61 (dk_at dksX4_push_0 14 rfl rfl)
theorem dX4_push_15 : decode cX4_push 15 = .ok (.iload_n 2, 1) := dk_28 (dk_at dksX4_push_0 15 rfl rfl)
theorem dX4_push_16 : decode cX4_push 16 = .ok (.ifCond .eq 14, 3) := dk_153 0 14 (dk_at dksX4_push_0 16 rfl rfl)
theorem dX4_push_19 : decode cX4_push 19 = .ok (.iinc 1 1, 3) := dk_132 1 1 (dk_at dksX4_push_0 19 rfl rfl)
theorem dX4_push_22 : decode cX4_push 22 = .ok (.aload_n 0, 1) := dk_42 (dk_at dksX4_push_0 22 rfl rfl)
theorem dX4_push_23 : decode cX4_push 23 = .ok (.invokevirtual 169, 3) := dk_182 0 169 (dk_at dksX4_push_1 0 rfl rfl)
theorem dX4_push_26 : decode cX4_push 26 = .ok (.istore_n 2, 1) := dk_61 (dk_at dksX4_push_1 3 rfl rfl)
theorem dX4_push_27 : decode cX4_push 27 = .ok (.goto (-12), 3) := dk_167 255 244 (dk_at dksX4_push_1 4 rfl rfl)
theorem dX4_push_30 : decode cX4_push 30 = .ok (.iload_n 1, 1) := dk_27 (dk_at dksX4_push_1 7 rfl rfl)
theorem dX4_push_31 : decode cX4_push 31 = .ok (.ireturn, 1) := dk_172 (dk_at dksX4_push_1 8 rfl rfl)
abbrev cX4_pushes : ByteArray := prog_17_method_40_code
def yX4_pushes : MethodName := ⟨RX4, "pushes", "()Z"⟩
def dkwX4_pushes_6 : List UInt8 := [3, 172]
abbrev dktX4_pushes_6 : List UInt8 := dkwX4_pushes_6 ++ []
def dkwX4_pushes_5 : List UInt8 := [132, 4, 1, 167, 255, 167, 42, 180, 0, 7, 16, 120, 28, 96, 29, 79, 4, 172, 132, 1, 1, 167, 255, 120]
abbrev dktX4_pushes_5 : List UInt8 := dkwX4_pushes_5 ++ dktX4_pushes_6
def dkwX4_pushes_4 : List UInt8 := [21, 4, 96, 21, 5, 153, 0, 7, 2, 167, 0, 13, 42, 180, 0, 7, 16, 120, 21, 4, 96, 46, 79]
abbrev dktX4_pushes_4 : List UInt8 := dkwX4_pushes_4 ++ dktX4_pushes_5
def dkwX4_pushes_3 : List UInt8 := [21, 4, 96, 46, 182, 0, 80, 153, 0, 7, 4, 167, 0, 4, 3, 54, 5, 42, 180, 0, 7, 16, 120]
abbrev dktX4_pushes_3 : List UInt8 := dkwX4_pushes_3 ++ dktX4_pushes_4
def dkwX4_pushes_2 : List UInt8 := [180, 0, 7, 16, 120, 21, 4, 96, 46, 2, 159, 0, 28, 42, 28, 29, 21, 4, 42, 180, 0, 7, 16, 120]
abbrev dktX4_pushes_2 : List UInt8 := dkwX4_pushes_2 ++ dktX4_pushes_3
def dkwX4_pushes_1 : List UInt8 := [2, 159, 0, 110, 3, 54, 4, 21, 4, 42, 180, 0, 48, 162, 0, 86, 21, 4, 28, 159, 0, 42, 42]
abbrev dktX4_pushes_1 : List UInt8 := dkwX4_pushes_1 ++ dktX4_pushes_2
def dkwX4_pushes_0 : List UInt8 := [3, 60, 27, 42, 180, 0, 48, 162, 0, 134, 42, 180, 0, 24, 27, 46, 61, 42, 28, 182, 0, 166, 62, 29]
abbrev dktX4_pushes_0 : List UInt8 := dkwX4_pushes_0 ++ dktX4_pushes_1
theorem dksX4_pushes_0 : cX4_pushes.data.toList.drop 0 = dktX4_pushes_0 := by decide +kernel
theorem dksX4_pushes_1 : cX4_pushes.data.toList.drop 24 = dktX4_pushes_1 := dk_seg dksX4_pushes_0 24 rfl rfl
theorem dksX4_pushes_2 : cX4_pushes.data.toList.drop 47 = dktX4_pushes_2 := dk_seg dksX4_pushes_1 23 rfl rfl
theorem dksX4_pushes_3 : cX4_pushes.data.toList.drop 71 = dktX4_pushes_3 := dk_seg dksX4_pushes_2 24 rfl rfl
theorem dksX4_pushes_4 : cX4_pushes.data.toList.drop 94 = dktX4_pushes_4 := dk_seg dksX4_pushes_3 23 rfl rfl
theorem dksX4_pushes_5 : cX4_pushes.data.toList.drop 117 = dktX4_pushes_5 := dk_seg dksX4_pushes_4 23 rfl rfl
theorem dksX4_pushes_6 : cX4_pushes.data.toList.drop 141 = dktX4_pushes_6 := dk_seg dksX4_pushes_5 24 rfl rfl
theorem dX4_pushes_0 : decode cX4_pushes 0 = .ok (.iconst 0, 1) := dk_3 (dk_at dksX4_pushes_0 0 rfl rfl)
theorem dX4_pushes_1 : decode cX4_pushes 1 = .ok (.istore_n 1, 1) := dk_60 (dk_at dksX4_pushes_0 1 rfl rfl)
theorem dX4_pushes_2 : decode cX4_pushes 2 = .ok (.iload_n 1, 1) := dk_27 (dk_at dksX4_pushes_0 2 rfl rfl)
theorem dX4_pushes_3 : decode cX4_pushes 3 = .ok (.aload_n 0, 1) := dk_42 (dk_at dksX4_pushes_0 3 rfl rfl)
theorem dX4_pushes_4 : decode cX4_pushes 4 = .ok (.getfield 48, 3) := dk_180 0 48 (dk_at dksX4_pushes_0 4 rfl rfl)
theorem dX4_pushes_7 : decode cX4_pushes 7 = .ok (.if_icmp .ge 134, 3) := dk_162 0 134 (dk_at dksX4_pushes_0 7 rfl rfl)
theorem dX4_pushes_10 : decode cX4_pushes 10 = .ok (.aload_n 0, 1) := dk_42 (dk_at dksX4_pushes_0 10 rfl rfl)
theorem dX4_pushes_11 : decode cX4_pushes 11 = .ok (.getfield 24, 3) := dk_180 0 24 (dk_at dksX4_pushes_0 11 rfl rfl)
theorem dX4_pushes_14 : decode cX4_pushes 14 = .ok (.iload_n 1, 1) := dk_27 (dk_at dksX4_pushes_0 14 rfl rfl)
theorem dX4_pushes_15 : decode cX4_pushes 15 = .ok (.iaload, 1) := dk_46 (dk_at dksX4_pushes_0 15 rfl rfl)
theorem dX4_pushes_16 : decode cX4_pushes 16 = .ok (.istore_n 2, 1) := dk_61 (dk_at dksX4_pushes_0 16 rfl rfl)
theorem dX4_pushes_17 : decode cX4_pushes 17 = .ok (.aload_n 0, 1) := dk_42 (dk_at dksX4_pushes_0 17 rfl rfl)
theorem dX4_pushes_18 : decode cX4_pushes 18 = .ok (.iload_n 2, 1) := dk_28 (dk_at dksX4_pushes_0 18 rfl rfl)
theorem dX4_pushes_19 : decode cX4_pushes 19 = .ok (.invokevirtual 166, 3) := dk_182 0 166 (dk_at dksX4_pushes_0 19 rfl rfl)
theorem dX4_pushes_22 : decode cX4_pushes 22 = .ok (.istore_n 3, 1) := dk_62 (dk_at dksX4_pushes_0 22 rfl rfl)
theorem dX4_pushes_23 : decode cX4_pushes 23 = .ok (.iload_n 3, 1) := dk_29 (dk_at dksX4_pushes_0 23 rfl rfl)
theorem dX4_pushes_24 : decode cX4_pushes 24 = .ok (.iconst (-1), 1) := dk_2 (dk_at dksX4_pushes_1 0 rfl rfl)
theorem dX4_pushes_25 : decode cX4_pushes 25 = .ok (.if_icmp .eq 110, 3) := dk_159 0 110 (dk_at dksX4_pushes_1 1 rfl rfl)
theorem dX4_pushes_28 : decode cX4_pushes 28 = .ok (.iconst 0, 1) := dk_3 (dk_at dksX4_pushes_1 4 rfl rfl)
theorem dX4_pushes_29 : decode cX4_pushes 29 = .ok (.istore 4, 2) := dk_54 4 (dk_at dksX4_pushes_1 5 rfl rfl)
theorem dX4_pushes_31 : decode cX4_pushes 31 = .ok (.iload 4, 2) := dk_21 4 (dk_at dksX4_pushes_1 7 rfl rfl)
theorem dX4_pushes_33 : decode cX4_pushes 33 = .ok (.aload_n 0, 1) := dk_42 (dk_at dksX4_pushes_1 9 rfl rfl)
theorem dX4_pushes_34 : decode cX4_pushes 34 = .ok (.getfield 48, 3) := dk_180 0 48 (dk_at dksX4_pushes_1 10 rfl rfl)
theorem dX4_pushes_37 : decode cX4_pushes 37 = .ok (.if_icmp .ge 86, 3) := dk_162 0 86 (dk_at dksX4_pushes_1 13 rfl rfl)
theorem dX4_pushes_40 : decode cX4_pushes 40 = .ok (.iload 4, 2) := dk_21 4 (dk_at dksX4_pushes_1 16 rfl rfl)
theorem dX4_pushes_42 : decode cX4_pushes 42 = .ok (.iload_n 2, 1) := dk_28 (dk_at dksX4_pushes_1 18 rfl rfl)
theorem dX4_pushes_43 : decode cX4_pushes 43 = .ok (.if_icmp .eq 42, 3) := dk_159 0 42 (dk_at dksX4_pushes_1 19 rfl rfl)
theorem dX4_pushes_46 : decode cX4_pushes 46 = .ok (.aload_n 0, 1) := dk_42 (dk_at dksX4_pushes_1 22 rfl rfl)
theorem dX4_pushes_47 : decode cX4_pushes 47 = .ok (.getfield 7, 3) := dk_180 0 7 (dk_at dksX4_pushes_2 0 rfl rfl)
theorem dX4_pushes_50 : decode cX4_pushes 50 = .ok (.bipush 120, 2) := dk_16 120 (dk_at dksX4_pushes_2 3 rfl rfl)
theorem dX4_pushes_52 : decode cX4_pushes 52 = .ok (.iload 4, 2) := dk_21 4 (dk_at dksX4_pushes_2 5 rfl rfl)
theorem dX4_pushes_54 : decode cX4_pushes 54 = .ok (.iadd, 1) := dk_96 (dk_at dksX4_pushes_2 7 rfl rfl)
theorem dX4_pushes_55 : decode cX4_pushes 55 = .ok (.iaload, 1) := dk_46 (dk_at dksX4_pushes_2 8 rfl rfl)
theorem dX4_pushes_56 : decode cX4_pushes 56 = .ok (.iconst (-1), 1) := dk_2 (dk_at dksX4_pushes_2 9 rfl rfl)
theorem dX4_pushes_57 : decode cX4_pushes 57 = .ok (.if_icmp .eq 28, 3) := dk_159 0 28 (dk_at dksX4_pushes_2 10 rfl rfl)
theorem dX4_pushes_60 : decode cX4_pushes 60 = .ok (.aload_n 0, 1) := dk_42 (dk_at dksX4_pushes_2 13 rfl rfl)
theorem dX4_pushes_61 : decode cX4_pushes 61 = .ok (.iload_n 2, 1) := dk_28 (dk_at dksX4_pushes_2 14 rfl rfl)
theorem dX4_pushes_62 : decode cX4_pushes 62 = .ok (.iload_n 3, 1) := dk_29 (dk_at dksX4_pushes_2 15 rfl rfl)
theorem dX4_pushes_63 : decode cX4_pushes 63 = .ok (.iload 4, 2) := dk_21 4 (dk_at dksX4_pushes_2 16 rfl rfl)
theorem dX4_pushes_65 : decode cX4_pushes 65 = .ok (.aload_n 0, 1) := dk_42 (dk_at dksX4_pushes_2 18 rfl rfl)
theorem dX4_pushes_66 : decode cX4_pushes 66 = .ok (.getfield 7, 3) := dk_180 0 7 (dk_at dksX4_pushes_2 19 rfl rfl)
theorem dX4_pushes_69 : decode cX4_pushes 69 = .ok (.bipush 120, 2) := dk_16 120 (dk_at dksX4_pushes_2 22 rfl rfl)
theorem dX4_pushes_71 : decode cX4_pushes 71 = .ok (.iload 4, 2) := dk_21 4 (dk_at dksX4_pushes_3 0 rfl rfl)
theorem dX4_pushes_73 : decode cX4_pushes 73 = .ok (.iadd, 1) := dk_96 (dk_at dksX4_pushes_3 2 rfl rfl)
theorem dX4_pushes_74 : decode cX4_pushes 74 = .ok (.iaload, 1) := dk_46 (dk_at dksX4_pushes_3 3 rfl rfl)
theorem dX4_pushes_75 : decode cX4_pushes 75 = .ok (.invokevirtual 80, 3) := dk_182 0 80 (dk_at dksX4_pushes_3 4 rfl rfl)
theorem dX4_pushes_78 : decode cX4_pushes 78 = .ok (.ifCond .eq 7, 3) := dk_153 0 7 (dk_at dksX4_pushes_3 7 rfl rfl)
theorem dX4_pushes_81 : decode cX4_pushes 81 = .ok (.iconst 1, 1) := dk_4 (dk_at dksX4_pushes_3 10 rfl rfl)
theorem dX4_pushes_82 : decode cX4_pushes 82 = .ok (.goto 4, 3) := dk_167 0 4 (dk_at dksX4_pushes_3 11 rfl rfl)
theorem dX4_pushes_85 : decode cX4_pushes 85 = .ok (.iconst 0, 1) := dk_3 (dk_at dksX4_pushes_3 14 rfl rfl)
theorem dX4_pushes_86 : decode cX4_pushes 86 = .ok (.istore 5, 2) := dk_54 5 (dk_at dksX4_pushes_3 15 rfl rfl)
theorem dX4_pushes_88 : decode cX4_pushes 88 = .ok (.aload_n 0, 1) := dk_42 (dk_at dksX4_pushes_3 17 rfl rfl)
theorem dX4_pushes_89 : decode cX4_pushes 89 = .ok (.getfield 7, 3) := dk_180 0 7 (dk_at dksX4_pushes_3 18 rfl rfl)
theorem dX4_pushes_92 : decode cX4_pushes 92 = .ok (.bipush 120, 2) := dk_16 120 (dk_at dksX4_pushes_3 21 rfl rfl)
theorem dX4_pushes_94 : decode cX4_pushes 94 = .ok (.iload 4, 2) := dk_21 4 (dk_at dksX4_pushes_4 0 rfl rfl)
theorem dX4_pushes_96 : decode cX4_pushes 96 = .ok (.iadd, 1) := dk_96 (dk_at dksX4_pushes_4 2 rfl rfl)
theorem dX4_pushes_97 : decode cX4_pushes 97 = .ok (.iload 5, 2) := dk_21 5 (dk_at dksX4_pushes_4 3 rfl rfl)
theorem dX4_pushes_99 : decode cX4_pushes 99 = .ok (.ifCond .eq 7, 3) := dk_153 0 7 (dk_at dksX4_pushes_4 5 rfl rfl)
theorem dX4_pushes_102 : decode cX4_pushes 102 = .ok (.iconst (-1), 1) := dk_2 (dk_at dksX4_pushes_4 8 rfl rfl)
theorem dX4_pushes_103 : decode cX4_pushes 103 = .ok (.goto 13, 3) := dk_167 0 13 (dk_at dksX4_pushes_4 9 rfl rfl)
theorem dX4_pushes_106 : decode cX4_pushes 106 = .ok (.aload_n 0, 1) := dk_42 (dk_at dksX4_pushes_4 12 rfl rfl)
theorem dX4_pushes_107 : decode cX4_pushes 107 = .ok (.getfield 7, 3) := dk_180 0 7 (dk_at dksX4_pushes_4 13 rfl rfl)
theorem dX4_pushes_110 : decode cX4_pushes 110 = .ok (.bipush 120, 2) := dk_16 120 (dk_at dksX4_pushes_4 16 rfl rfl)
theorem dX4_pushes_112 : decode cX4_pushes 112 = .ok (.iload 4, 2) := dk_21 4 (dk_at dksX4_pushes_4 18 rfl rfl)
theorem dX4_pushes_114 : decode cX4_pushes 114 = .ok (.iadd, 1) := dk_96 (dk_at dksX4_pushes_4 20 rfl rfl)
theorem dX4_pushes_115 : decode cX4_pushes 115 = .ok (.iaload, 1) := dk_46 (dk_at dksX4_pushes_4 21 rfl rfl)
theorem dX4_pushes_116 : decode cX4_pushes 116 = .ok (.iastore, 1) := dk_79 (dk_at dksX4_pushes_4 22 rfl rfl)
theorem dX4_pushes_117 : decode cX4_pushes 117 = .ok (.iinc 4 1, 3) := dk_132 4 1 (dk_at dksX4_pushes_5 0 rfl rfl)
theorem dX4_pushes_120 : decode cX4_pushes 120 = .ok (.goto (-89), 3) := dk_167 255 167 (dk_at dksX4_pushes_5 3 rfl rfl)
theorem dX4_pushes_123 : decode cX4_pushes 123 = .ok (.aload_n 0, 1) := dk_42 (dk_at dksX4_pushes_5 6 rfl rfl)
theorem dX4_pushes_124 : decode cX4_pushes 124 = .ok (.getfield 7, 3) := dk_180 0 7 (dk_at dksX4_pushes_5 7 rfl rfl)
theorem dX4_pushes_127 : decode cX4_pushes 127 = .ok (.bipush 120, 2) := dk_16 120 (dk_at dksX4_pushes_5 10 rfl rfl)
theorem dX4_pushes_129 : decode cX4_pushes 129 = .ok (.iload_n 2, 1) := dk_28 (dk_at dksX4_pushes_5 12 rfl rfl)
theorem dX4_pushes_130 : decode cX4_pushes 130 = .ok (.iadd, 1) := dk_96 (dk_at dksX4_pushes_5 13 rfl rfl)
theorem dX4_pushes_131 : decode cX4_pushes 131 = .ok (.iload_n 3, 1) := dk_29 (dk_at dksX4_pushes_5 14 rfl rfl)
theorem dX4_pushes_132 : decode cX4_pushes 132 = .ok (.iastore, 1) := dk_79 (dk_at dksX4_pushes_5 15 rfl rfl)
theorem dX4_pushes_133 : decode cX4_pushes 133 = .ok (.iconst 1, 1) := dk_4 (dk_at dksX4_pushes_5 16 rfl rfl)
theorem dX4_pushes_134 : decode cX4_pushes 134 = .ok (.ireturn, 1) := dk_172 (dk_at dksX4_pushes_5 17 rfl rfl)
theorem dX4_pushes_135 : decode cX4_pushes 135 = .ok (.iinc 1 1, 3) := dk_132 1 1 (dk_at dksX4_pushes_5 18 rfl rfl)
theorem dX4_pushes_138 : decode cX4_pushes 138 = .ok (.goto (-136), 3) := dk_167 255 120 (dk_at dksX4_pushes_5 21 rfl rfl)
theorem dX4_pushes_141 : decode cX4_pushes 141 = .ok (.iconst 0, 1) := dk_3 (dk_at dksX4_pushes_6 0 rfl rfl)
theorem dX4_pushes_142 : decode cX4_pushes 142 = .ok (.ireturn, 1) := dk_172 (dk_at dksX4_pushes_6 1 rfl rfl)
abbrev cX4_strongest : ByteArray := prog_17_method_39_code
def yX4_strongest : MethodName := ⟨RX4, "strongest", "(I)I"⟩
def dkwX4_strongest_1 : List UInt8 := [153, 0, 5, 28, 172, 132, 2, 1, 167, 255, 228, 2, 172]
abbrev dktX4_strongest_1 : List UInt8 := dkwX4_strongest_1 ++ []
def dkwX4_strongest_0 : List UInt8 := [3, 61, 28, 16, 8, 162, 0, 28, 42, 27, 182, 0, 151, 153, 0, 14, 42, 27, 28, 182, 0, 163]
abbrev dktX4_strongest_0 : List UInt8 := dkwX4_strongest_0 ++ dktX4_strongest_1
theorem dksX4_strongest_0 : cX4_strongest.data.toList.drop 0 = dktX4_strongest_0 := by decide +kernel
theorem dksX4_strongest_1 : cX4_strongest.data.toList.drop 22 = dktX4_strongest_1 := dk_seg dksX4_strongest_0 22 rfl rfl
theorem dX4_strongest_0 : decode cX4_strongest 0 = .ok (.iconst 0, 1) := dk_3 (dk_at dksX4_strongest_0 0 rfl rfl)
theorem dX4_strongest_1 : decode cX4_strongest 1 = .ok (.istore_n 2, 1) := dk_61 (dk_at dksX4_strongest_0 1 rfl rfl)
theorem dX4_strongest_2 : decode cX4_strongest 2 = .ok (.iload_n 2, 1) := dk_28 (dk_at dksX4_strongest_0 2 rfl rfl)
theorem dX4_strongest_3 : decode cX4_strongest 3 = .ok (.bipush 8, 2) := dk_16 8 (dk_at dksX4_strongest_0 3 rfl rfl)
theorem dX4_strongest_5 : decode cX4_strongest 5 = .ok (.if_icmp .ge 28, 3) := dk_162 0 28 (dk_at dksX4_strongest_0 5 rfl rfl)
theorem dX4_strongest_8 : decode cX4_strongest 8 = .ok (.aload_n 0, 1) := dk_42 (dk_at dksX4_strongest_0 8 rfl rfl)
theorem dX4_strongest_9 : decode cX4_strongest 9 = .ok (.iload_n 1, 1) := dk_27 (dk_at dksX4_strongest_0 9 rfl rfl)
theorem dX4_strongest_10 : decode cX4_strongest 10 = .ok (.invokevirtual 151, 3) := dk_182 0 151 (dk_at dksX4_strongest_0 10 rfl rfl)
theorem dX4_strongest_13 : decode cX4_strongest 13 = .ok (.ifCond .eq 14, 3) := dk_153 0 14 (dk_at dksX4_strongest_0 13 rfl rfl)
theorem dX4_strongest_16 : decode cX4_strongest 16 = .ok (.aload_n 0, 1) := dk_42 (dk_at dksX4_strongest_0 16 rfl rfl)
theorem dX4_strongest_17 : decode cX4_strongest 17 = .ok (.iload_n 1, 1) := dk_27 (dk_at dksX4_strongest_0 17 rfl rfl)
theorem dX4_strongest_18 : decode cX4_strongest 18 = .ok (.iload_n 2, 1) := dk_28 (dk_at dksX4_strongest_0 18 rfl rfl)
theorem dX4_strongest_19 : decode cX4_strongest 19 = .ok (.invokevirtual 163, 3) := dk_182 0 163 (dk_at dksX4_strongest_0 19 rfl rfl)
theorem dX4_strongest_22 : decode cX4_strongest 22 = .ok (.ifCond .eq 5, 3) := dk_153 0 5 (dk_at dksX4_strongest_1 0 rfl rfl)
theorem dX4_strongest_25 : decode cX4_strongest 25 = .ok (.iload_n 2, 1) := dk_28 (dk_at dksX4_strongest_1 3 rfl rfl)
theorem dX4_strongest_26 : decode cX4_strongest 26 = .ok (.ireturn, 1) := dk_172 (dk_at dksX4_strongest_1 4 rfl rfl)
theorem dX4_strongest_27 : decode cX4_strongest 27 = .ok (.iinc 2 1, 3) := dk_132 2 1 (dk_at dksX4_strongest_1 5 rfl rfl)
theorem dX4_strongest_30 : decode cX4_strongest 30 = .ok (.goto (-28), 3) := dk_167 255 228 (dk_at dksX4_strongest_1 8 rfl rfl)
theorem dX4_strongest_33 : decode cX4_strongest 33 = .ok (.iconst (-1), 1) := dk_2 (dk_at dksX4_strongest_1 11 rfl rfl)
theorem dX4_strongest_34 : decode cX4_strongest 34 = .ok (.ireturn, 1) := dk_172 (dk_at dksX4_strongest_1 12 rfl rfl)
abbrev cX4_isStronger : ByteArray := prog_17_method_38_code
def yX4_isStronger : MethodName := ⟨RX4, "isStronger", "(II)Z"⟩
def dkwX4_isStronger_5 : List UInt8 := [172]
abbrev dktX4_isStronger_5 : List UInt8 := dkwX4_isStronger_5 ++ []
def dkwX4_isStronger_4 : List UInt8 := [180, 0, 7, 16, 80, 27, 96, 46, 162, 0, 7, 4, 167, 0, 4, 3, 62, 132, 4, 1, 167, 255, 159, 29]
abbrev dktX4_isStronger_4 : List UInt8 := dkwX4_isStronger_4 ++ dktX4_isStronger_5
def dkwX4_isStronger_3 : List UInt8 := [167, 0, 4, 3, 54, 5, 21, 5, 153, 0, 25, 42, 180, 0, 7, 16, 80, 21, 4, 96, 46, 42]
abbrev dktX4_isStronger_3 : List UInt8 := dkwX4_isStronger_3 ++ dktX4_isStronger_4
def dkwX4_isStronger_2 : List UInt8 := [42, 27, 28, 21, 4, 42, 180, 0, 7, 16, 120, 21, 4, 96, 46, 182, 0, 80, 153, 0, 7, 4]
abbrev dktX4_isStronger_2 : List UInt8 := dkwX4_isStronger_2 ++ dktX4_isStronger_3
def dkwX4_isStronger_1 : List UInt8 := [29, 153, 0, 90, 21, 4, 27, 159, 0, 42, 42, 180, 0, 7, 16, 120, 21, 4, 96, 46, 2, 159, 0, 28]
abbrev dktX4_isStronger_1 : List UInt8 := dkwX4_isStronger_1 ++ dktX4_isStronger_2
def dkwX4_isStronger_0 : List UInt8 := [42, 180, 0, 20, 16, 8, 27, 104, 28, 96, 51, 62, 3, 54, 4, 21, 4, 42, 180, 0, 48, 162, 0, 94]
abbrev dktX4_isStronger_0 : List UInt8 := dkwX4_isStronger_0 ++ dktX4_isStronger_1
theorem dksX4_isStronger_0 : cX4_isStronger.data.toList.drop 0 = dktX4_isStronger_0 := by decide +kernel
theorem dksX4_isStronger_1 : cX4_isStronger.data.toList.drop 24 = dktX4_isStronger_1 := dk_seg dksX4_isStronger_0 24 rfl rfl
theorem dksX4_isStronger_2 : cX4_isStronger.data.toList.drop 48 = dktX4_isStronger_2 := dk_seg dksX4_isStronger_1 24 rfl rfl
theorem dksX4_isStronger_3 : cX4_isStronger.data.toList.drop 70 = dktX4_isStronger_3 := dk_seg dksX4_isStronger_2 22 rfl rfl
theorem dksX4_isStronger_4 : cX4_isStronger.data.toList.drop 92 = dktX4_isStronger_4 := dk_seg dksX4_isStronger_3 22 rfl rfl
theorem dksX4_isStronger_5 : cX4_isStronger.data.toList.drop 116 = dktX4_isStronger_5 := dk_seg dksX4_isStronger_4 24 rfl rfl
theorem dX4_isStronger_0 : decode cX4_isStronger 0 = .ok (.aload_n 0, 1) := dk_42 (dk_at dksX4_isStronger_0 0 rfl rfl)
theorem dX4_isStronger_1 : decode cX4_isStronger 1 = .ok (.getfield 20, 3) := dk_180 0 20 (dk_at dksX4_isStronger_0 1 rfl rfl)
theorem dX4_isStronger_4 : decode cX4_isStronger 4 = .ok (.bipush 8, 2) := dk_16 8 (dk_at dksX4_isStronger_0 4 rfl rfl)
theorem dX4_isStronger_6 : decode cX4_isStronger 6 = .ok (.iload_n 1, 1) := dk_27 (dk_at dksX4_isStronger_0 6 rfl rfl)
theorem dX4_isStronger_7 : decode cX4_isStronger 7 = .ok (.imul, 1) := dk_104 (dk_at dksX4_isStronger_0 7 rfl rfl)
theorem dX4_isStronger_8 : decode cX4_isStronger 8 = .ok (.iload_n 2, 1) := dk_28 (dk_at dksX4_isStronger_0 8 rfl rfl)
theorem dX4_isStronger_9 : decode cX4_isStronger 9 = .ok (.iadd, 1) := dk_96 (dk_at dksX4_isStronger_0 9 rfl rfl)
theorem dX4_isStronger_10 : decode cX4_isStronger 10 = .ok (.baload, 1) := dk_51 (dk_at dksX4_isStronger_0 10 rfl rfl)
theorem dX4_isStronger_11 : decode cX4_isStronger 11 = .ok (.istore_n 3, 1) := dk_62 (dk_at dksX4_isStronger_0 11 rfl rfl)
theorem dX4_isStronger_12 : decode cX4_isStronger 12 = .ok (.iconst 0, 1) := dk_3 (dk_at dksX4_isStronger_0 12 rfl rfl)
theorem dX4_isStronger_13 : decode cX4_isStronger 13 = .ok (.istore 4, 2) := dk_54 4 (dk_at dksX4_isStronger_0 13 rfl rfl)
theorem dX4_isStronger_15 : decode cX4_isStronger 15 = .ok (.iload 4, 2) := dk_21 4 (dk_at dksX4_isStronger_0 15 rfl rfl)
theorem dX4_isStronger_17 : decode cX4_isStronger 17 = .ok (.aload_n 0, 1) := dk_42 (dk_at dksX4_isStronger_0 17 rfl rfl)
theorem dX4_isStronger_18 : decode cX4_isStronger 18 = .ok (.getfield 48, 3) := dk_180 0 48 (dk_at dksX4_isStronger_0 18 rfl rfl)
theorem dX4_isStronger_21 : decode cX4_isStronger 21 = .ok (.if_icmp .ge 94, 3) := dk_162 0 94 (dk_at dksX4_isStronger_0 21 rfl rfl)
theorem dX4_isStronger_24 : decode cX4_isStronger 24 = .ok (.iload_n 3, 1) := dk_29 (dk_at dksX4_isStronger_1 0 rfl rfl)
theorem dX4_isStronger_25 : decode cX4_isStronger 25 = .ok (.ifCond .eq 90, 3) := dk_153 0 90 (dk_at dksX4_isStronger_1 1 rfl rfl)
theorem dX4_isStronger_28 : decode cX4_isStronger 28 = .ok (.iload 4, 2) := dk_21 4 (dk_at dksX4_isStronger_1 4 rfl rfl)
theorem dX4_isStronger_30 : decode cX4_isStronger 30 = .ok (.iload_n 1, 1) := dk_27 (dk_at dksX4_isStronger_1 6 rfl rfl)
theorem dX4_isStronger_31 : decode cX4_isStronger 31 = .ok (.if_icmp .eq 42, 3) := dk_159 0 42 (dk_at dksX4_isStronger_1 7 rfl rfl)
theorem dX4_isStronger_34 : decode cX4_isStronger 34 = .ok (.aload_n 0, 1) := dk_42 (dk_at dksX4_isStronger_1 10 rfl rfl)
theorem dX4_isStronger_35 : decode cX4_isStronger 35 = .ok (.getfield 7, 3) := dk_180 0 7 (dk_at dksX4_isStronger_1 11 rfl rfl)
theorem dX4_isStronger_38 : decode cX4_isStronger 38 = .ok (.bipush 120, 2) := dk_16 120 (dk_at dksX4_isStronger_1 14 rfl rfl)
theorem dX4_isStronger_40 : decode cX4_isStronger 40 = .ok (.iload 4, 2) := dk_21 4 (dk_at dksX4_isStronger_1 16 rfl rfl)
theorem dX4_isStronger_42 : decode cX4_isStronger 42 = .ok (.iadd, 1) := dk_96 (dk_at dksX4_isStronger_1 18 rfl rfl)
theorem dX4_isStronger_43 : decode cX4_isStronger 43 = .ok (.iaload, 1) := dk_46 (dk_at dksX4_isStronger_1 19 rfl rfl)
theorem dX4_isStronger_44 : decode cX4_isStronger 44 = .ok (.iconst (-1), 1) := dk_2 (dk_at dksX4_isStronger_1 20 rfl rfl)
theorem dX4_isStronger_45 : decode cX4_isStronger 45 = .ok (.if_icmp .eq 28, 3) := dk_159 0 28 (dk_at dksX4_isStronger_1 21 rfl rfl)
theorem dX4_isStronger_48 : decode cX4_isStronger 48 = .ok (.aload_n 0, 1) := dk_42 (dk_at dksX4_isStronger_2 0 rfl rfl)
theorem dX4_isStronger_49 : decode cX4_isStronger 49 = .ok (.iload_n 1, 1) := dk_27 (dk_at dksX4_isStronger_2 1 rfl rfl)
theorem dX4_isStronger_50 : decode cX4_isStronger 50 = .ok (.iload_n 2, 1) := dk_28 (dk_at dksX4_isStronger_2 2 rfl rfl)
theorem dX4_isStronger_51 : decode cX4_isStronger 51 = .ok (.iload 4, 2) := dk_21 4 (dk_at dksX4_isStronger_2 3 rfl rfl)
theorem dX4_isStronger_53 : decode cX4_isStronger 53 = .ok (.aload_n 0, 1) := dk_42 (dk_at dksX4_isStronger_2 5 rfl rfl)
theorem dX4_isStronger_54 : decode cX4_isStronger 54 = .ok (.getfield 7, 3) := dk_180 0 7 (dk_at dksX4_isStronger_2 6 rfl rfl)
theorem dX4_isStronger_57 : decode cX4_isStronger 57 = .ok (.bipush 120, 2) := dk_16 120 (dk_at dksX4_isStronger_2 9 rfl rfl)
theorem dX4_isStronger_59 : decode cX4_isStronger 59 = .ok (.iload 4, 2) := dk_21 4 (dk_at dksX4_isStronger_2 11 rfl rfl)
theorem dX4_isStronger_61 : decode cX4_isStronger 61 = .ok (.iadd, 1) := dk_96 (dk_at dksX4_isStronger_2 13 rfl rfl)
theorem dX4_isStronger_62 : decode cX4_isStronger 62 = .ok (.iaload, 1) := dk_46 (dk_at dksX4_isStronger_2 14 rfl rfl)
theorem dX4_isStronger_63 : decode cX4_isStronger 63 = .ok (.invokevirtual 80, 3) := dk_182 0 80 (dk_at dksX4_isStronger_2 15 rfl rfl)
theorem dX4_isStronger_66 : decode cX4_isStronger 66 = .ok (.ifCond .eq 7, 3) := dk_153 0 7 (dk_at dksX4_isStronger_2 18 rfl rfl)
theorem dX4_isStronger_69 : decode cX4_isStronger 69 = .ok (.iconst 1, 1) := dk_4 (dk_at dksX4_isStronger_2 21 rfl rfl)
theorem dX4_isStronger_70 : decode cX4_isStronger 70 = .ok (.goto 4, 3) := dk_167 0 4 (dk_at dksX4_isStronger_3 0 rfl rfl)
theorem dX4_isStronger_73 : decode cX4_isStronger 73 = .ok (.iconst 0, 1) := dk_3 (dk_at dksX4_isStronger_3 3 rfl rfl)
theorem dX4_isStronger_74 : decode cX4_isStronger 74 = .ok (.istore 5, 2) := dk_54 5 (dk_at dksX4_isStronger_3 4 rfl rfl)
theorem dX4_isStronger_76 : decode cX4_isStronger 76 = .ok (.iload 5, 2) := dk_21 5 (dk_at dksX4_isStronger_3 6 rfl rfl)
theorem dX4_isStronger_78 : decode cX4_isStronger 78 = .ok (.ifCond .eq 25, 3) := dk_153 0 25 (dk_at dksX4_isStronger_3 8 rfl rfl)
theorem dX4_isStronger_81 : decode cX4_isStronger 81 = .ok (.aload_n 0, 1) := dk_42 (dk_at dksX4_isStronger_3 11 rfl rfl)
theorem dX4_isStronger_82 : decode cX4_isStronger 82 = .ok (.getfield 7, 3) := dk_180 0 7 (dk_at dksX4_isStronger_3 12 rfl rfl)
theorem dX4_isStronger_85 : decode cX4_isStronger 85 = .ok (.bipush 80, 2) := dk_16 80 (dk_at dksX4_isStronger_3 15 rfl rfl)
theorem dX4_isStronger_87 : decode cX4_isStronger 87 = .ok (.iload 4, 2) := dk_21 4 (dk_at dksX4_isStronger_3 17 rfl rfl)
theorem dX4_isStronger_89 : decode cX4_isStronger 89 = .ok (.iadd, 1) := dk_96 (dk_at dksX4_isStronger_3 19 rfl rfl)
theorem dX4_isStronger_90 : decode cX4_isStronger 90 = .ok (.iaload, 1) := dk_46 (dk_at dksX4_isStronger_3 20 rfl rfl)
theorem dX4_isStronger_91 : decode cX4_isStronger 91 = .ok (.aload_n 0, 1) := dk_42 (dk_at dksX4_isStronger_3 21 rfl rfl)
theorem dX4_isStronger_92 : decode cX4_isStronger 92 = .ok (.getfield 7, 3) := dk_180 0 7 (dk_at dksX4_isStronger_4 0 rfl rfl)
theorem dX4_isStronger_95 : decode cX4_isStronger 95 = .ok (.bipush 80, 2) := dk_16 80 (dk_at dksX4_isStronger_4 3 rfl rfl)
theorem dX4_isStronger_97 : decode cX4_isStronger 97 = .ok (.iload_n 1, 1) := dk_27 (dk_at dksX4_isStronger_4 5 rfl rfl)
theorem dX4_isStronger_98 : decode cX4_isStronger 98 = .ok (.iadd, 1) := dk_96 (dk_at dksX4_isStronger_4 6 rfl rfl)
theorem dX4_isStronger_99 : decode cX4_isStronger 99 = .ok (.iaload, 1) := dk_46 (dk_at dksX4_isStronger_4 7 rfl rfl)
theorem dX4_isStronger_100 : decode cX4_isStronger 100 = .ok (.if_icmp .ge 7, 3) := dk_162 0 7 (dk_at dksX4_isStronger_4 8 rfl rfl)
theorem dX4_isStronger_103 : decode cX4_isStronger 103 = .ok (.iconst 1, 1) := dk_4 (dk_at dksX4_isStronger_4 11 rfl rfl)
theorem dX4_isStronger_104 : decode cX4_isStronger 104 = .ok (.goto 4, 3) := dk_167 0 4 (dk_at dksX4_isStronger_4 12 rfl rfl)
theorem dX4_isStronger_107 : decode cX4_isStronger 107 = .ok (.iconst 0, 1) := dk_3 (dk_at dksX4_isStronger_4 15 rfl rfl)
theorem dX4_isStronger_108 : decode cX4_isStronger 108 = .ok (.istore_n 3, 1) := dk_62 (dk_at dksX4_isStronger_4 16 rfl rfl)
theorem dX4_isStronger_109 : decode cX4_isStronger 109 = .ok (.iinc 4 1, 3) := dk_132 4 1 (dk_at dksX4_isStronger_4 17 rfl rfl)
theorem dX4_isStronger_112 : decode cX4_isStronger 112 = .ok (.goto (-97), 3) := dk_167 255 159 (dk_at dksX4_isStronger_4 20 rfl rfl)
theorem dX4_isStronger_115 : decode cX4_isStronger 115 = .ok (.iload_n 3, 1) := dk_29 (dk_at dksX4_isStronger_4 23 rfl rfl)
theorem dX4_isStronger_116 : decode cX4_isStronger 116 = .ok (.ireturn, 1) := dk_172 (dk_at dksX4_isStronger_5 0 rfl rfl)
abbrev cX4_show : ByteArray := prog_17_method_42_code
def yX4_show : MethodName := ⟨RX4, "show", "(II)I"⟩
def dkwX4_show_3 : List UInt8 := [180, 0, 7, 16, 120, 27, 96, 28, 79, 29, 172]
abbrev dktX4_show_3 : List UInt8 := dkwX4_show_3 ++ []
def dkwX4_show_2 : List UInt8 := [28, 2, 182, 0, 108, 158, 0, 6, 16, 253, 172, 42, 180, 0, 7, 16, 120, 27, 96, 46, 62, 42]
abbrev dktX4_show_2 : List UInt8 := dkwX4_show_2 ++ dktX4_show_3
def dkwX4_show_1 : List UInt8 := [182, 0, 83, 28, 2, 159, 0, 30, 42, 180, 0, 20, 16, 8, 27, 104, 28, 96, 51, 153, 0, 13, 42, 27]
abbrev dktX4_show_1 : List UInt8 := dkwX4_show_1 ++ dktX4_show_2
def dkwX4_show_0 : List UInt8 := [42, 27, 182, 0, 105, 153, 0, 15, 28, 2, 159, 0, 13, 28, 184, 0, 140, 154, 0, 6, 16, 254, 172, 42]
abbrev dktX4_show_0 : List UInt8 := dkwX4_show_0 ++ dktX4_show_1
theorem dksX4_show_0 : cX4_show.data.toList.drop 0 = dktX4_show_0 := by decide +kernel
theorem dksX4_show_1 : cX4_show.data.toList.drop 24 = dktX4_show_1 := dk_seg dksX4_show_0 24 rfl rfl
theorem dksX4_show_2 : cX4_show.data.toList.drop 48 = dktX4_show_2 := dk_seg dksX4_show_1 24 rfl rfl
theorem dksX4_show_3 : cX4_show.data.toList.drop 70 = dktX4_show_3 := dk_seg dksX4_show_2 22 rfl rfl
theorem dX4_show_0 : decode cX4_show 0 = .ok (.aload_n 0, 1) := dk_42 (dk_at dksX4_show_0 0 rfl rfl)
theorem dX4_show_1 : decode cX4_show 1 = .ok (.iload_n 1, 1) := dk_27 (dk_at dksX4_show_0 1 rfl rfl)
theorem dX4_show_2 : decode cX4_show 2 = .ok (.invokevirtual 105, 3) := dk_182 0 105 (dk_at dksX4_show_0 2 rfl rfl)
theorem dX4_show_5 : decode cX4_show 5 = .ok (.ifCond .eq 15, 3) := dk_153 0 15 (dk_at dksX4_show_0 5 rfl rfl)
theorem dX4_show_8 : decode cX4_show 8 = .ok (.iload_n 2, 1) := dk_28 (dk_at dksX4_show_0 8 rfl rfl)
theorem dX4_show_9 : decode cX4_show 9 = .ok (.iconst (-1), 1) := dk_2 (dk_at dksX4_show_0 9 rfl rfl)
theorem dX4_show_10 : decode cX4_show 10 = .ok (.if_icmp .eq 13, 3) := dk_159 0 13 (dk_at dksX4_show_0 10 rfl rfl)
theorem dX4_show_13 : decode cX4_show 13 = .ok (.iload_n 2, 1) := dk_28 (dk_at dksX4_show_0 13 rfl rfl)
theorem dX4_show_14 : decode cX4_show 14 = .ok (.invokestatic 140, 3) := dk_184 0 140 (dk_at dksX4_show_0 14 rfl rfl)
theorem dX4_show_17 : decode cX4_show 17 = .ok (.ifCond .ne 6, 3) := dk_154 0 6 (dk_at dksX4_show_0 17 rfl rfl)
theorem dX4_show_20 : decode cX4_show 20 = .ok (.bipush (-2), 2) := dk_16 254 (dk_at dksX4_show_0 20 rfl rfl)
theorem dX4_show_22 : decode cX4_show 22 = .ok (.ireturn, 1) := dk_172 (dk_at dksX4_show_0 22 rfl rfl)
theorem dX4_show_23 : decode cX4_show 23 = .ok (.aload_n 0, 1) := dk_42 (dk_at dksX4_show_0 23 rfl rfl)
theorem dX4_show_24 : decode cX4_show 24 = .ok (.invokevirtual 83, 3) := dk_182 0 83 (dk_at dksX4_show_1 0 rfl rfl)
theorem dX4_show_27 : decode cX4_show 27 = .ok (.iload_n 2, 1) := dk_28 (dk_at dksX4_show_1 3 rfl rfl)
theorem dX4_show_28 : decode cX4_show 28 = .ok (.iconst (-1), 1) := dk_2 (dk_at dksX4_show_1 4 rfl rfl)
theorem dX4_show_29 : decode cX4_show 29 = .ok (.if_icmp .eq 30, 3) := dk_159 0 30 (dk_at dksX4_show_1 5 rfl rfl)
theorem dX4_show_32 : decode cX4_show 32 = .ok (.aload_n 0, 1) := dk_42 (dk_at dksX4_show_1 8 rfl rfl)
theorem dX4_show_33 : decode cX4_show 33 = .ok (.getfield 20, 3) := dk_180 0 20 (dk_at dksX4_show_1 9 rfl rfl)
theorem dX4_show_36 : decode cX4_show 36 = .ok (.bipush 8, 2) := dk_16 8 (dk_at dksX4_show_1 12 rfl rfl)
theorem dX4_show_38 : decode cX4_show 38 = .ok (.iload_n 1, 1) := dk_27 (dk_at dksX4_show_1 14 rfl rfl)
theorem dX4_show_39 : decode cX4_show 39 = .ok (.imul, 1) := dk_104 (dk_at dksX4_show_1 15 rfl rfl)
theorem dX4_show_40 : decode cX4_show 40 = .ok (.iload_n 2, 1) := dk_28 (dk_at dksX4_show_1 16 rfl rfl)
theorem dX4_show_41 : decode cX4_show 41 = .ok (.iadd, 1) := dk_96 (dk_at dksX4_show_1 17 rfl rfl)
theorem dX4_show_42 : decode cX4_show 42 = .ok (.baload, 1) := dk_51 (dk_at dksX4_show_1 18 rfl rfl)
theorem dX4_show_43 : decode cX4_show 43 = .ok (.ifCond .eq 13, 3) := dk_153 0 13 (dk_at dksX4_show_1 19 rfl rfl)
theorem dX4_show_46 : decode cX4_show 46 = .ok (.aload_n 0, 1) := dk_42 (dk_at dksX4_show_1 22 rfl rfl)
theorem dX4_show_47 : decode cX4_show 47 = .ok (.iload_n 1, 1) := dk_27 (dk_at dksX4_show_1 23 rfl rfl)
theorem dX4_show_48 : decode cX4_show 48 = .ok (.iload_n 2, 1) := dk_28 (dk_at dksX4_show_2 0 rfl rfl)
theorem dX4_show_49 : decode cX4_show 49 = .ok (.iconst (-1), 1) := dk_2 (dk_at dksX4_show_2 1 rfl rfl)
theorem dX4_show_50 : decode cX4_show 50 = .ok (.invokevirtual 108, 3) := dk_182 0 108 (dk_at dksX4_show_2 2 rfl rfl)
theorem dX4_show_53 : decode cX4_show 53 = .ok (.ifCond .le 6, 3) := dk_158 0 6 (dk_at dksX4_show_2 5 rfl rfl)
theorem dX4_show_56 : decode cX4_show 56 = .ok (.bipush (-3), 2) := dk_16 253 (dk_at dksX4_show_2 8 rfl rfl)
theorem dX4_show_58 : decode cX4_show 58 = .ok (.ireturn, 1) := dk_172 (dk_at dksX4_show_2 10 rfl rfl)
theorem dX4_show_59 : decode cX4_show 59 = .ok (.aload_n 0, 1) := dk_42 (dk_at dksX4_show_2 11 rfl rfl)
theorem dX4_show_60 : decode cX4_show 60 = .ok (.getfield 7, 3) := dk_180 0 7 (dk_at dksX4_show_2 12 rfl rfl)
theorem dX4_show_63 : decode cX4_show 63 = .ok (.bipush 120, 2) := dk_16 120 (dk_at dksX4_show_2 15 rfl rfl)
theorem dX4_show_65 : decode cX4_show 65 = .ok (.iload_n 1, 1) := dk_27 (dk_at dksX4_show_2 17 rfl rfl)
theorem dX4_show_66 : decode cX4_show 66 = .ok (.iadd, 1) := dk_96 (dk_at dksX4_show_2 18 rfl rfl)
theorem dX4_show_67 : decode cX4_show 67 = .ok (.iaload, 1) := dk_46 (dk_at dksX4_show_2 19 rfl rfl)
theorem dX4_show_68 : decode cX4_show 68 = .ok (.istore_n 3, 1) := dk_62 (dk_at dksX4_show_2 20 rfl rfl)
theorem dX4_show_69 : decode cX4_show 69 = .ok (.aload_n 0, 1) := dk_42 (dk_at dksX4_show_2 21 rfl rfl)
theorem dX4_show_70 : decode cX4_show 70 = .ok (.getfield 7, 3) := dk_180 0 7 (dk_at dksX4_show_3 0 rfl rfl)
theorem dX4_show_73 : decode cX4_show 73 = .ok (.bipush 120, 2) := dk_16 120 (dk_at dksX4_show_3 3 rfl rfl)
theorem dX4_show_75 : decode cX4_show 75 = .ok (.iload_n 1, 1) := dk_27 (dk_at dksX4_show_3 5 rfl rfl)
theorem dX4_show_76 : decode cX4_show 76 = .ok (.iadd, 1) := dk_96 (dk_at dksX4_show_3 6 rfl rfl)
theorem dX4_show_77 : decode cX4_show 77 = .ok (.iload_n 2, 1) := dk_28 (dk_at dksX4_show_3 7 rfl rfl)
theorem dX4_show_78 : decode cX4_show 78 = .ok (.iastore, 1) := dk_79 (dk_at dksX4_show_3 8 rfl rfl)
theorem dX4_show_79 : decode cX4_show 79 = .ok (.iload_n 3, 1) := dk_29 (dk_at dksX4_show_3 9 rfl rfl)
theorem dX4_show_80 : decode cX4_show 80 = .ok (.ireturn, 1) := dk_172 (dk_at dksX4_show_3 10 rfl rfl)
abbrev cX4_hideAll : ByteArray := prog_17_method_43_code
def yX4_hideAll : MethodName := ⟨RX4, "hideAll", "()I"⟩
def dkwX4_hideAll_1 : List UInt8 := [79, 132, 2, 1, 167, 255, 235, 27, 172]
abbrev dktX4_hideAll_1 : List UInt8 := dkwX4_hideAll_1 ++ []
def dkwX4_hideAll_0 : List UInt8 := [42, 182, 0, 129, 60, 3, 61, 28, 42, 180, 0, 48, 162, 0, 19, 42, 180, 0, 7, 16, 120, 28, 96, 2]
abbrev dktX4_hideAll_0 : List UInt8 := dkwX4_hideAll_0 ++ dktX4_hideAll_1
theorem dksX4_hideAll_0 : cX4_hideAll.data.toList.drop 0 = dktX4_hideAll_0 := by decide +kernel
theorem dksX4_hideAll_1 : cX4_hideAll.data.toList.drop 24 = dktX4_hideAll_1 := dk_seg dksX4_hideAll_0 24 rfl rfl
theorem dX4_hideAll_0 : decode cX4_hideAll 0 = .ok (.aload_n 0, 1) := dk_42 (dk_at dksX4_hideAll_0 0 rfl rfl)
theorem dX4_hideAll_1 : decode cX4_hideAll 1 = .ok (.invokevirtual 129, 3) := dk_182 0 129 (dk_at dksX4_hideAll_0 1 rfl rfl)
theorem dX4_hideAll_4 : decode cX4_hideAll 4 = .ok (.istore_n 1, 1) := dk_60 (dk_at dksX4_hideAll_0 4 rfl rfl)
theorem dX4_hideAll_5 : decode cX4_hideAll 5 = .ok (.iconst 0, 1) := dk_3 (dk_at dksX4_hideAll_0 5 rfl rfl)
theorem dX4_hideAll_6 : decode cX4_hideAll 6 = .ok (.istore_n 2, 1) := dk_61 (dk_at dksX4_hideAll_0 6 rfl rfl)
theorem dX4_hideAll_7 : decode cX4_hideAll 7 = .ok (.iload_n 2, 1) := dk_28 (dk_at dksX4_hideAll_0 7 rfl rfl)
theorem dX4_hideAll_8 : decode cX4_hideAll 8 = .ok (.aload_n 0, 1) := dk_42 (dk_at dksX4_hideAll_0 8 rfl rfl)
theorem dX4_hideAll_9 : decode cX4_hideAll 9 = .ok (.getfield 48, 3) := dk_180 0 48 (dk_at dksX4_hideAll_0 9 rfl rfl)
theorem dX4_hideAll_12 : decode cX4_hideAll 12 = .ok (.if_icmp .ge 19, 3) := dk_162 0 19 (dk_at dksX4_hideAll_0 12 rfl rfl)
theorem dX4_hideAll_15 : decode cX4_hideAll 15 = .ok (.aload_n 0, 1) := dk_42 (dk_at dksX4_hideAll_0 15 rfl rfl)
theorem dX4_hideAll_16 : decode cX4_hideAll 16 = .ok (.getfield 7, 3) := dk_180 0 7 (dk_at dksX4_hideAll_0 16 rfl rfl)
theorem dX4_hideAll_19 : decode cX4_hideAll 19 = .ok (.bipush 120, 2) := dk_16 120 (dk_at dksX4_hideAll_0 19 rfl rfl)
theorem dX4_hideAll_21 : decode cX4_hideAll 21 = .ok (.iload_n 2, 1) := dk_28 (dk_at dksX4_hideAll_0 21 rfl rfl)
theorem dX4_hideAll_22 : decode cX4_hideAll 22 = .ok (.iadd, 1) := dk_96 (dk_at dksX4_hideAll_0 22 rfl rfl)
theorem dX4_hideAll_23 : decode cX4_hideAll 23 = .ok (.iconst (-1), 1) := dk_2 (dk_at dksX4_hideAll_0 23 rfl rfl)
theorem dX4_hideAll_24 : decode cX4_hideAll 24 = .ok (.iastore, 1) := dk_79 (dk_at dksX4_hideAll_1 0 rfl rfl)
theorem dX4_hideAll_25 : decode cX4_hideAll 25 = .ok (.iinc 2 1, 3) := dk_132 2 1 (dk_at dksX4_hideAll_1 1 rfl rfl)
theorem dX4_hideAll_28 : decode cX4_hideAll 28 = .ok (.goto (-21), 3) := dk_167 255 235 (dk_at dksX4_hideAll_1 4 rfl rfl)
theorem dX4_hideAll_31 : decode cX4_hideAll 31 = .ok (.iload_n 1, 1) := dk_27 (dk_at dksX4_hideAll_1 7 rfl rfl)
theorem dX4_hideAll_32 : decode cX4_hideAll 32 = .ok (.ireturn, 1) := dk_172 (dk_at dksX4_hideAll_1 8 rfl rfl)
abbrev cX4_greatest : ByteArray := prog_17_method_45_code
def yX4_greatest : MethodName := ⟨RX4, "greatest", "()I"⟩
def dkwX4_greatest_8 : List UInt8 := [167, 0, 18, 21, 4, 153, 0, 13, 132, 3, 1, 42, 180, 0, 27, 29, 2, 79, 167, 255, 111, 28, 172]
abbrev dktX4_greatest_8 : List UInt8 := dkwX4_greatest_8 ++ []
def dkwX4_greatest_7 : List UInt8 := [100, 160, 0, 25, 42, 27, 182, 0, 176, 28, 164, 0, 11, 42, 27, 182, 0, 176, 167, 0, 4, 28, 61]
abbrev dktX4_greatest_7 : List UInt8 := dkwX4_greatest_7 ++ dktX4_greatest_8
def dkwX4_greatest_6 : List UInt8 := [180, 0, 27, 29, 46, 16, 8, 164, 0, 9, 132, 3, 255, 167, 0, 52, 21, 4, 153, 0, 32, 29, 27, 4]
abbrev dktX4_greatest_6 : List UInt8 := dkwX4_greatest_6 ++ dktX4_greatest_7
def dkwX4_greatest_5 : List UInt8 := [29, 46, 96, 51, 153, 0, 15, 42, 29, 182, 0, 173, 153, 0, 7, 4, 167, 0, 4, 3, 54, 4, 42]
abbrev dktX4_greatest_5 : List UInt8 := dkwX4_greatest_5 ++ dktX4_greatest_6
def dkwX4_greatest_4 : List UInt8 := [29, 46, 16, 8, 162, 0, 39, 42, 180, 0, 20, 16, 8, 42, 180, 0, 30, 29, 46, 104, 42, 180, 0, 27]
abbrev dktX4_greatest_4 : List UInt8 := dkwX4_greatest_4 ++ dktX4_greatest_5
def dkwX4_greatest_3 : List UInt8 := [180, 0, 27, 29, 92, 46, 4, 96, 79, 42, 180, 0, 27, 29, 46, 16, 8, 159, 0, 46, 42, 180, 0, 27]
abbrev dktX4_greatest_3 : List UInt8 := dkwX4_greatest_3 ++ dktX4_greatest_4
def dkwX4_greatest_2 : List UInt8 := [167, 255, 218, 3, 61, 3, 62, 42, 180, 0, 27, 3, 2, 79, 29, 155, 0, 147, 27, 158, 0, 143, 42]
abbrev dktX4_greatest_2 : List UInt8 := dkwX4_greatest_2 ++ dktX4_greatest_3
def dkwX4_greatest_1 : List UInt8 := [27, 16, 6, 160, 0, 6, 16, 253, 172, 42, 180, 0, 30, 27, 28, 79, 132, 1, 1, 132, 2, 1]
abbrev dktX4_greatest_1 : List UInt8 := dkwX4_greatest_1 ++ dktX4_greatest_2
def dkwX4_greatest_0 : List UInt8 := [42, 182, 0, 83, 3, 60, 3, 61, 28, 42, 180, 0, 48, 162, 0, 36, 42, 28, 182, 0, 112, 158, 0, 22]
abbrev dktX4_greatest_0 : List UInt8 := dkwX4_greatest_0 ++ dktX4_greatest_1
theorem dksX4_greatest_0 : cX4_greatest.data.toList.drop 0 = dktX4_greatest_0 := by decide +kernel
theorem dksX4_greatest_1 : cX4_greatest.data.toList.drop 24 = dktX4_greatest_1 := dk_seg dksX4_greatest_0 24 rfl rfl
theorem dksX4_greatest_2 : cX4_greatest.data.toList.drop 46 = dktX4_greatest_2 := dk_seg dksX4_greatest_1 22 rfl rfl
theorem dksX4_greatest_3 : cX4_greatest.data.toList.drop 69 = dktX4_greatest_3 := dk_seg dksX4_greatest_2 23 rfl rfl
theorem dksX4_greatest_4 : cX4_greatest.data.toList.drop 93 = dktX4_greatest_4 := dk_seg dksX4_greatest_3 24 rfl rfl
theorem dksX4_greatest_5 : cX4_greatest.data.toList.drop 117 = dktX4_greatest_5 := dk_seg dksX4_greatest_4 24 rfl rfl
theorem dksX4_greatest_6 : cX4_greatest.data.toList.drop 140 = dktX4_greatest_6 := dk_seg dksX4_greatest_5 23 rfl rfl
theorem dksX4_greatest_7 : cX4_greatest.data.toList.drop 164 = dktX4_greatest_7 := dk_seg dksX4_greatest_6 24 rfl rfl
theorem dksX4_greatest_8 : cX4_greatest.data.toList.drop 187 = dktX4_greatest_8 := dk_seg dksX4_greatest_7 23 rfl rfl
theorem dX4_greatest_0 : decode cX4_greatest 0 = .ok (.aload_n 0, 1) := dk_42 (dk_at dksX4_greatest_0 0 rfl rfl)
theorem dX4_greatest_1 : decode cX4_greatest 1 = .ok (.invokevirtual 83, 3) := dk_182 0 83 (dk_at dksX4_greatest_0 1 rfl rfl)
theorem dX4_greatest_4 : decode cX4_greatest 4 = .ok (.iconst 0, 1) := dk_3 (dk_at dksX4_greatest_0 4 rfl rfl)
theorem dX4_greatest_5 : decode cX4_greatest 5 = .ok (.istore_n 1, 1) := dk_60 (dk_at dksX4_greatest_0 5 rfl rfl)
theorem dX4_greatest_6 : decode cX4_greatest 6 = .ok (.iconst 0, 1) := dk_3 (dk_at dksX4_greatest_0 6 rfl rfl)
theorem dX4_greatest_7 : decode cX4_greatest 7 = .ok (.istore_n 2, 1) := dk_61 (dk_at dksX4_greatest_0 7 rfl rfl)
theorem dX4_greatest_8 : decode cX4_greatest 8 = .ok (.iload_n 2, 1) := dk_28 (dk_at dksX4_greatest_0 8 rfl rfl)
theorem dX4_greatest_9 : decode cX4_greatest 9 = .ok (.aload_n 0, 1) := dk_42 (dk_at dksX4_greatest_0 9 rfl rfl)
theorem dX4_greatest_10 : decode cX4_greatest 10 = .ok (.getfield 48, 3) := dk_180 0 48 (dk_at dksX4_greatest_0 10 rfl rfl)
theorem dX4_greatest_13 : decode cX4_greatest 13 = .ok (.if_icmp .ge 36, 3) := dk_162 0 36 (dk_at dksX4_greatest_0 13 rfl rfl)
theorem dX4_greatest_16 : decode cX4_greatest 16 = .ok (.aload_n 0, 1) := dk_42 (dk_at dksX4_greatest_0 16 rfl rfl)
theorem dX4_greatest_17 : decode cX4_greatest 17 = .ok (.iload_n 2, 1) := dk_28 (dk_at dksX4_greatest_0 17 rfl rfl)
theorem dX4_greatest_18 : decode cX4_greatest 18 = .ok (.invokevirtual 112, 3) := dk_182 0 112 (dk_at dksX4_greatest_0 18 rfl rfl)
theorem dX4_greatest_21 : decode cX4_greatest 21 = .ok (.ifCond .le 22, 3) := dk_158 0 22 (dk_at dksX4_greatest_0 21 rfl rfl)
theorem dX4_greatest_24 : decode cX4_greatest 24 = .ok (.iload_n 1, 1) := dk_27 (dk_at dksX4_greatest_1 0 rfl rfl)
theorem dX4_greatest_25 : decode cX4_greatest 25 = .ok (.bipush 6, 2) := dk_16 6 (dk_at dksX4_greatest_1 1 rfl rfl)
theorem dX4_greatest_27 : decode cX4_greatest 27 = .ok (.if_icmp .ne 6, 3) := dk_160 0 6 (dk_at dksX4_greatest_1 3 rfl rfl)
theorem dX4_greatest_30 : decode cX4_greatest 30 = .ok (.bipush (-3), 2) := dk_16 253 (dk_at dksX4_greatest_1 6 rfl rfl)
theorem dX4_greatest_32 : decode cX4_greatest 32 = .ok (.ireturn, 1) := dk_172 (dk_at dksX4_greatest_1 8 rfl rfl)
theorem dX4_greatest_33 : decode cX4_greatest 33 = .ok (.aload_n 0, 1) := dk_42 (dk_at dksX4_greatest_1 9 rfl rfl)
theorem dX4_greatest_34 : decode cX4_greatest 34 = .ok (.getfield 30, 3) := dk_180 0 30 (dk_at dksX4_greatest_1 10 rfl rfl)
theorem dX4_greatest_37 : decode cX4_greatest 37 = .ok (.iload_n 1, 1) := dk_27 (dk_at dksX4_greatest_1 13 rfl rfl)
theorem dX4_greatest_38 : decode cX4_greatest 38 = .ok (.iload_n 2, 1) := dk_28 (dk_at dksX4_greatest_1 14 rfl rfl)
theorem dX4_greatest_39 : decode cX4_greatest 39 = .ok (.iastore, 1) := dk_79 (dk_at dksX4_greatest_1 15 rfl rfl)
theorem dX4_greatest_40 : decode cX4_greatest 40 = .ok (.iinc 1 1, 3) := dk_132 1 1 (dk_at dksX4_greatest_1 16 rfl rfl)
theorem dX4_greatest_43 : decode cX4_greatest 43 = .ok (.iinc 2 1, 3) := dk_132 2 1 (dk_at dksX4_greatest_1 19 rfl rfl)
theorem dX4_greatest_46 : decode cX4_greatest 46 = .ok (.goto (-38), 3) := dk_167 255 218 (dk_at dksX4_greatest_2 0 rfl rfl)
theorem dX4_greatest_49 : decode cX4_greatest 49 = .ok (.iconst 0, 1) := dk_3 (dk_at dksX4_greatest_2 3 rfl rfl)
theorem dX4_greatest_50 : decode cX4_greatest 50 = .ok (.istore_n 2, 1) := dk_61 (dk_at dksX4_greatest_2 4 rfl rfl)
theorem dX4_greatest_51 : decode cX4_greatest 51 = .ok (.iconst 0, 1) := dk_3 (dk_at dksX4_greatest_2 5 rfl rfl)
theorem dX4_greatest_52 : decode cX4_greatest 52 = .ok (.istore_n 3, 1) := dk_62 (dk_at dksX4_greatest_2 6 rfl rfl)
theorem dX4_greatest_53 : decode cX4_greatest 53 = .ok (.aload_n 0, 1) := dk_42 (dk_at dksX4_greatest_2 7 rfl rfl)
theorem dX4_greatest_54 : decode cX4_greatest 54 = .ok (.getfield 27, 3) := dk_180 0 27 (dk_at dksX4_greatest_2 8 rfl rfl)
theorem dX4_greatest_57 : decode cX4_greatest 57 = .ok (.iconst 0, 1) := dk_3 (dk_at dksX4_greatest_2 11 rfl rfl)
theorem dX4_greatest_58 : decode cX4_greatest 58 = .ok (.iconst (-1), 1) := dk_2 (dk_at dksX4_greatest_2 12 rfl rfl)
theorem dX4_greatest_59 : decode cX4_greatest 59 = .ok (.iastore, 1) := dk_79 (dk_at dksX4_greatest_2 13 rfl rfl)
theorem dX4_greatest_60 : decode cX4_greatest 60 = .ok (.iload_n 3, 1) := dk_29 (dk_at dksX4_greatest_2 14 rfl rfl)
theorem dX4_greatest_61 : decode cX4_greatest 61 = .ok (.ifCond .lt 147, 3) := dk_155 0 147 (dk_at dksX4_greatest_2 15 rfl rfl)
theorem dX4_greatest_64 : decode cX4_greatest 64 = .ok (.iload_n 1, 1) := dk_27 (dk_at dksX4_greatest_2 18 rfl rfl)
theorem dX4_greatest_65 : decode cX4_greatest 65 = .ok (.ifCond .le 143, 3) := dk_158 0 143 (dk_at dksX4_greatest_2 19 rfl rfl)
theorem dX4_greatest_68 : decode cX4_greatest 68 = .ok (.aload_n 0, 1) := dk_42 (dk_at dksX4_greatest_2 22 rfl rfl)
theorem dX4_greatest_69 : decode cX4_greatest 69 = .ok (.getfield 27, 3) := dk_180 0 27 (dk_at dksX4_greatest_3 0 rfl rfl)
theorem dX4_greatest_72 : decode cX4_greatest 72 = .ok (.iload_n 3, 1) := dk_29 (dk_at dksX4_greatest_3 3 rfl rfl)
theorem dX4_greatest_73 : decode cX4_greatest 73 = .ok (.dup2, 1) := dk_92 (dk_at dksX4_greatest_3 4 rfl rfl)
theorem dX4_greatest_74 : decode cX4_greatest 74 = .ok (.iaload, 1) := dk_46 (dk_at dksX4_greatest_3 5 rfl rfl)
theorem dX4_greatest_75 : decode cX4_greatest 75 = .ok (.iconst 1, 1) := dk_4 (dk_at dksX4_greatest_3 6 rfl rfl)
theorem dX4_greatest_76 : decode cX4_greatest 76 = .ok (.iadd, 1) := dk_96 (dk_at dksX4_greatest_3 7 rfl rfl)
theorem dX4_greatest_77 : decode cX4_greatest 77 = .ok (.iastore, 1) := dk_79 (dk_at dksX4_greatest_3 8 rfl rfl)
theorem dX4_greatest_78 : decode cX4_greatest 78 = .ok (.aload_n 0, 1) := dk_42 (dk_at dksX4_greatest_3 9 rfl rfl)
theorem dX4_greatest_79 : decode cX4_greatest 79 = .ok (.getfield 27, 3) := dk_180 0 27 (dk_at dksX4_greatest_3 10 rfl rfl)
theorem dX4_greatest_82 : decode cX4_greatest 82 = .ok (.iload_n 3, 1) := dk_29 (dk_at dksX4_greatest_3 13 rfl rfl)
theorem dX4_greatest_83 : decode cX4_greatest 83 = .ok (.iaload, 1) := dk_46 (dk_at dksX4_greatest_3 14 rfl rfl)
theorem dX4_greatest_84 : decode cX4_greatest 84 = .ok (.bipush 8, 2) := dk_16 8 (dk_at dksX4_greatest_3 15 rfl rfl)
theorem dX4_greatest_86 : decode cX4_greatest 86 = .ok (.if_icmp .eq 46, 3) := dk_159 0 46 (dk_at dksX4_greatest_3 17 rfl rfl)
theorem dX4_greatest_89 : decode cX4_greatest 89 = .ok (.aload_n 0, 1) := dk_42 (dk_at dksX4_greatest_3 20 rfl rfl)
theorem dX4_greatest_90 : decode cX4_greatest 90 = .ok (.getfield 27, 3) := dk_180 0 27 (dk_at dksX4_greatest_3 21 rfl rfl)
theorem dX4_greatest_93 : decode cX4_greatest 93 = .ok (.iload_n 3, 1) := dk_29 (dk_at dksX4_greatest_4 0 rfl rfl)
theorem dX4_greatest_94 : decode cX4_greatest 94 = .ok (.iaload, 1) := dk_46 (dk_at dksX4_greatest_4 1 rfl rfl)
theorem dX4_greatest_95 : decode cX4_greatest 95 = .ok (.bipush 8, 2) := dk_16 8 (dk_at dksX4_greatest_4 2 rfl rfl)
theorem dX4_greatest_97 : decode cX4_greatest 97 = .ok (.if_icmp .ge 39, 3) := dk_162 0 39 (dk_at dksX4_greatest_4 4 rfl rfl)
theorem dX4_greatest_100 : decode cX4_greatest 100 = .ok (.aload_n 0, 1) := dk_42 (dk_at dksX4_greatest_4 7 rfl rfl)
theorem dX4_greatest_101 : decode cX4_greatest 101 = .ok (.getfield 20, 3) := dk_180 0 20 (dk_at dksX4_greatest_4 8 rfl rfl)
theorem dX4_greatest_104 : decode cX4_greatest 104 = .ok (.bipush 8, 2) := dk_16 8 (dk_at dksX4_greatest_4 11 rfl rfl)
theorem dX4_greatest_106 : decode cX4_greatest 106 = .ok (.aload_n 0, 1) := dk_42 (dk_at dksX4_greatest_4 13 rfl rfl)
theorem dX4_greatest_107 : decode cX4_greatest 107 = .ok (.getfield 30, 3) := dk_180 0 30 (dk_at dksX4_greatest_4 14 rfl rfl)
theorem dX4_greatest_110 : decode cX4_greatest 110 = .ok (.iload_n 3, 1) := dk_29 (dk_at dksX4_greatest_4 17 rfl rfl)
theorem dX4_greatest_111 : decode cX4_greatest 111 = .ok (.iaload, 1) := dk_46 (dk_at dksX4_greatest_4 18 rfl rfl)
theorem dX4_greatest_112 : decode cX4_greatest 112 = .ok (.imul, 1) := dk_104 (dk_at dksX4_greatest_4 19 rfl rfl)
theorem dX4_greatest_113 : decode cX4_greatest 113 = .ok (.aload_n 0, 1) := dk_42 (dk_at dksX4_greatest_4 20 rfl rfl)
theorem dX4_greatest_114 : decode cX4_greatest 114 = .ok (.getfield 27, 3) := dk_180 0 27 (dk_at dksX4_greatest_4 21 rfl rfl)
theorem dX4_greatest_117 : decode cX4_greatest 117 = .ok (.iload_n 3, 1) := dk_29 (dk_at dksX4_greatest_5 0 rfl rfl)
theorem dX4_greatest_118 : decode cX4_greatest 118 = .ok (.iaload, 1) := dk_46 (dk_at dksX4_greatest_5 1 rfl rfl)
theorem dX4_greatest_119 : decode cX4_greatest 119 = .ok (.iadd, 1) := dk_96 (dk_at dksX4_greatest_5 2 rfl rfl)
theorem dX4_greatest_120 : decode cX4_greatest 120 = .ok (.baload, 1) := dk_51 (dk_at dksX4_greatest_5 3 rfl rfl)
theorem dX4_greatest_121 : decode cX4_greatest 121 = .ok (.ifCond .eq 15, 3) := dk_153 0 15 (dk_at dksX4_greatest_5 4 rfl rfl)
theorem dX4_greatest_124 : decode cX4_greatest 124 = .ok (.aload_n 0, 1) := dk_42 (dk_at dksX4_greatest_5 7 rfl rfl)
theorem dX4_greatest_125 : decode cX4_greatest 125 = .ok (.iload_n 3, 1) := dk_29 (dk_at dksX4_greatest_5 8 rfl rfl)
theorem dX4_greatest_126 : decode cX4_greatest 126 = .ok (.invokevirtual 173, 3) := dk_182 0 173 (dk_at dksX4_greatest_5 9 rfl rfl)
theorem dX4_greatest_129 : decode cX4_greatest 129 = .ok (.ifCond .eq 7, 3) := dk_153 0 7 (dk_at dksX4_greatest_5 12 rfl rfl)
theorem dX4_greatest_132 : decode cX4_greatest 132 = .ok (.iconst 1, 1) := dk_4 (dk_at dksX4_greatest_5 15 rfl rfl)
theorem dX4_greatest_133 : decode cX4_greatest 133 = .ok (.goto 4, 3) := dk_167 0 4 (dk_at dksX4_greatest_5 16 rfl rfl)
theorem dX4_greatest_136 : decode cX4_greatest 136 = .ok (.iconst 0, 1) := dk_3 (dk_at dksX4_greatest_5 19 rfl rfl)
theorem dX4_greatest_137 : decode cX4_greatest 137 = .ok (.istore 4, 2) := dk_54 4 (dk_at dksX4_greatest_5 20 rfl rfl)
theorem dX4_greatest_139 : decode cX4_greatest 139 = .ok (.aload_n 0, 1) := dk_42 (dk_at dksX4_greatest_5 22 rfl rfl)
theorem dX4_greatest_140 : decode cX4_greatest 140 = .ok (.getfield 27, 3) := dk_180 0 27 (dk_at dksX4_greatest_6 0 rfl rfl)
theorem dX4_greatest_143 : decode cX4_greatest 143 = .ok (.iload_n 3, 1) := dk_29 (dk_at dksX4_greatest_6 3 rfl rfl)
theorem dX4_greatest_144 : decode cX4_greatest 144 = .ok (.iaload, 1) := dk_46 (dk_at dksX4_greatest_6 4 rfl rfl)
theorem dX4_greatest_145 : decode cX4_greatest 145 = .ok (.bipush 8, 2) := dk_16 8 (dk_at dksX4_greatest_6 5 rfl rfl)
theorem dX4_greatest_147 : decode cX4_greatest 147 = .ok (.if_icmp .le 9, 3) := dk_164 0 9 (dk_at dksX4_greatest_6 7 rfl rfl)
theorem dX4_greatest_150 : decode cX4_greatest 150 = .ok (.iinc 3 (-1), 3) := dk_132 3 255 (dk_at dksX4_greatest_6 10 rfl rfl)
theorem dX4_greatest_153 : decode cX4_greatest 153 = .ok (.goto 52, 3) := dk_167 0 52 (dk_at dksX4_greatest_6 13 rfl rfl)
theorem dX4_greatest_156 : decode cX4_greatest 156 = .ok (.iload 4, 2) := dk_21 4 (dk_at dksX4_greatest_6 16 rfl rfl)
theorem dX4_greatest_158 : decode cX4_greatest 158 = .ok (.ifCond .eq 32, 3) := dk_153 0 32 (dk_at dksX4_greatest_6 18 rfl rfl)
theorem dX4_greatest_161 : decode cX4_greatest 161 = .ok (.iload_n 3, 1) := dk_29 (dk_at dksX4_greatest_6 21 rfl rfl)
theorem dX4_greatest_162 : decode cX4_greatest 162 = .ok (.iload_n 1, 1) := dk_27 (dk_at dksX4_greatest_6 22 rfl rfl)
theorem dX4_greatest_163 : decode cX4_greatest 163 = .ok (.iconst 1, 1) := dk_4 (dk_at dksX4_greatest_6 23 rfl rfl)
theorem dX4_greatest_164 : decode cX4_greatest 164 = .ok (.isub, 1) := dk_100 (dk_at dksX4_greatest_7 0 rfl rfl)
theorem dX4_greatest_165 : decode cX4_greatest 165 = .ok (.if_icmp .ne 25, 3) := dk_160 0 25 (dk_at dksX4_greatest_7 1 rfl rfl)
theorem dX4_greatest_168 : decode cX4_greatest 168 = .ok (.aload_n 0, 1) := dk_42 (dk_at dksX4_greatest_7 4 rfl rfl)
theorem dX4_greatest_169 : decode cX4_greatest 169 = .ok (.iload_n 1, 1) := dk_27 (dk_at dksX4_greatest_7 5 rfl rfl)
theorem dX4_greatest_170 : decode cX4_greatest 170 = .ok (.invokevirtual 176, 3) := dk_182 0 176 (dk_at dksX4_greatest_7 6 rfl rfl)
theorem dX4_greatest_173 : decode cX4_greatest 173 = .ok (.iload_n 2, 1) := dk_28 (dk_at dksX4_greatest_7 9 rfl rfl)
theorem dX4_greatest_174 : decode cX4_greatest 174 = .ok (.if_icmp .le 11, 3) := dk_164 0 11 (dk_at dksX4_greatest_7 10 rfl rfl)
theorem dX4_greatest_177 : decode cX4_greatest 177 = .ok (.aload_n 0, 1) := dk_42 (dk_at dksX4_greatest_7 13 rfl rfl)
theorem dX4_greatest_178 : decode cX4_greatest 178 = .ok (.iload_n 1, 1) := dk_27 (dk_at dksX4_greatest_7 14 rfl rfl)
theorem dX4_greatest_179 : decode cX4_greatest 179 = .ok (.invokevirtual 176, 3) := dk_182 0 176 (dk_at dksX4_greatest_7 15 rfl rfl)
theorem dX4_greatest_182 : decode cX4_greatest 182 = .ok (.goto 4, 3) := dk_167 0 4 (dk_at dksX4_greatest_7 18 rfl rfl)
theorem dX4_greatest_185 : decode cX4_greatest 185 = .ok (.iload_n 2, 1) := dk_28 (dk_at dksX4_greatest_7 21 rfl rfl)
theorem dX4_greatest_186 : decode cX4_greatest 186 = .ok (.istore_n 2, 1) := dk_61 (dk_at dksX4_greatest_7 22 rfl rfl)
theorem dX4_greatest_187 : decode cX4_greatest 187 = .ok (.goto 18, 3) := dk_167 0 18 (dk_at dksX4_greatest_8 0 rfl rfl)
theorem dX4_greatest_190 : decode cX4_greatest 190 = .ok (.iload 4, 2) := dk_21 4 (dk_at dksX4_greatest_8 3 rfl rfl)
theorem dX4_greatest_192 : decode cX4_greatest 192 = .ok (.ifCond .eq 13, 3) := dk_153 0 13 (dk_at dksX4_greatest_8 5 rfl rfl)
theorem dX4_greatest_195 : decode cX4_greatest 195 = .ok (.iinc 3 1, 3) := dk_132 3 1 (dk_at dksX4_greatest_8 8 rfl rfl)
theorem dX4_greatest_198 : decode cX4_greatest 198 = .ok (.aload_n 0, 1) := dk_42 (dk_at dksX4_greatest_8 11 rfl rfl)
theorem dX4_greatest_199 : decode cX4_greatest 199 = .ok (.getfield 27, 3) := dk_180 0 27 (dk_at dksX4_greatest_8 12 rfl rfl)
theorem dX4_greatest_202 : decode cX4_greatest 202 = .ok (.iload_n 3, 1) := dk_29 (dk_at dksX4_greatest_8 15 rfl rfl)
theorem dX4_greatest_203 : decode cX4_greatest 203 = .ok (.iconst (-1), 1) := dk_2 (dk_at dksX4_greatest_8 16 rfl rfl)
theorem dX4_greatest_204 : decode cX4_greatest 204 = .ok (.iastore, 1) := dk_79 (dk_at dksX4_greatest_8 17 rfl rfl)
theorem dX4_greatest_205 : decode cX4_greatest 205 = .ok (.goto (-145), 3) := dk_167 255 111 (dk_at dksX4_greatest_8 18 rfl rfl)
theorem dX4_greatest_208 : decode cX4_greatest 208 = .ok (.iload_n 2, 1) := dk_28 (dk_at dksX4_greatest_8 21 rfl rfl)
theorem dX4_greatest_209 : decode cX4_greatest 209 = .ok (.ireturn, 1) := dk_172 (dk_at dksX4_greatest_8 22 rfl rfl)
abbrev cX4_fitsWith : ByteArray := prog_17_method_44_code
def yX4_fitsWith : MethodName := ⟨RX4, "fitsWith", "(I)Z"⟩
def dkwX4_fitsWith_2 : List UInt8 := [46, 182, 0, 80, 154, 0, 7, 4, 167, 0, 4, 3, 61, 132, 3, 1, 167, 255, 196, 28, 172]
abbrev dktX4_fitsWith_2 : List UInt8 := dkwX4_fitsWith_2 ++ []
def dkwX4_fitsWith_1 : List UInt8 := [42, 42, 180, 0, 30, 27, 46, 42, 180, 0, 27, 27, 46, 42, 180, 0, 30, 29, 46, 42, 180, 0, 27, 29]
abbrev dktX4_fitsWith_1 : List UInt8 := dkwX4_fitsWith_1 ++ dktX4_fitsWith_2
def dkwX4_fitsWith_0 : List UInt8 := [4, 61, 3, 62, 29, 27, 162, 0, 61, 28, 153, 0, 57, 42, 180, 0, 27, 29, 46, 16, 8, 159, 0, 34]
abbrev dktX4_fitsWith_0 : List UInt8 := dkwX4_fitsWith_0 ++ dktX4_fitsWith_1
theorem dksX4_fitsWith_0 : cX4_fitsWith.data.toList.drop 0 = dktX4_fitsWith_0 := by decide +kernel
theorem dksX4_fitsWith_1 : cX4_fitsWith.data.toList.drop 24 = dktX4_fitsWith_1 := dk_seg dksX4_fitsWith_0 24 rfl rfl
theorem dksX4_fitsWith_2 : cX4_fitsWith.data.toList.drop 48 = dktX4_fitsWith_2 := dk_seg dksX4_fitsWith_1 24 rfl rfl
theorem dX4_fitsWith_0 : decode cX4_fitsWith 0 = .ok (.iconst 1, 1) := dk_4 (dk_at dksX4_fitsWith_0 0 rfl rfl)
theorem dX4_fitsWith_1 : decode cX4_fitsWith 1 = .ok (.istore_n 2, 1) := dk_61 (dk_at dksX4_fitsWith_0 1 rfl rfl)
theorem dX4_fitsWith_2 : decode cX4_fitsWith 2 = .ok (.iconst 0, 1) := dk_3 (dk_at dksX4_fitsWith_0 2 rfl rfl)
theorem dX4_fitsWith_3 : decode cX4_fitsWith 3 = .ok (.istore_n 3, 1) := dk_62 (dk_at dksX4_fitsWith_0 3 rfl rfl)
theorem dX4_fitsWith_4 : decode cX4_fitsWith 4 = .ok (.iload_n 3, 1) := dk_29 (dk_at dksX4_fitsWith_0 4 rfl rfl)
theorem dX4_fitsWith_5 : decode cX4_fitsWith 5 = .ok (.iload_n 1, 1) := dk_27 (dk_at dksX4_fitsWith_0 5 rfl rfl)
theorem dX4_fitsWith_6 : decode cX4_fitsWith 6 = .ok (.if_icmp .ge 61, 3) := dk_162 0 61 (dk_at dksX4_fitsWith_0 6 rfl rfl)
theorem dX4_fitsWith_9 : decode cX4_fitsWith 9 = .ok (.iload_n 2, 1) := dk_28 (dk_at dksX4_fitsWith_0 9 rfl rfl)
theorem dX4_fitsWith_10 : decode cX4_fitsWith 10 = .ok (.ifCond .eq 57, 3) := dk_153 0 57 (dk_at dksX4_fitsWith_0 10 rfl rfl)
theorem dX4_fitsWith_13 : decode cX4_fitsWith 13 = .ok (.aload_n 0, 1) := dk_42 (dk_at dksX4_fitsWith_0 13 rfl rfl)
theorem dX4_fitsWith_14 : decode cX4_fitsWith 14 = .ok (.getfield 27, 3) := dk_180 0 27 (dk_at dksX4_fitsWith_0 14 rfl rfl)
theorem dX4_fitsWith_17 : decode cX4_fitsWith 17 = .ok (.iload_n 3, 1) := dk_29 (dk_at dksX4_fitsWith_0 17 rfl rfl)
theorem dX4_fitsWith_18 : decode cX4_fitsWith 18 = .ok (.iaload, 1) := dk_46 (dk_at dksX4_fitsWith_0 18 rfl rfl)
theorem dX4_fitsWith_19 : decode cX4_fitsWith 19 = .ok (.bipush 8, 2) := dk_16 8 (dk_at dksX4_fitsWith_0 19 rfl rfl)
theorem dX4_fitsWith_21 : decode cX4_fitsWith 21 = .ok (.if_icmp .eq 34, 3) := dk_159 0 34 (dk_at dksX4_fitsWith_0 21 rfl rfl)
theorem dX4_fitsWith_24 : decode cX4_fitsWith 24 = .ok (.aload_n 0, 1) := dk_42 (dk_at dksX4_fitsWith_1 0 rfl rfl)
theorem dX4_fitsWith_25 : decode cX4_fitsWith 25 = .ok (.aload_n 0, 1) := dk_42 (dk_at dksX4_fitsWith_1 1 rfl rfl)
theorem dX4_fitsWith_26 : decode cX4_fitsWith 26 = .ok (.getfield 30, 3) := dk_180 0 30 (dk_at dksX4_fitsWith_1 2 rfl rfl)
theorem dX4_fitsWith_29 : decode cX4_fitsWith 29 = .ok (.iload_n 1, 1) := dk_27 (dk_at dksX4_fitsWith_1 5 rfl rfl)
theorem dX4_fitsWith_30 : decode cX4_fitsWith 30 = .ok (.iaload, 1) := dk_46 (dk_at dksX4_fitsWith_1 6 rfl rfl)
theorem dX4_fitsWith_31 : decode cX4_fitsWith 31 = .ok (.aload_n 0, 1) := dk_42 (dk_at dksX4_fitsWith_1 7 rfl rfl)
theorem dX4_fitsWith_32 : decode cX4_fitsWith 32 = .ok (.getfield 27, 3) := dk_180 0 27 (dk_at dksX4_fitsWith_1 8 rfl rfl)
theorem dX4_fitsWith_35 : decode cX4_fitsWith 35 = .ok (.iload_n 1, 1) := dk_27 (dk_at dksX4_fitsWith_1 11 rfl rfl)
theorem dX4_fitsWith_36 : decode cX4_fitsWith 36 = .ok (.iaload, 1) := dk_46 (dk_at dksX4_fitsWith_1 12 rfl rfl)
theorem dX4_fitsWith_37 : decode cX4_fitsWith 37 = .ok (.aload_n 0, 1) := dk_42 (dk_at dksX4_fitsWith_1 13 rfl rfl)
theorem dX4_fitsWith_38 : decode cX4_fitsWith 38 = .ok (.getfield 30, 3) := dk_180 0 30 (dk_at dksX4_fitsWith_1 14 rfl rfl)
theorem dX4_fitsWith_41 : decode cX4_fitsWith 41 = .ok (.iload_n 3, 1) := dk_29 (dk_at dksX4_fitsWith_1 17 rfl rfl)
theorem dX4_fitsWith_42 : decode cX4_fitsWith 42 = .ok (.iaload, 1) := dk_46 (dk_at dksX4_fitsWith_1 18 rfl rfl)
theorem dX4_fitsWith_43 : decode cX4_fitsWith 43 = .ok (.aload_n 0, 1) := dk_42 (dk_at dksX4_fitsWith_1 19 rfl rfl)
theorem dX4_fitsWith_44 : decode cX4_fitsWith 44 = .ok (.getfield 27, 3) := dk_180 0 27 (dk_at dksX4_fitsWith_1 20 rfl rfl)
theorem dX4_fitsWith_47 : decode cX4_fitsWith 47 = .ok (.iload_n 3, 1) := dk_29 (dk_at dksX4_fitsWith_1 23 rfl rfl)
theorem dX4_fitsWith_48 : decode cX4_fitsWith 48 = .ok (.iaload, 1) := dk_46 (dk_at dksX4_fitsWith_2 0 rfl rfl)
theorem dX4_fitsWith_49 : decode cX4_fitsWith 49 = .ok (.invokevirtual 80, 3) := dk_182 0 80 (dk_at dksX4_fitsWith_2 1 rfl rfl)
theorem dX4_fitsWith_52 : decode cX4_fitsWith 52 = .ok (.ifCond .ne 7, 3) := dk_154 0 7 (dk_at dksX4_fitsWith_2 4 rfl rfl)
theorem dX4_fitsWith_55 : decode cX4_fitsWith 55 = .ok (.iconst 1, 1) := dk_4 (dk_at dksX4_fitsWith_2 7 rfl rfl)
theorem dX4_fitsWith_56 : decode cX4_fitsWith 56 = .ok (.goto 4, 3) := dk_167 0 4 (dk_at dksX4_fitsWith_2 8 rfl rfl)
theorem dX4_fitsWith_59 : decode cX4_fitsWith 59 = .ok (.iconst 0, 1) := dk_3 (dk_at dksX4_fitsWith_2 11 rfl rfl)
theorem dX4_fitsWith_60 : decode cX4_fitsWith 60 = .ok (.istore_n 2, 1) := dk_61 (dk_at dksX4_fitsWith_2 12 rfl rfl)
theorem dX4_fitsWith_61 : decode cX4_fitsWith 61 = .ok (.iinc 3 1, 3) := dk_132 3 1 (dk_at dksX4_fitsWith_2 13 rfl rfl)
theorem dX4_fitsWith_64 : decode cX4_fitsWith 64 = .ok (.goto (-60), 3) := dk_167 255 196 (dk_at dksX4_fitsWith_2 16 rfl rfl)
theorem dX4_fitsWith_67 : decode cX4_fitsWith 67 = .ok (.iload_n 2, 1) := dk_28 (dk_at dksX4_fitsWith_2 19 rfl rfl)
theorem dX4_fitsWith_68 : decode cX4_fitsWith 68 = .ok (.ireturn, 1) := dk_172 (dk_at dksX4_fitsWith_2 20 rfl rfl)
abbrev cX4_sum : ByteArray := prog_17_method_46_code
def yX4_sum : MethodName := ⟨RX4, "sum", "(I)I"⟩
def dkwX4_sum_2 : List UInt8 := [167, 255, 216, 28, 172]
abbrev dktX4_sum_2 : List UInt8 := dkwX4_sum_2 ++ []
def dkwX4_sum_1 : List UInt8 := [180, 0, 7, 16, 80, 42, 180, 0, 30, 29, 46, 96, 46, 167, 0, 4, 3, 96, 61, 132, 3, 1]
abbrev dktX4_sum_1 : List UInt8 := dkwX4_sum_1 ++ dktX4_sum_2
def dkwX4_sum_0 : List UInt8 := [3, 61, 3, 62, 29, 27, 162, 0, 41, 28, 42, 180, 0, 27, 29, 46, 16, 8, 162, 0, 20, 42]
abbrev dktX4_sum_0 : List UInt8 := dkwX4_sum_0 ++ dktX4_sum_1
theorem dksX4_sum_0 : cX4_sum.data.toList.drop 0 = dktX4_sum_0 := by decide +kernel
theorem dksX4_sum_1 : cX4_sum.data.toList.drop 22 = dktX4_sum_1 := dk_seg dksX4_sum_0 22 rfl rfl
theorem dksX4_sum_2 : cX4_sum.data.toList.drop 44 = dktX4_sum_2 := dk_seg dksX4_sum_1 22 rfl rfl
theorem dX4_sum_0 : decode cX4_sum 0 = .ok (.iconst 0, 1) := dk_3 (dk_at dksX4_sum_0 0 rfl rfl)
theorem dX4_sum_1 : decode cX4_sum 1 = .ok (.istore_n 2, 1) := dk_61 (dk_at dksX4_sum_0 1 rfl rfl)
theorem dX4_sum_2 : decode cX4_sum 2 = .ok (.iconst 0, 1) := dk_3 (dk_at dksX4_sum_0 2 rfl rfl)
theorem dX4_sum_3 : decode cX4_sum 3 = .ok (.istore_n 3, 1) := dk_62 (dk_at dksX4_sum_0 3 rfl rfl)
theorem dX4_sum_4 : decode cX4_sum 4 = .ok (.iload_n 3, 1) := dk_29 (dk_at dksX4_sum_0 4 rfl rfl)
theorem dX4_sum_5 : decode cX4_sum 5 = .ok (.iload_n 1, 1) := dk_27 (dk_at dksX4_sum_0 5 rfl rfl)
theorem dX4_sum_6 : decode cX4_sum 6 = .ok (.if_icmp .ge 41, 3) := dk_162 0 41 (dk_at dksX4_sum_0 6 rfl rfl)
theorem dX4_sum_9 : decode cX4_sum 9 = .ok (.iload_n 2, 1) := dk_28 (dk_at dksX4_sum_0 9 rfl rfl)
theorem dX4_sum_10 : decode cX4_sum 10 = .ok (.aload_n 0, 1) := dk_42 (dk_at dksX4_sum_0 10 rfl rfl)
theorem dX4_sum_11 : decode cX4_sum 11 = .ok (.getfield 27, 3) := dk_180 0 27 (dk_at dksX4_sum_0 11 rfl rfl)
theorem dX4_sum_14 : decode cX4_sum 14 = .ok (.iload_n 3, 1) := dk_29 (dk_at dksX4_sum_0 14 rfl rfl)
theorem dX4_sum_15 : decode cX4_sum 15 = .ok (.iaload, 1) := dk_46 (dk_at dksX4_sum_0 15 rfl rfl)
theorem dX4_sum_16 : decode cX4_sum 16 = .ok (.bipush 8, 2) := dk_16 8 (dk_at dksX4_sum_0 16 rfl rfl)
theorem dX4_sum_18 : decode cX4_sum 18 = .ok (.if_icmp .ge 20, 3) := dk_162 0 20 (dk_at dksX4_sum_0 18 rfl rfl)
theorem dX4_sum_21 : decode cX4_sum 21 = .ok (.aload_n 0, 1) := dk_42 (dk_at dksX4_sum_0 21 rfl rfl)
theorem dX4_sum_22 : decode cX4_sum 22 = .ok (.getfield 7, 3) := dk_180 0 7 (dk_at dksX4_sum_1 0 rfl rfl)
theorem dX4_sum_25 : decode cX4_sum 25 = .ok (.bipush 80, 2) := dk_16 80 (dk_at dksX4_sum_1 3 rfl rfl)
theorem dX4_sum_27 : decode cX4_sum 27 = .ok (.aload_n 0, 1) := dk_42 (dk_at dksX4_sum_1 5 rfl rfl)
theorem dX4_sum_28 : decode cX4_sum 28 = .ok (.getfield 30, 3) := dk_180 0 30 (dk_at dksX4_sum_1 6 rfl rfl)
theorem dX4_sum_31 : decode cX4_sum 31 = .ok (.iload_n 3, 1) := dk_29 (dk_at dksX4_sum_1 9 rfl rfl)
theorem dX4_sum_32 : decode cX4_sum 32 = .ok (.iaload, 1) := dk_46 (dk_at dksX4_sum_1 10 rfl rfl)
theorem dX4_sum_33 : decode cX4_sum 33 = .ok (.iadd, 1) := dk_96 (dk_at dksX4_sum_1 11 rfl rfl)
theorem dX4_sum_34 : decode cX4_sum 34 = .ok (.iaload, 1) := dk_46 (dk_at dksX4_sum_1 12 rfl rfl)
theorem dX4_sum_35 : decode cX4_sum 35 = .ok (.goto 4, 3) := dk_167 0 4 (dk_at dksX4_sum_1 13 rfl rfl)
theorem dX4_sum_38 : decode cX4_sum 38 = .ok (.iconst 0, 1) := dk_3 (dk_at dksX4_sum_1 16 rfl rfl)
theorem dX4_sum_39 : decode cX4_sum 39 = .ok (.iadd, 1) := dk_96 (dk_at dksX4_sum_1 17 rfl rfl)
theorem dX4_sum_40 : decode cX4_sum 40 = .ok (.istore_n 2, 1) := dk_61 (dk_at dksX4_sum_1 18 rfl rfl)
theorem dX4_sum_41 : decode cX4_sum 41 = .ok (.iinc 3 1, 3) := dk_132 3 1 (dk_at dksX4_sum_1 19 rfl rfl)
theorem dX4_sum_44 : decode cX4_sum 44 = .ok (.goto (-40), 3) := dk_167 255 216 (dk_at dksX4_sum_2 0 rfl rfl)
theorem dX4_sum_47 : decode cX4_sum 47 = .ok (.iload_n 2, 1) := dk_28 (dk_at dksX4_sum_2 3 rfl rfl)
theorem dX4_sum_48 : decode cX4_sum 48 = .ok (.ireturn, 1) := dk_172 (dk_at dksX4_sum_2 4 rfl rfl)
abbrev cX4_leaders : ByteArray := prog_17_method_48_code
def yX4_leaders : MethodName := ⟨RX4, "leaders", "()I"⟩
def dkwX4_leaders_12 : List UInt8 := [167, 255, 80, 27, 172]
abbrev dktX4_leaders_12 : List UInt8 := dkwX4_leaders_12 ++ []
def dkwX4_leaders_11 : List UInt8 := [28, 104, 6, 96, 21, 5, 42, 180, 0, 7, 3, 29, 96, 46, 100, 21, 6, 96, 79, 132, 2, 1]
abbrev dktX4_leaders_11 : List UInt8 := dkwX4_leaders_11 ++ dktX4_leaders_12
def dkwX4_leaders_10 : List UInt8 := [16, 20, 29, 96, 46, 164, 0, 7, 28, 167, 0, 8, 27, 4, 100, 28, 100, 96, 79, 42, 180, 0, 33, 7]
abbrev dktX4_leaders_10 : List UInt8 := dkwX4_leaders_10 ++ dktX4_leaders_11
def dkwX4_leaders_9 : List UInt8 := [42, 180, 0, 33, 7, 28, 104, 5, 96, 42, 180, 0, 55, 42, 180, 0, 13, 96, 21, 4, 42, 180, 0, 7]
abbrev dktX4_leaders_9 : List UInt8 := dkwX4_leaders_9 ++ dktX4_leaders_10
def dkwX4_leaders_8 : List UInt8 := [100, 54, 6, 42, 180, 0, 33, 7, 28, 104, 29, 79, 42, 180, 0, 33, 7, 28, 104, 4, 96, 21, 4, 79]
abbrev dktX4_leaders_8 : List UInt8 := dkwX4_leaders_8 ++ dktX4_leaders_9
def dkwX4_leaders_7 : List UInt8 := [42, 180, 0, 7, 16, 20, 29, 96, 46, 100, 167, 0, 15, 42, 180, 0, 7, 16, 20, 29, 96, 46, 21, 4]
abbrev dktX4_leaders_7 : List UInt8 := dkwX4_leaders_7 ++ dktX4_leaders_8
def dkwX4_leaders_6 : List UInt8 := [180, 0, 13, 96, 27, 96, 54, 5, 21, 4, 42, 180, 0, 7, 16, 20, 29, 96, 46, 164, 0, 18, 21, 4]
abbrev dktX4_leaders_6 : List UInt8 := dkwX4_leaders_6 ++ dktX4_leaders_7
def dkwX4_leaders_5 : List UInt8 := [46, 62, 42, 180, 0, 58, 42, 180, 0, 17, 96, 4, 100, 5, 28, 104, 100, 54, 4, 42, 180, 0, 55, 42]
abbrev dktX4_leaders_5 : List UInt8 := dkwX4_leaders_5 ++ dktX4_leaders_6
def dkwX4_leaders_4 : List UInt8 := [100, 156, 0, 6, 16, 253, 172, 42, 27, 181, 0, 182, 3, 61, 28, 27, 162, 0, 177, 42, 180, 0, 36, 28]
abbrev dktX4_leaders_4 : List UInt8 := dkwX4_leaders_4 ++ dktX4_leaders_5
def dkwX4_leaders_3 : List UInt8 := [132, 1, 1, 132, 2, 1, 167, 255, 185, 27, 158, 0, 21, 42, 180, 0, 17, 4, 100, 5, 27, 4, 100, 104]
abbrev dktX4_leaders_3 : List UInt8 := dkwX4_leaders_3 ++ dktX4_leaders_4
def dkwX4_leaders_2 : List UInt8 := [42, 180, 0, 36, 29, 4, 100, 46, 79, 132, 3, 255, 167, 255, 219, 42, 180, 0, 36, 29, 28, 79]
abbrev dktX4_leaders_2 : List UInt8 := dkwX4_leaders_2 ++ dktX4_leaders_3
def dkwX4_leaders_1 : List UInt8 := [158, 0, 39, 42, 28, 42, 180, 0, 36, 29, 4, 100, 46, 182, 0, 179, 153, 0, 23, 42, 180, 0, 36, 29]
abbrev dktX4_leaders_1 : List UInt8 := dkwX4_leaders_1 ++ dktX4_leaders_2
def dkwX4_leaders_0 : List UInt8 := [3, 60, 3, 61, 28, 42, 180, 0, 48, 162, 0, 69, 42, 28, 182, 0, 151, 153, 0, 55, 27, 62, 29]
abbrev dktX4_leaders_0 : List UInt8 := dkwX4_leaders_0 ++ dktX4_leaders_1
theorem dksX4_leaders_0 : cX4_leaders.data.toList.drop 0 = dktX4_leaders_0 := by decide +kernel
theorem dksX4_leaders_1 : cX4_leaders.data.toList.drop 23 = dktX4_leaders_1 := dk_seg dksX4_leaders_0 23 rfl rfl
theorem dksX4_leaders_2 : cX4_leaders.data.toList.drop 47 = dktX4_leaders_2 := dk_seg dksX4_leaders_1 24 rfl rfl
theorem dksX4_leaders_3 : cX4_leaders.data.toList.drop 69 = dktX4_leaders_3 := dk_seg dksX4_leaders_2 22 rfl rfl
theorem dksX4_leaders_4 : cX4_leaders.data.toList.drop 93 = dktX4_leaders_4 := dk_seg dksX4_leaders_3 24 rfl rfl
theorem dksX4_leaders_5 : cX4_leaders.data.toList.drop 117 = dktX4_leaders_5 := dk_seg dksX4_leaders_4 24 rfl rfl
theorem dksX4_leaders_6 : cX4_leaders.data.toList.drop 141 = dktX4_leaders_6 := dk_seg dksX4_leaders_5 24 rfl rfl
theorem dksX4_leaders_7 : cX4_leaders.data.toList.drop 165 = dktX4_leaders_7 := dk_seg dksX4_leaders_6 24 rfl rfl
theorem dksX4_leaders_8 : cX4_leaders.data.toList.drop 189 = dktX4_leaders_8 := dk_seg dksX4_leaders_7 24 rfl rfl
theorem dksX4_leaders_9 : cX4_leaders.data.toList.drop 213 = dktX4_leaders_9 := dk_seg dksX4_leaders_8 24 rfl rfl
theorem dksX4_leaders_10 : cX4_leaders.data.toList.drop 237 = dktX4_leaders_10 := dk_seg dksX4_leaders_9 24 rfl rfl
theorem dksX4_leaders_11 : cX4_leaders.data.toList.drop 261 = dktX4_leaders_11 := dk_seg dksX4_leaders_10 24 rfl rfl
theorem dksX4_leaders_12 : cX4_leaders.data.toList.drop 283 = dktX4_leaders_12 := dk_seg dksX4_leaders_11 22 rfl rfl
theorem dX4_leaders_0 : decode cX4_leaders 0 = .ok (.iconst 0, 1) := dk_3 (dk_at dksX4_leaders_0 0 rfl rfl)
theorem dX4_leaders_1 : decode cX4_leaders 1 = .ok (.istore_n 1, 1) := dk_60 (dk_at dksX4_leaders_0 1 rfl rfl)
theorem dX4_leaders_2 : decode cX4_leaders 2 = .ok (.iconst 0, 1) := dk_3 (dk_at dksX4_leaders_0 2 rfl rfl)
theorem dX4_leaders_3 : decode cX4_leaders 3 = .ok (.istore_n 2, 1) := dk_61 (dk_at dksX4_leaders_0 3 rfl rfl)
theorem dX4_leaders_4 : decode cX4_leaders 4 = .ok (.iload_n 2, 1) := dk_28 (dk_at dksX4_leaders_0 4 rfl rfl)
theorem dX4_leaders_5 : decode cX4_leaders 5 = .ok (.aload_n 0, 1) := dk_42 (dk_at dksX4_leaders_0 5 rfl rfl)
theorem dX4_leaders_6 : decode cX4_leaders 6 = .ok (.getfield 48, 3) := dk_180 0 48 (dk_at dksX4_leaders_0 6 rfl rfl)
theorem dX4_leaders_9 : decode cX4_leaders 9 = .ok (.if_icmp .ge 69, 3) := dk_162 0 69 (dk_at dksX4_leaders_0 9 rfl rfl)
theorem dX4_leaders_12 : decode cX4_leaders 12 = .ok (.aload_n 0, 1) := dk_42 (dk_at dksX4_leaders_0 12 rfl rfl)
theorem dX4_leaders_13 : decode cX4_leaders 13 = .ok (.iload_n 2, 1) := dk_28 (dk_at dksX4_leaders_0 13 rfl rfl)
theorem dX4_leaders_14 : decode cX4_leaders 14 = .ok (.invokevirtual 151, 3) := dk_182 0 151 (dk_at dksX4_leaders_0 14 rfl rfl)
theorem dX4_leaders_17 : decode cX4_leaders 17 = .ok (.ifCond .eq 55, 3) := dk_153 0 55 (dk_at dksX4_leaders_0 17 rfl rfl)
theorem dX4_leaders_20 : decode cX4_leaders 20 = .ok (.iload_n 1, 1) := dk_27 (dk_at dksX4_leaders_0 20 rfl rfl)
theorem dX4_leaders_21 : decode cX4_leaders 21 = .ok (.istore_n 3, 1) := dk_62 (dk_at dksX4_leaders_0 21 rfl rfl)
theorem dX4_leaders_22 : decode cX4_leaders 22 = .ok (.iload_n 3, 1) := dk_29 (dk_at dksX4_leaders_0 22 rfl rfl)
theorem dX4_leaders_23 : decode cX4_leaders 23 = .ok (.ifCond .le 39, 3) := dk_158 0 39 (dk_at dksX4_leaders_1 0 rfl rfl)
theorem dX4_leaders_26 : decode cX4_leaders 26 = .ok (.aload_n 0, 1) := dk_42 (dk_at dksX4_leaders_1 3 rfl rfl)
theorem dX4_leaders_27 : decode cX4_leaders 27 = .ok (.iload_n 2, 1) := dk_28 (dk_at dksX4_leaders_1 4 rfl rfl)
theorem dX4_leaders_28 : decode cX4_leaders 28 = .ok (.aload_n 0, 1) := dk_42 (dk_at dksX4_leaders_1 5 rfl rfl)
theorem dX4_leaders_29 : decode cX4_leaders 29 = .ok (.getfield 36, 3) := dk_180 0 36 (dk_at dksX4_leaders_1 6 rfl rfl)
theorem dX4_leaders_32 : decode cX4_leaders 32 = .ok (.iload_n 3, 1) := dk_29 (dk_at dksX4_leaders_1 9 rfl rfl)
theorem dX4_leaders_33 : decode cX4_leaders 33 = .ok (.iconst 1, 1) := dk_4 (dk_at dksX4_leaders_1 10 rfl rfl)
theorem dX4_leaders_34 : decode cX4_leaders 34 = .ok (.isub, 1) := dk_100 (dk_at dksX4_leaders_1 11 rfl rfl)
theorem dX4_leaders_35 : decode cX4_leaders 35 = .ok (.iaload, 1) := dk_46 (dk_at dksX4_leaders_1 12 rfl rfl)
theorem dX4_leaders_36 : decode cX4_leaders 36 = .ok (.invokevirtual 179, 3) := dk_182 0 179 (dk_at dksX4_leaders_1 13 rfl rfl)
theorem dX4_leaders_39 : decode cX4_leaders 39 = .ok (.ifCond .eq 23, 3) := dk_153 0 23 (dk_at dksX4_leaders_1 16 rfl rfl)
theorem dX4_leaders_42 : decode cX4_leaders 42 = .ok (.aload_n 0, 1) := dk_42 (dk_at dksX4_leaders_1 19 rfl rfl)
theorem dX4_leaders_43 : decode cX4_leaders 43 = .ok (.getfield 36, 3) := dk_180 0 36 (dk_at dksX4_leaders_1 20 rfl rfl)
theorem dX4_leaders_46 : decode cX4_leaders 46 = .ok (.iload_n 3, 1) := dk_29 (dk_at dksX4_leaders_1 23 rfl rfl)
theorem dX4_leaders_47 : decode cX4_leaders 47 = .ok (.aload_n 0, 1) := dk_42 (dk_at dksX4_leaders_2 0 rfl rfl)
theorem dX4_leaders_48 : decode cX4_leaders 48 = .ok (.getfield 36, 3) := dk_180 0 36 (dk_at dksX4_leaders_2 1 rfl rfl)
theorem dX4_leaders_51 : decode cX4_leaders 51 = .ok (.iload_n 3, 1) := dk_29 (dk_at dksX4_leaders_2 4 rfl rfl)
theorem dX4_leaders_52 : decode cX4_leaders 52 = .ok (.iconst 1, 1) := dk_4 (dk_at dksX4_leaders_2 5 rfl rfl)
theorem dX4_leaders_53 : decode cX4_leaders 53 = .ok (.isub, 1) := dk_100 (dk_at dksX4_leaders_2 6 rfl rfl)
theorem dX4_leaders_54 : decode cX4_leaders 54 = .ok (.iaload, 1) := dk_46 (dk_at dksX4_leaders_2 7 rfl rfl)
theorem dX4_leaders_55 : decode cX4_leaders 55 = .ok (.iastore, 1) := dk_79 (dk_at dksX4_leaders_2 8 rfl rfl)
theorem dX4_leaders_56 : decode cX4_leaders 56 = .ok (.iinc 3 (-1), 3) := dk_132 3 255 (dk_at dksX4_leaders_2 9 rfl rfl)
theorem dX4_leaders_59 : decode cX4_leaders 59 = .ok (.goto (-37), 3) := dk_167 255 219 (dk_at dksX4_leaders_2 12 rfl rfl)
theorem dX4_leaders_62 : decode cX4_leaders 62 = .ok (.aload_n 0, 1) := dk_42 (dk_at dksX4_leaders_2 15 rfl rfl)
theorem dX4_leaders_63 : decode cX4_leaders 63 = .ok (.getfield 36, 3) := dk_180 0 36 (dk_at dksX4_leaders_2 16 rfl rfl)
theorem dX4_leaders_66 : decode cX4_leaders 66 = .ok (.iload_n 3, 1) := dk_29 (dk_at dksX4_leaders_2 19 rfl rfl)
theorem dX4_leaders_67 : decode cX4_leaders 67 = .ok (.iload_n 2, 1) := dk_28 (dk_at dksX4_leaders_2 20 rfl rfl)
theorem dX4_leaders_68 : decode cX4_leaders 68 = .ok (.iastore, 1) := dk_79 (dk_at dksX4_leaders_2 21 rfl rfl)
theorem dX4_leaders_69 : decode cX4_leaders 69 = .ok (.iinc 1 1, 3) := dk_132 1 1 (dk_at dksX4_leaders_3 0 rfl rfl)
theorem dX4_leaders_72 : decode cX4_leaders 72 = .ok (.iinc 2 1, 3) := dk_132 2 1 (dk_at dksX4_leaders_3 3 rfl rfl)
theorem dX4_leaders_75 : decode cX4_leaders 75 = .ok (.goto (-71), 3) := dk_167 255 185 (dk_at dksX4_leaders_3 6 rfl rfl)
theorem dX4_leaders_78 : decode cX4_leaders 78 = .ok (.iload_n 1, 1) := dk_27 (dk_at dksX4_leaders_3 9 rfl rfl)
theorem dX4_leaders_79 : decode cX4_leaders 79 = .ok (.ifCond .le 21, 3) := dk_158 0 21 (dk_at dksX4_leaders_3 10 rfl rfl)
theorem dX4_leaders_82 : decode cX4_leaders 82 = .ok (.aload_n 0, 1) := dk_42 (dk_at dksX4_leaders_3 13 rfl rfl)
theorem dX4_leaders_83 : decode cX4_leaders 83 = .ok (.getfield 17, 3) := dk_180 0 17 (dk_at dksX4_leaders_3 14 rfl rfl)
theorem dX4_leaders_86 : decode cX4_leaders 86 = .ok (.iconst 1, 1) := dk_4 (dk_at dksX4_leaders_3 17 rfl rfl)
theorem dX4_leaders_87 : decode cX4_leaders 87 = .ok (.isub, 1) := dk_100 (dk_at dksX4_leaders_3 18 rfl rfl)
theorem dX4_leaders_88 : decode cX4_leaders 88 = .ok (.iconst 2, 1) := dk_5 (dk_at dksX4_leaders_3 19 rfl rfl)
theorem dX4_leaders_89 : decode cX4_leaders 89 = .ok (.iload_n 1, 1) := dk_27 (dk_at dksX4_leaders_3 20 rfl rfl)
theorem dX4_leaders_90 : decode cX4_leaders 90 = .ok (.iconst 1, 1) := dk_4 (dk_at dksX4_leaders_3 21 rfl rfl)
theorem dX4_leaders_91 : decode cX4_leaders 91 = .ok (.isub, 1) := dk_100 (dk_at dksX4_leaders_3 22 rfl rfl)
theorem dX4_leaders_92 : decode cX4_leaders 92 = .ok (.imul, 1) := dk_104 (dk_at dksX4_leaders_3 23 rfl rfl)
theorem dX4_leaders_93 : decode cX4_leaders 93 = .ok (.isub, 1) := dk_100 (dk_at dksX4_leaders_4 0 rfl rfl)
theorem dX4_leaders_94 : decode cX4_leaders 94 = .ok (.ifCond .ge 6, 3) := dk_156 0 6 (dk_at dksX4_leaders_4 1 rfl rfl)
theorem dX4_leaders_97 : decode cX4_leaders 97 = .ok (.bipush (-3), 2) := dk_16 253 (dk_at dksX4_leaders_4 4 rfl rfl)
theorem dX4_leaders_99 : decode cX4_leaders 99 = .ok (.ireturn, 1) := dk_172 (dk_at dksX4_leaders_4 6 rfl rfl)
theorem dX4_leaders_100 : decode cX4_leaders 100 = .ok (.aload_n 0, 1) := dk_42 (dk_at dksX4_leaders_4 7 rfl rfl)
theorem dX4_leaders_101 : decode cX4_leaders 101 = .ok (.iload_n 1, 1) := dk_27 (dk_at dksX4_leaders_4 8 rfl rfl)
theorem dX4_leaders_102 : decode cX4_leaders 102 = .ok (.putfield 182, 3) := dk_181 0 182 (dk_at dksX4_leaders_4 9 rfl rfl)
theorem dX4_leaders_105 : decode cX4_leaders 105 = .ok (.iconst 0, 1) := dk_3 (dk_at dksX4_leaders_4 12 rfl rfl)
theorem dX4_leaders_106 : decode cX4_leaders 106 = .ok (.istore_n 2, 1) := dk_61 (dk_at dksX4_leaders_4 13 rfl rfl)
theorem dX4_leaders_107 : decode cX4_leaders 107 = .ok (.iload_n 2, 1) := dk_28 (dk_at dksX4_leaders_4 14 rfl rfl)
theorem dX4_leaders_108 : decode cX4_leaders 108 = .ok (.iload_n 1, 1) := dk_27 (dk_at dksX4_leaders_4 15 rfl rfl)
theorem dX4_leaders_109 : decode cX4_leaders 109 = .ok (.if_icmp .ge 177, 3) := dk_162 0 177 (dk_at dksX4_leaders_4 16 rfl rfl)
theorem dX4_leaders_112 : decode cX4_leaders 112 = .ok (.aload_n 0, 1) := dk_42 (dk_at dksX4_leaders_4 19 rfl rfl)
theorem dX4_leaders_113 : decode cX4_leaders 113 = .ok (.getfield 36, 3) := dk_180 0 36 (dk_at dksX4_leaders_4 20 rfl rfl)
theorem dX4_leaders_116 : decode cX4_leaders 116 = .ok (.iload_n 2, 1) := dk_28 (dk_at dksX4_leaders_4 23 rfl rfl)
theorem dX4_leaders_117 : decode cX4_leaders 117 = .ok (.iaload, 1) := dk_46 (dk_at dksX4_leaders_5 0 rfl rfl)
theorem dX4_leaders_118 : decode cX4_leaders 118 = .ok (.istore_n 3, 1) := dk_62 (dk_at dksX4_leaders_5 1 rfl rfl)
theorem dX4_leaders_119 : decode cX4_leaders 119 = .ok (.aload_n 0, 1) := dk_42 (dk_at dksX4_leaders_5 2 rfl rfl)
theorem dX4_leaders_120 : decode cX4_leaders 120 = .ok (.getfield 58, 3) := dk_180 0 58 (dk_at dksX4_leaders_5 3 rfl rfl)
theorem dX4_leaders_123 : decode cX4_leaders 123 = .ok (.aload_n 0, 1) := dk_42 (dk_at dksX4_leaders_5 6 rfl rfl)
theorem dX4_leaders_124 : decode cX4_leaders 124 = .ok (.getfield 17, 3) := dk_180 0 17 (dk_at dksX4_leaders_5 7 rfl rfl)
theorem dX4_leaders_127 : decode cX4_leaders 127 = .ok (.iadd, 1) := dk_96 (dk_at dksX4_leaders_5 10 rfl rfl)
theorem dX4_leaders_128 : decode cX4_leaders 128 = .ok (.iconst 1, 1) := dk_4 (dk_at dksX4_leaders_5 11 rfl rfl)
theorem dX4_leaders_129 : decode cX4_leaders 129 = .ok (.isub, 1) := dk_100 (dk_at dksX4_leaders_5 12 rfl rfl)
theorem dX4_leaders_130 : decode cX4_leaders 130 = .ok (.iconst 2, 1) := dk_5 (dk_at dksX4_leaders_5 13 rfl rfl)
theorem dX4_leaders_131 : decode cX4_leaders 131 = .ok (.iload_n 2, 1) := dk_28 (dk_at dksX4_leaders_5 14 rfl rfl)
theorem dX4_leaders_132 : decode cX4_leaders 132 = .ok (.imul, 1) := dk_104 (dk_at dksX4_leaders_5 15 rfl rfl)
theorem dX4_leaders_133 : decode cX4_leaders 133 = .ok (.isub, 1) := dk_100 (dk_at dksX4_leaders_5 16 rfl rfl)
theorem dX4_leaders_134 : decode cX4_leaders 134 = .ok (.istore 4, 2) := dk_54 4 (dk_at dksX4_leaders_5 17 rfl rfl)
theorem dX4_leaders_136 : decode cX4_leaders 136 = .ok (.aload_n 0, 1) := dk_42 (dk_at dksX4_leaders_5 19 rfl rfl)
theorem dX4_leaders_137 : decode cX4_leaders 137 = .ok (.getfield 55, 3) := dk_180 0 55 (dk_at dksX4_leaders_5 20 rfl rfl)
theorem dX4_leaders_140 : decode cX4_leaders 140 = .ok (.aload_n 0, 1) := dk_42 (dk_at dksX4_leaders_5 23 rfl rfl)
theorem dX4_leaders_141 : decode cX4_leaders 141 = .ok (.getfield 13, 3) := dk_180 0 13 (dk_at dksX4_leaders_6 0 rfl rfl)
theorem dX4_leaders_144 : decode cX4_leaders 144 = .ok (.iadd, 1) := dk_96 (dk_at dksX4_leaders_6 3 rfl rfl)
theorem dX4_leaders_145 : decode cX4_leaders 145 = .ok (.iload_n 1, 1) := dk_27 (dk_at dksX4_leaders_6 4 rfl rfl)
theorem dX4_leaders_146 : decode cX4_leaders 146 = .ok (.iadd, 1) := dk_96 (dk_at dksX4_leaders_6 5 rfl rfl)
theorem dX4_leaders_147 : decode cX4_leaders 147 = .ok (.istore 5, 2) := dk_54 5 (dk_at dksX4_leaders_6 6 rfl rfl)
theorem dX4_leaders_149 : decode cX4_leaders 149 = .ok (.iload 4, 2) := dk_21 4 (dk_at dksX4_leaders_6 8 rfl rfl)
theorem dX4_leaders_151 : decode cX4_leaders 151 = .ok (.aload_n 0, 1) := dk_42 (dk_at dksX4_leaders_6 10 rfl rfl)
theorem dX4_leaders_152 : decode cX4_leaders 152 = .ok (.getfield 7, 3) := dk_180 0 7 (dk_at dksX4_leaders_6 11 rfl rfl)
theorem dX4_leaders_155 : decode cX4_leaders 155 = .ok (.bipush 20, 2) := dk_16 20 (dk_at dksX4_leaders_6 14 rfl rfl)
theorem dX4_leaders_157 : decode cX4_leaders 157 = .ok (.iload_n 3, 1) := dk_29 (dk_at dksX4_leaders_6 16 rfl rfl)
theorem dX4_leaders_158 : decode cX4_leaders 158 = .ok (.iadd, 1) := dk_96 (dk_at dksX4_leaders_6 17 rfl rfl)
theorem dX4_leaders_159 : decode cX4_leaders 159 = .ok (.iaload, 1) := dk_46 (dk_at dksX4_leaders_6 18 rfl rfl)
theorem dX4_leaders_160 : decode cX4_leaders 160 = .ok (.if_icmp .le 18, 3) := dk_164 0 18 (dk_at dksX4_leaders_6 19 rfl rfl)
theorem dX4_leaders_163 : decode cX4_leaders 163 = .ok (.iload 4, 2) := dk_21 4 (dk_at dksX4_leaders_6 22 rfl rfl)
theorem dX4_leaders_165 : decode cX4_leaders 165 = .ok (.aload_n 0, 1) := dk_42 (dk_at dksX4_leaders_7 0 rfl rfl)
theorem dX4_leaders_166 : decode cX4_leaders 166 = .ok (.getfield 7, 3) := dk_180 0 7 (dk_at dksX4_leaders_7 1 rfl rfl)
theorem dX4_leaders_169 : decode cX4_leaders 169 = .ok (.bipush 20, 2) := dk_16 20 (dk_at dksX4_leaders_7 4 rfl rfl)
theorem dX4_leaders_171 : decode cX4_leaders 171 = .ok (.iload_n 3, 1) := dk_29 (dk_at dksX4_leaders_7 6 rfl rfl)
theorem dX4_leaders_172 : decode cX4_leaders 172 = .ok (.iadd, 1) := dk_96 (dk_at dksX4_leaders_7 7 rfl rfl)
theorem dX4_leaders_173 : decode cX4_leaders 173 = .ok (.iaload, 1) := dk_46 (dk_at dksX4_leaders_7 8 rfl rfl)
theorem dX4_leaders_174 : decode cX4_leaders 174 = .ok (.isub, 1) := dk_100 (dk_at dksX4_leaders_7 9 rfl rfl)
theorem dX4_leaders_175 : decode cX4_leaders 175 = .ok (.goto 15, 3) := dk_167 0 15 (dk_at dksX4_leaders_7 10 rfl rfl)
theorem dX4_leaders_178 : decode cX4_leaders 178 = .ok (.aload_n 0, 1) := dk_42 (dk_at dksX4_leaders_7 13 rfl rfl)
theorem dX4_leaders_179 : decode cX4_leaders 179 = .ok (.getfield 7, 3) := dk_180 0 7 (dk_at dksX4_leaders_7 14 rfl rfl)
theorem dX4_leaders_182 : decode cX4_leaders 182 = .ok (.bipush 20, 2) := dk_16 20 (dk_at dksX4_leaders_7 17 rfl rfl)
theorem dX4_leaders_184 : decode cX4_leaders 184 = .ok (.iload_n 3, 1) := dk_29 (dk_at dksX4_leaders_7 19 rfl rfl)
theorem dX4_leaders_185 : decode cX4_leaders 185 = .ok (.iadd, 1) := dk_96 (dk_at dksX4_leaders_7 20 rfl rfl)
theorem dX4_leaders_186 : decode cX4_leaders 186 = .ok (.iaload, 1) := dk_46 (dk_at dksX4_leaders_7 21 rfl rfl)
theorem dX4_leaders_187 : decode cX4_leaders 187 = .ok (.iload 4, 2) := dk_21 4 (dk_at dksX4_leaders_7 22 rfl rfl)
theorem dX4_leaders_189 : decode cX4_leaders 189 = .ok (.isub, 1) := dk_100 (dk_at dksX4_leaders_8 0 rfl rfl)
theorem dX4_leaders_190 : decode cX4_leaders 190 = .ok (.istore 6, 2) := dk_54 6 (dk_at dksX4_leaders_8 1 rfl rfl)
theorem dX4_leaders_192 : decode cX4_leaders 192 = .ok (.aload_n 0, 1) := dk_42 (dk_at dksX4_leaders_8 3 rfl rfl)
theorem dX4_leaders_193 : decode cX4_leaders 193 = .ok (.getfield 33, 3) := dk_180 0 33 (dk_at dksX4_leaders_8 4 rfl rfl)
theorem dX4_leaders_196 : decode cX4_leaders 196 = .ok (.iconst 4, 1) := dk_7 (dk_at dksX4_leaders_8 7 rfl rfl)
theorem dX4_leaders_197 : decode cX4_leaders 197 = .ok (.iload_n 2, 1) := dk_28 (dk_at dksX4_leaders_8 8 rfl rfl)
theorem dX4_leaders_198 : decode cX4_leaders 198 = .ok (.imul, 1) := dk_104 (dk_at dksX4_leaders_8 9 rfl rfl)
theorem dX4_leaders_199 : decode cX4_leaders 199 = .ok (.iload_n 3, 1) := dk_29 (dk_at dksX4_leaders_8 10 rfl rfl)
theorem dX4_leaders_200 : decode cX4_leaders 200 = .ok (.iastore, 1) := dk_79 (dk_at dksX4_leaders_8 11 rfl rfl)
theorem dX4_leaders_201 : decode cX4_leaders 201 = .ok (.aload_n 0, 1) := dk_42 (dk_at dksX4_leaders_8 12 rfl rfl)
theorem dX4_leaders_202 : decode cX4_leaders 202 = .ok (.getfield 33, 3) := dk_180 0 33 (dk_at dksX4_leaders_8 13 rfl rfl)
theorem dX4_leaders_205 : decode cX4_leaders 205 = .ok (.iconst 4, 1) := dk_7 (dk_at dksX4_leaders_8 16 rfl rfl)
theorem dX4_leaders_206 : decode cX4_leaders 206 = .ok (.iload_n 2, 1) := dk_28 (dk_at dksX4_leaders_8 17 rfl rfl)
theorem dX4_leaders_207 : decode cX4_leaders 207 = .ok (.imul, 1) := dk_104 (dk_at dksX4_leaders_8 18 rfl rfl)
theorem dX4_leaders_208 : decode cX4_leaders 208 = .ok (.iconst 1, 1) := dk_4 (dk_at dksX4_leaders_8 19 rfl rfl)
theorem dX4_leaders_209 : decode cX4_leaders 209 = .ok (.iadd, 1) := dk_96 (dk_at dksX4_leaders_8 20 rfl rfl)
theorem dX4_leaders_210 : decode cX4_leaders 210 = .ok (.iload 4, 2) := dk_21 4 (dk_at dksX4_leaders_8 21 rfl rfl)
theorem dX4_leaders_212 : decode cX4_leaders 212 = .ok (.iastore, 1) := dk_79 (dk_at dksX4_leaders_8 23 rfl rfl)
theorem dX4_leaders_213 : decode cX4_leaders 213 = .ok (.aload_n 0, 1) := dk_42 (dk_at dksX4_leaders_9 0 rfl rfl)
theorem dX4_leaders_214 : decode cX4_leaders 214 = .ok (.getfield 33, 3) := dk_180 0 33 (dk_at dksX4_leaders_9 1 rfl rfl)
theorem dX4_leaders_217 : decode cX4_leaders 217 = .ok (.iconst 4, 1) := dk_7 (dk_at dksX4_leaders_9 4 rfl rfl)
theorem dX4_leaders_218 : decode cX4_leaders 218 = .ok (.iload_n 2, 1) := dk_28 (dk_at dksX4_leaders_9 5 rfl rfl)
theorem dX4_leaders_219 : decode cX4_leaders 219 = .ok (.imul, 1) := dk_104 (dk_at dksX4_leaders_9 6 rfl rfl)
theorem dX4_leaders_220 : decode cX4_leaders 220 = .ok (.iconst 2, 1) := dk_5 (dk_at dksX4_leaders_9 7 rfl rfl)
theorem dX4_leaders_221 : decode cX4_leaders 221 = .ok (.iadd, 1) := dk_96 (dk_at dksX4_leaders_9 8 rfl rfl)
theorem dX4_leaders_222 : decode cX4_leaders 222 = .ok (.aload_n 0, 1) := dk_42 (dk_at dksX4_leaders_9 9 rfl rfl)
theorem dX4_leaders_223 : decode cX4_leaders 223 = .ok (.getfield 55, 3) := dk_180 0 55 (dk_at dksX4_leaders_9 10 rfl rfl)
theorem dX4_leaders_226 : decode cX4_leaders 226 = .ok (.aload_n 0, 1) := dk_42 (dk_at dksX4_leaders_9 13 rfl rfl)
theorem dX4_leaders_227 : decode cX4_leaders 227 = .ok (.getfield 13, 3) := dk_180 0 13 (dk_at dksX4_leaders_9 14 rfl rfl)
theorem dX4_leaders_230 : decode cX4_leaders 230 = .ok (.iadd, 1) := dk_96 (dk_at dksX4_leaders_9 17 rfl rfl)
theorem dX4_leaders_231 : decode cX4_leaders 231 = .ok (.iload 4, 2) := dk_21 4 (dk_at dksX4_leaders_9 18 rfl rfl)
theorem dX4_leaders_233 : decode cX4_leaders 233 = .ok (.aload_n 0, 1) := dk_42 (dk_at dksX4_leaders_9 20 rfl rfl)
theorem dX4_leaders_234 : decode cX4_leaders 234 = .ok (.getfield 7, 3) := dk_180 0 7 (dk_at dksX4_leaders_9 21 rfl rfl)
theorem dX4_leaders_237 : decode cX4_leaders 237 = .ok (.bipush 20, 2) := dk_16 20 (dk_at dksX4_leaders_10 0 rfl rfl)
theorem dX4_leaders_239 : decode cX4_leaders 239 = .ok (.iload_n 3, 1) := dk_29 (dk_at dksX4_leaders_10 2 rfl rfl)
theorem dX4_leaders_240 : decode cX4_leaders 240 = .ok (.iadd, 1) := dk_96 (dk_at dksX4_leaders_10 3 rfl rfl)
theorem dX4_leaders_241 : decode cX4_leaders 241 = .ok (.iaload, 1) := dk_46 (dk_at dksX4_leaders_10 4 rfl rfl)
theorem dX4_leaders_242 : decode cX4_leaders 242 = .ok (.if_icmp .le 7, 3) := dk_164 0 7 (dk_at dksX4_leaders_10 5 rfl rfl)
theorem dX4_leaders_245 : decode cX4_leaders 245 = .ok (.iload_n 2, 1) := dk_28 (dk_at dksX4_leaders_10 8 rfl rfl)
theorem dX4_leaders_246 : decode cX4_leaders 246 = .ok (.goto 8, 3) := dk_167 0 8 (dk_at dksX4_leaders_10 9 rfl rfl)
theorem dX4_leaders_249 : decode cX4_leaders 249 = .ok (.iload_n 1, 1) := dk_27 (dk_at dksX4_leaders_10 12 rfl rfl)
theorem dX4_leaders_250 : decode cX4_leaders 250 = .ok (.iconst 1, 1) := dk_4 (dk_at dksX4_leaders_10 13 rfl rfl)
theorem dX4_leaders_251 : decode cX4_leaders 251 = .ok (.isub, 1) := dk_100 (dk_at dksX4_leaders_10 14 rfl rfl)
theorem dX4_leaders_252 : decode cX4_leaders 252 = .ok (.iload_n 2, 1) := dk_28 (dk_at dksX4_leaders_10 15 rfl rfl)
theorem dX4_leaders_253 : decode cX4_leaders 253 = .ok (.isub, 1) := dk_100 (dk_at dksX4_leaders_10 16 rfl rfl)
theorem dX4_leaders_254 : decode cX4_leaders 254 = .ok (.iadd, 1) := dk_96 (dk_at dksX4_leaders_10 17 rfl rfl)
theorem dX4_leaders_255 : decode cX4_leaders 255 = .ok (.iastore, 1) := dk_79 (dk_at dksX4_leaders_10 18 rfl rfl)
theorem dX4_leaders_256 : decode cX4_leaders 256 = .ok (.aload_n 0, 1) := dk_42 (dk_at dksX4_leaders_10 19 rfl rfl)
theorem dX4_leaders_257 : decode cX4_leaders 257 = .ok (.getfield 33, 3) := dk_180 0 33 (dk_at dksX4_leaders_10 20 rfl rfl)
theorem dX4_leaders_260 : decode cX4_leaders 260 = .ok (.iconst 4, 1) := dk_7 (dk_at dksX4_leaders_10 23 rfl rfl)
theorem dX4_leaders_261 : decode cX4_leaders 261 = .ok (.iload_n 2, 1) := dk_28 (dk_at dksX4_leaders_11 0 rfl rfl)
theorem dX4_leaders_262 : decode cX4_leaders 262 = .ok (.imul, 1) := dk_104 (dk_at dksX4_leaders_11 1 rfl rfl)
theorem dX4_leaders_263 : decode cX4_leaders 263 = .ok (.iconst 3, 1) := dk_6 (dk_at dksX4_leaders_11 2 rfl rfl)
theorem dX4_leaders_264 : decode cX4_leaders 264 = .ok (.iadd, 1) := dk_96 (dk_at dksX4_leaders_11 3 rfl rfl)
theorem dX4_leaders_265 : decode cX4_leaders 265 = .ok (.iload 5, 2) := dk_21 5 (dk_at dksX4_leaders_11 4 rfl rfl)
theorem dX4_leaders_267 : decode cX4_leaders 267 = .ok (.aload_n 0, 1) := dk_42 (dk_at dksX4_leaders_11 6 rfl rfl)
theorem dX4_leaders_268 : decode cX4_leaders 268 = .ok (.getfield 7, 3) := dk_180 0 7 (dk_at dksX4_leaders_11 7 rfl rfl)
theorem dX4_leaders_271 : decode cX4_leaders 271 = .ok (.iconst 0, 1) := dk_3 (dk_at dksX4_leaders_11 10 rfl rfl)
theorem dX4_leaders_272 : decode cX4_leaders 272 = .ok (.iload_n 3, 1) := dk_29 (dk_at dksX4_leaders_11 11 rfl rfl)
theorem dX4_leaders_273 : decode cX4_leaders 273 = .ok (.iadd, 1) := dk_96 (dk_at dksX4_leaders_11 12 rfl rfl)
theorem dX4_leaders_274 : decode cX4_leaders 274 = .ok (.iaload, 1) := dk_46 (dk_at dksX4_leaders_11 13 rfl rfl)
theorem dX4_leaders_275 : decode cX4_leaders 275 = .ok (.isub, 1) := dk_100 (dk_at dksX4_leaders_11 14 rfl rfl)
theorem dX4_leaders_276 : decode cX4_leaders 276 = .ok (.iload 6, 2) := dk_21 6 (dk_at dksX4_leaders_11 15 rfl rfl)
theorem dX4_leaders_278 : decode cX4_leaders 278 = .ok (.iadd, 1) := dk_96 (dk_at dksX4_leaders_11 17 rfl rfl)
theorem dX4_leaders_279 : decode cX4_leaders 279 = .ok (.iastore, 1) := dk_79 (dk_at dksX4_leaders_11 18 rfl rfl)
theorem dX4_leaders_280 : decode cX4_leaders 280 = .ok (.iinc 2 1, 3) := dk_132 2 1 (dk_at dksX4_leaders_11 19 rfl rfl)
theorem dX4_leaders_283 : decode cX4_leaders 283 = .ok (.goto (-176), 3) := dk_167 255 80 (dk_at dksX4_leaders_12 0 rfl rfl)
theorem dX4_leaders_286 : decode cX4_leaders 286 = .ok (.iload_n 1, 1) := dk_27 (dk_at dksX4_leaders_12 3 rfl rfl)
theorem dX4_leaders_287 : decode cX4_leaders 287 = .ok (.ireturn, 1) := dk_172 (dk_at dksX4_leaders_12 4 rfl rfl)
abbrev cX4_isAhead : ByteArray := prog_17_method_47_code
def yX4_isAhead : MethodName := ⟨RX4, "isAhead", "(II)Z"⟩
def dkwX4_isAhead_2 : List UInt8 := [3, 27, 96, 46, 42, 180, 0, 7, 3, 28, 96, 46, 162, 0, 7, 4, 167, 0, 4, 3, 172]
abbrev dktX4_isAhead_2 : List UInt8 := dkwX4_isAhead_2 ++ []
def dkwX4_isAhead_1 : List UInt8 := [180, 0, 7, 16, 20, 27, 96, 46, 42, 180, 0, 7, 16, 20, 28, 96, 46, 160, 0, 26, 42, 180, 0, 7]
abbrev dktX4_isAhead_1 : List UInt8 := dkwX4_isAhead_1 ++ dktX4_isAhead_2
def dkwX4_isAhead_0 : List UInt8 := [42, 180, 0, 7, 16, 20, 27, 96, 46, 42, 180, 0, 7, 16, 20, 28, 96, 46, 163, 0, 43, 42]
abbrev dktX4_isAhead_0 : List UInt8 := dkwX4_isAhead_0 ++ dktX4_isAhead_1
theorem dksX4_isAhead_0 : cX4_isAhead.data.toList.drop 0 = dktX4_isAhead_0 := by decide +kernel
theorem dksX4_isAhead_1 : cX4_isAhead.data.toList.drop 22 = dktX4_isAhead_1 := dk_seg dksX4_isAhead_0 22 rfl rfl
theorem dksX4_isAhead_2 : cX4_isAhead.data.toList.drop 46 = dktX4_isAhead_2 := dk_seg dksX4_isAhead_1 24 rfl rfl
theorem dX4_isAhead_0 : decode cX4_isAhead 0 = .ok (.aload_n 0, 1) := dk_42 (dk_at dksX4_isAhead_0 0 rfl rfl)
theorem dX4_isAhead_1 : decode cX4_isAhead 1 = .ok (.getfield 7, 3) := dk_180 0 7 (dk_at dksX4_isAhead_0 1 rfl rfl)
theorem dX4_isAhead_4 : decode cX4_isAhead 4 = .ok (.bipush 20, 2) := dk_16 20 (dk_at dksX4_isAhead_0 4 rfl rfl)
theorem dX4_isAhead_6 : decode cX4_isAhead 6 = .ok (.iload_n 1, 1) := dk_27 (dk_at dksX4_isAhead_0 6 rfl rfl)
theorem dX4_isAhead_7 : decode cX4_isAhead 7 = .ok (.iadd, 1) := dk_96 (dk_at dksX4_isAhead_0 7 rfl rfl)
theorem dX4_isAhead_8 : decode cX4_isAhead 8 = .ok (.iaload, 1) := dk_46 (dk_at dksX4_isAhead_0 8 rfl rfl)
theorem dX4_isAhead_9 : decode cX4_isAhead 9 = .ok (.aload_n 0, 1) := dk_42 (dk_at dksX4_isAhead_0 9 rfl rfl)
theorem dX4_isAhead_10 : decode cX4_isAhead 10 = .ok (.getfield 7, 3) := dk_180 0 7 (dk_at dksX4_isAhead_0 10 rfl rfl)
theorem dX4_isAhead_13 : decode cX4_isAhead 13 = .ok (.bipush 20, 2) := dk_16 20 (dk_at dksX4_isAhead_0 13 rfl rfl)
theorem dX4_isAhead_15 : decode cX4_isAhead 15 = .ok (.iload_n 2, 1) := dk_28 (dk_at dksX4_isAhead_0 15 rfl rfl)
theorem dX4_isAhead_16 : decode cX4_isAhead 16 = .ok (.iadd, 1) := dk_96 (dk_at dksX4_isAhead_0 16 rfl rfl)
theorem dX4_isAhead_17 : decode cX4_isAhead 17 = .ok (.iaload, 1) := dk_46 (dk_at dksX4_isAhead_0 17 rfl rfl)
theorem dX4_isAhead_18 : decode cX4_isAhead 18 = .ok (.if_icmp .gt 43, 3) := dk_163 0 43 (dk_at dksX4_isAhead_0 18 rfl rfl)
theorem dX4_isAhead_21 : decode cX4_isAhead 21 = .ok (.aload_n 0, 1) := dk_42 (dk_at dksX4_isAhead_0 21 rfl rfl)
theorem dX4_isAhead_22 : decode cX4_isAhead 22 = .ok (.getfield 7, 3) := dk_180 0 7 (dk_at dksX4_isAhead_1 0 rfl rfl)
theorem dX4_isAhead_25 : decode cX4_isAhead 25 = .ok (.bipush 20, 2) := dk_16 20 (dk_at dksX4_isAhead_1 3 rfl rfl)
theorem dX4_isAhead_27 : decode cX4_isAhead 27 = .ok (.iload_n 1, 1) := dk_27 (dk_at dksX4_isAhead_1 5 rfl rfl)
theorem dX4_isAhead_28 : decode cX4_isAhead 28 = .ok (.iadd, 1) := dk_96 (dk_at dksX4_isAhead_1 6 rfl rfl)
theorem dX4_isAhead_29 : decode cX4_isAhead 29 = .ok (.iaload, 1) := dk_46 (dk_at dksX4_isAhead_1 7 rfl rfl)
theorem dX4_isAhead_30 : decode cX4_isAhead 30 = .ok (.aload_n 0, 1) := dk_42 (dk_at dksX4_isAhead_1 8 rfl rfl)
theorem dX4_isAhead_31 : decode cX4_isAhead 31 = .ok (.getfield 7, 3) := dk_180 0 7 (dk_at dksX4_isAhead_1 9 rfl rfl)
theorem dX4_isAhead_34 : decode cX4_isAhead 34 = .ok (.bipush 20, 2) := dk_16 20 (dk_at dksX4_isAhead_1 12 rfl rfl)
theorem dX4_isAhead_36 : decode cX4_isAhead 36 = .ok (.iload_n 2, 1) := dk_28 (dk_at dksX4_isAhead_1 14 rfl rfl)
theorem dX4_isAhead_37 : decode cX4_isAhead 37 = .ok (.iadd, 1) := dk_96 (dk_at dksX4_isAhead_1 15 rfl rfl)
theorem dX4_isAhead_38 : decode cX4_isAhead 38 = .ok (.iaload, 1) := dk_46 (dk_at dksX4_isAhead_1 16 rfl rfl)
theorem dX4_isAhead_39 : decode cX4_isAhead 39 = .ok (.if_icmp .ne 26, 3) := dk_160 0 26 (dk_at dksX4_isAhead_1 17 rfl rfl)
theorem dX4_isAhead_42 : decode cX4_isAhead 42 = .ok (.aload_n 0, 1) := dk_42 (dk_at dksX4_isAhead_1 20 rfl rfl)
theorem dX4_isAhead_43 : decode cX4_isAhead 43 = .ok (.getfield 7, 3) := dk_180 0 7 (dk_at dksX4_isAhead_1 21 rfl rfl)
theorem dX4_isAhead_46 : decode cX4_isAhead 46 = .ok (.iconst 0, 1) := dk_3 (dk_at dksX4_isAhead_2 0 rfl rfl)
theorem dX4_isAhead_47 : decode cX4_isAhead 47 = .ok (.iload_n 1, 1) := dk_27 (dk_at dksX4_isAhead_2 1 rfl rfl)
theorem dX4_isAhead_48 : decode cX4_isAhead 48 = .ok (.iadd, 1) := dk_96 (dk_at dksX4_isAhead_2 2 rfl rfl)
theorem dX4_isAhead_49 : decode cX4_isAhead 49 = .ok (.iaload, 1) := dk_46 (dk_at dksX4_isAhead_2 3 rfl rfl)
theorem dX4_isAhead_50 : decode cX4_isAhead 50 = .ok (.aload_n 0, 1) := dk_42 (dk_at dksX4_isAhead_2 4 rfl rfl)
theorem dX4_isAhead_51 : decode cX4_isAhead 51 = .ok (.getfield 7, 3) := dk_180 0 7 (dk_at dksX4_isAhead_2 5 rfl rfl)
theorem dX4_isAhead_54 : decode cX4_isAhead 54 = .ok (.iconst 0, 1) := dk_3 (dk_at dksX4_isAhead_2 8 rfl rfl)
theorem dX4_isAhead_55 : decode cX4_isAhead 55 = .ok (.iload_n 2, 1) := dk_28 (dk_at dksX4_isAhead_2 9 rfl rfl)
theorem dX4_isAhead_56 : decode cX4_isAhead 56 = .ok (.iadd, 1) := dk_96 (dk_at dksX4_isAhead_2 10 rfl rfl)
theorem dX4_isAhead_57 : decode cX4_isAhead 57 = .ok (.iaload, 1) := dk_46 (dk_at dksX4_isAhead_2 11 rfl rfl)
theorem dX4_isAhead_58 : decode cX4_isAhead 58 = .ok (.if_icmp .ge 7, 3) := dk_162 0 7 (dk_at dksX4_isAhead_2 12 rfl rfl)
theorem dX4_isAhead_61 : decode cX4_isAhead 61 = .ok (.iconst 1, 1) := dk_4 (dk_at dksX4_isAhead_2 15 rfl rfl)
theorem dX4_isAhead_62 : decode cX4_isAhead 62 = .ok (.goto 4, 3) := dk_167 0 4 (dk_at dksX4_isAhead_2 16 rfl rfl)
theorem dX4_isAhead_65 : decode cX4_isAhead 65 = .ok (.iconst 0, 1) := dk_3 (dk_at dksX4_isAhead_2 19 rfl rfl)
theorem dX4_isAhead_66 : decode cX4_isAhead 66 = .ok (.ireturn, 1) := dk_172 (dk_at dksX4_isAhead_2 20 rfl rfl)
abbrev cX4_leader : ByteArray := prog_17_method_49_code
def yX4_leader : MethodName := ⟨RX4, "leader", "(II)I"⟩
def dkwX4_leader_1 : List UInt8 := [162, 0, 16, 42, 180, 0, 33, 7, 27, 104, 28, 96, 46, 167, 0, 4, 2, 172]
abbrev dktX4_leader_1 : List UInt8 := dkwX4_leader_1 ++ []
def dkwX4_leader_0 : List UInt8 := [27, 155, 0, 15, 28, 133, 9, 20, 0, 185, 184, 0, 51, 154, 0, 6, 16, 254, 172, 27, 42, 180, 0, 182]
abbrev dktX4_leader_0 : List UInt8 := dkwX4_leader_0 ++ dktX4_leader_1
theorem dksX4_leader_0 : cX4_leader.data.toList.drop 0 = dktX4_leader_0 := by decide +kernel
theorem dksX4_leader_1 : cX4_leader.data.toList.drop 24 = dktX4_leader_1 := dk_seg dksX4_leader_0 24 rfl rfl
theorem dX4_leader_0 : decode cX4_leader 0 = .ok (.iload_n 1, 1) := dk_27 (dk_at dksX4_leader_0 0 rfl rfl)
theorem dX4_leader_1 : decode cX4_leader 1 = .ok (.ifCond .lt 15, 3) := dk_155 0 15 (dk_at dksX4_leader_0 1 rfl rfl)
theorem dX4_leader_4 : decode cX4_leader 4 = .ok (.iload_n 2, 1) := dk_28 (dk_at dksX4_leader_0 4 rfl rfl)
theorem dX4_leader_5 : decode cX4_leader 5 = .ok (.i2l, 1) := dk_133 (dk_at dksX4_leader_0 5 rfl rfl)
theorem dX4_leader_6 : decode cX4_leader 6 = .ok (.lconst 0, 1) := dk_9 (dk_at dksX4_leader_0 6 rfl rfl)
theorem dX4_leader_7 : decode cX4_leader 7 = .ok (.ldc2_w 185, 3) := dk_20 0 185 (dk_at dksX4_leader_0 7 rfl rfl)
theorem dX4_leader_10 : decode cX4_leader 10 = .ok (.invokestatic 51, 3) := dk_184 0 51 (dk_at dksX4_leader_0 10 rfl rfl)
theorem dX4_leader_13 : decode cX4_leader 13 = .ok (.ifCond .ne 6, 3) := dk_154 0 6 (dk_at dksX4_leader_0 13 rfl rfl)
theorem dX4_leader_16 : decode cX4_leader 16 = .ok (.bipush (-2), 2) := dk_16 254 (dk_at dksX4_leader_0 16 rfl rfl)
theorem dX4_leader_18 : decode cX4_leader 18 = .ok (.ireturn, 1) := dk_172 (dk_at dksX4_leader_0 18 rfl rfl)
theorem dX4_leader_19 : decode cX4_leader 19 = .ok (.iload_n 1, 1) := dk_27 (dk_at dksX4_leader_0 19 rfl rfl)
theorem dX4_leader_20 : decode cX4_leader 20 = .ok (.aload_n 0, 1) := dk_42 (dk_at dksX4_leader_0 20 rfl rfl)
theorem dX4_leader_21 : decode cX4_leader 21 = .ok (.getfield 182, 3) := dk_180 0 182 (dk_at dksX4_leader_0 21 rfl rfl)
theorem dX4_leader_24 : decode cX4_leader 24 = .ok (.if_icmp .ge 16, 3) := dk_162 0 16 (dk_at dksX4_leader_1 0 rfl rfl)
theorem dX4_leader_27 : decode cX4_leader 27 = .ok (.aload_n 0, 1) := dk_42 (dk_at dksX4_leader_1 3 rfl rfl)
theorem dX4_leader_28 : decode cX4_leader 28 = .ok (.getfield 33, 3) := dk_180 0 33 (dk_at dksX4_leader_1 4 rfl rfl)
theorem dX4_leader_31 : decode cX4_leader 31 = .ok (.iconst 4, 1) := dk_7 (dk_at dksX4_leader_1 7 rfl rfl)
theorem dX4_leader_32 : decode cX4_leader 32 = .ok (.iload_n 1, 1) := dk_27 (dk_at dksX4_leader_1 8 rfl rfl)
theorem dX4_leader_33 : decode cX4_leader 33 = .ok (.imul, 1) := dk_104 (dk_at dksX4_leader_1 9 rfl rfl)
theorem dX4_leader_34 : decode cX4_leader 34 = .ok (.iload_n 2, 1) := dk_28 (dk_at dksX4_leader_1 10 rfl rfl)
theorem dX4_leader_35 : decode cX4_leader 35 = .ok (.iadd, 1) := dk_96 (dk_at dksX4_leader_1 11 rfl rfl)
theorem dX4_leader_36 : decode cX4_leader 36 = .ok (.iaload, 1) := dk_46 (dk_at dksX4_leader_1 12 rfl rfl)
theorem dX4_leader_37 : decode cX4_leader 37 = .ok (.goto 4, 3) := dk_167 0 4 (dk_at dksX4_leader_1 13 rfl rfl)
theorem dX4_leader_40 : decode cX4_leader 40 = .ok (.iconst (-1), 1) := dk_2 (dk_at dksX4_leader_1 16 rfl rfl)
theorem dX4_leader_41 : decode cX4_leader 41 = .ok (.ireturn, 1) := dk_172 (dk_at dksX4_leader_1 17 rfl rfl)
abbrev cX4_type : ByteArray := prog_17_method_50_code
def yX4_type : MethodName := ⟨RX4, "type", "(I)I"⟩
def dkwX4_type_2 : List UInt8 := [180, 0, 189, 172]
abbrev dktX4_type_2 : List UInt8 := dkwX4_type_2 ++ []
def dkwX4_type_1 : List UInt8 := [16, 252, 172, 42, 180, 0, 39, 42, 180, 0, 189, 27, 79, 42, 89, 180, 0, 189, 4, 96, 181, 0, 189, 42]
abbrev dktX4_type_1 : List UInt8 := dkwX4_type_1 ++ dktX4_type_2
def dkwX4_type_0 : List UInt8 := [27, 133, 9, 20, 0, 187, 184, 0, 51, 154, 0, 6, 16, 254, 172, 42, 180, 0, 189, 16, 80, 160, 0, 6]
abbrev dktX4_type_0 : List UInt8 := dkwX4_type_0 ++ dktX4_type_1
theorem dksX4_type_0 : cX4_type.data.toList.drop 0 = dktX4_type_0 := by decide +kernel
theorem dksX4_type_1 : cX4_type.data.toList.drop 24 = dktX4_type_1 := dk_seg dksX4_type_0 24 rfl rfl
theorem dksX4_type_2 : cX4_type.data.toList.drop 48 = dktX4_type_2 := dk_seg dksX4_type_1 24 rfl rfl
theorem dX4_type_0 : decode cX4_type 0 = .ok (.iload_n 1, 1) := dk_27 (dk_at dksX4_type_0 0 rfl rfl)
theorem dX4_type_1 : decode cX4_type 1 = .ok (.i2l, 1) := dk_133 (dk_at dksX4_type_0 1 rfl rfl)
theorem dX4_type_2 : decode cX4_type 2 = .ok (.lconst 0, 1) := dk_9 (dk_at dksX4_type_0 2 rfl rfl)
theorem dX4_type_3 : decode cX4_type 3 = .ok (.ldc2_w 187, 3) := dk_20 0 187 (dk_at dksX4_type_0 3 rfl rfl)
theorem dX4_type_6 : decode cX4_type 6 = .ok (.invokestatic 51, 3) := dk_184 0 51 (dk_at dksX4_type_0 6 rfl rfl)
theorem dX4_type_9 : decode cX4_type 9 = .ok (.ifCond .ne 6, 3) := dk_154 0 6 (dk_at dksX4_type_0 9 rfl rfl)
theorem dX4_type_12 : decode cX4_type 12 = .ok (.bipush (-2), 2) := dk_16 254 (dk_at dksX4_type_0 12 rfl rfl)
theorem dX4_type_14 : decode cX4_type 14 = .ok (.ireturn, 1) := dk_172 (dk_at dksX4_type_0 14 rfl rfl)
theorem dX4_type_15 : decode cX4_type 15 = .ok (.aload_n 0, 1) := dk_42 (dk_at dksX4_type_0 15 rfl rfl)
theorem dX4_type_16 : decode cX4_type 16 = .ok (.getfield 189, 3) := dk_180 0 189 (dk_at dksX4_type_0 16 rfl rfl)
theorem dX4_type_19 : decode cX4_type 19 = .ok (.bipush 80, 2) := dk_16 80 (dk_at dksX4_type_0 19 rfl rfl)
theorem dX4_type_21 : decode cX4_type 21 = .ok (.if_icmp .ne 6, 3) := dk_160 0 6 (dk_at dksX4_type_0 21 rfl rfl)
theorem dX4_type_24 : decode cX4_type 24 = .ok (.bipush (-4), 2) := dk_16 252 (dk_at dksX4_type_1 0 rfl rfl)
theorem dX4_type_26 : decode cX4_type 26 = .ok (.ireturn, 1) := dk_172 (dk_at dksX4_type_1 2 rfl rfl)
theorem dX4_type_27 : decode cX4_type 27 = .ok (.aload_n 0, 1) := dk_42 (dk_at dksX4_type_1 3 rfl rfl)
theorem dX4_type_28 : decode cX4_type 28 = .ok (.getfield 39, 3) := dk_180 0 39 (dk_at dksX4_type_1 4 rfl rfl)
theorem dX4_type_31 : decode cX4_type 31 = .ok (.aload_n 0, 1) := dk_42 (dk_at dksX4_type_1 7 rfl rfl)
theorem dX4_type_32 : decode cX4_type 32 = .ok (.getfield 189, 3) := dk_180 0 189 (dk_at dksX4_type_1 8 rfl rfl)
theorem dX4_type_35 : decode cX4_type 35 = .ok (.iload_n 1, 1) := dk_27 (dk_at dksX4_type_1 11 rfl rfl)
theorem dX4_type_36 : decode cX4_type 36 = .ok (.iastore, 1) := dk_79 (dk_at dksX4_type_1 12 rfl rfl)
theorem dX4_type_37 : decode cX4_type 37 = .ok (.aload_n 0, 1) := dk_42 (dk_at dksX4_type_1 13 rfl rfl)
theorem dX4_type_38 : decode cX4_type 38 = .ok (.dup, 1) := dk_89 (dk_at dksX4_type_1 14 rfl rfl)
theorem dX4_type_39 : decode cX4_type 39 = .ok (.getfield 189, 3) := dk_180 0 189 (dk_at dksX4_type_1 15 rfl rfl)
theorem dX4_type_42 : decode cX4_type 42 = .ok (.iconst 1, 1) := dk_4 (dk_at dksX4_type_1 18 rfl rfl)
theorem dX4_type_43 : decode cX4_type 43 = .ok (.iadd, 1) := dk_96 (dk_at dksX4_type_1 19 rfl rfl)
theorem dX4_type_44 : decode cX4_type 44 = .ok (.putfield 189, 3) := dk_181 0 189 (dk_at dksX4_type_1 20 rfl rfl)
theorem dX4_type_47 : decode cX4_type 47 = .ok (.aload_n 0, 1) := dk_42 (dk_at dksX4_type_1 23 rfl rfl)
theorem dX4_type_48 : decode cX4_type 48 = .ok (.getfield 189, 3) := dk_180 0 189 (dk_at dksX4_type_2 0 rfl rfl)
theorem dX4_type_51 : decode cX4_type 51 = .ok (.ireturn, 1) := dk_172 (dk_at dksX4_type_2 3 rfl rfl)
abbrev cX4_clear : ByteArray := prog_17_method_51_code
def yX4_clear : MethodName := ⟨RX4, "clear", "()I"⟩
def dkwX4_clear_0 : List UInt8 := [42, 180, 0, 189, 60, 42, 3, 181, 0, 189, 27, 172]
abbrev dktX4_clear_0 : List UInt8 := dkwX4_clear_0 ++ []
theorem dksX4_clear_0 : cX4_clear.data.toList.drop 0 = dktX4_clear_0 := by decide +kernel
theorem dX4_clear_0 : decode cX4_clear 0 = .ok (.aload_n 0, 1) := dk_42 (dk_at dksX4_clear_0 0 rfl rfl)
theorem dX4_clear_1 : decode cX4_clear 1 = .ok (.getfield 189, 3) := dk_180 0 189 (dk_at dksX4_clear_0 1 rfl rfl)
theorem dX4_clear_4 : decode cX4_clear 4 = .ok (.istore_n 1, 1) := dk_60 (dk_at dksX4_clear_0 4 rfl rfl)
theorem dX4_clear_5 : decode cX4_clear 5 = .ok (.aload_n 0, 1) := dk_42 (dk_at dksX4_clear_0 5 rfl rfl)
theorem dX4_clear_6 : decode cX4_clear 6 = .ok (.iconst 0, 1) := dk_3 (dk_at dksX4_clear_0 6 rfl rfl)
theorem dX4_clear_7 : decode cX4_clear 7 = .ok (.putfield 189, 3) := dk_181 0 189 (dk_at dksX4_clear_0 7 rfl rfl)
theorem dX4_clear_10 : decode cX4_clear 10 = .ok (.iload_n 1, 1) := dk_27 (dk_at dksX4_clear_0 10 rfl rfl)
theorem dX4_clear_11 : decode cX4_clear 11 = .ok (.ireturn, 1) := dk_172 (dk_at dksX4_clear_0 11 rfl rfl)
abbrev cX4_run : ByteArray := prog_17_method_61_code
def yX4_run : MethodName := ⟨RX4, "run", "()I"⟩
def dkwX4_run_7 : List UInt8 := [172, 42, 182, 0, 252, 172]
abbrev dktX4_run_7 : List UInt8 := dkwX4_run_7 ++ []
def dkwX4_run_6 : List UInt8 := [180, 0, 45, 3, 46, 42, 180, 0, 45, 4, 46, 182, 0, 246, 172, 42, 182, 0, 132, 172, 42, 182, 0, 249]
abbrev dktX4_run_6 : List UInt8 := dkwX4_run_6 ++ dktX4_run_7
def dkwX4_run_5 : List UInt8 := [180, 0, 45, 4, 46, 42, 180, 0, 45, 5, 46, 42, 180, 0, 45, 6, 46, 182, 0, 242, 172, 42, 42]
abbrev dktX4_run_5 : List UInt8 := dkwX4_run_5 ++ dktX4_run_6
def dkwX4_run_4 : List UInt8 := [46, 42, 180, 0, 45, 7, 46, 17, 0, 255, 182, 0, 238, 172, 42, 42, 180, 0, 45, 3, 46, 42]
abbrev dktX4_run_4 : List UInt8 := dkwX4_run_4 ++ dktX4_run_5
def dkwX4_run_3 : List UInt8 := [42, 42, 180, 0, 45, 3, 46, 42, 180, 0, 45, 4, 46, 42, 180, 0, 45, 5, 46, 42, 180, 0, 45, 6]
abbrev dktX4_run_3 : List UInt8 := dkwX4_run_3 ++ dktX4_run_4
def dkwX4_run_2 : List UInt8 := [170, 0, 0, 0, 0, 0, 0, 130, 0, 0, 0, 0, 0, 0, 0, 4, 0, 0, 0, 36, 0, 0, 0, 74, 0, 0, 0, 103, 0, 0, 0, 120, 0, 0, 0, 125]
abbrev dktX4_run_2 : List UInt8 := dkwX4_run_2 ++ dktX4_run_3
def dkwX4_run_1 : List UInt8 := [181, 0, 189, 27]
abbrev dktX4_run_1 : List UInt8 := dkwX4_run_1 ++ dktX4_run_2
def dkwX4_run_0 : List UInt8 := [42, 182, 0, 235, 60, 42, 180, 0, 198, 2, 159, 0, 12, 17, 248, 48, 42, 180, 0, 198, 100, 172, 42, 3]
abbrev dktX4_run_0 : List UInt8 := dkwX4_run_0 ++ dktX4_run_1
theorem dksX4_run_0 : cX4_run.data.toList.drop 0 = dktX4_run_0 := by decide +kernel
theorem dksX4_run_1 : cX4_run.data.toList.drop 24 = dktX4_run_1 := dk_seg dksX4_run_0 24 rfl rfl
theorem dksX4_run_2 : cX4_run.data.toList.drop 28 = dktX4_run_2 := dk_seg dksX4_run_1 4 rfl rfl
theorem dksX4_run_3 : cX4_run.data.toList.drop 64 = dktX4_run_3 := dk_seg dksX4_run_2 36 rfl rfl
theorem dksX4_run_4 : cX4_run.data.toList.drop 88 = dktX4_run_4 := dk_seg dksX4_run_3 24 rfl rfl
theorem dksX4_run_5 : cX4_run.data.toList.drop 110 = dktX4_run_5 := dk_seg dksX4_run_4 22 rfl rfl
theorem dksX4_run_6 : cX4_run.data.toList.drop 133 = dktX4_run_6 := dk_seg dksX4_run_5 23 rfl rfl
theorem dksX4_run_7 : cX4_run.data.toList.drop 157 = dktX4_run_7 := dk_seg dksX4_run_6 24 rfl rfl
theorem dX4_run_0 : decode cX4_run 0 = .ok (.aload_n 0, 1) := dk_42 (dk_at dksX4_run_0 0 rfl rfl)
theorem dX4_run_1 : decode cX4_run 1 = .ok (.invokevirtual 235, 3) := dk_182 0 235 (dk_at dksX4_run_0 1 rfl rfl)
theorem dX4_run_4 : decode cX4_run 4 = .ok (.istore_n 1, 1) := dk_60 (dk_at dksX4_run_0 4 rfl rfl)
theorem dX4_run_5 : decode cX4_run 5 = .ok (.aload_n 0, 1) := dk_42 (dk_at dksX4_run_0 5 rfl rfl)
theorem dX4_run_6 : decode cX4_run 6 = .ok (.getfield 198, 3) := dk_180 0 198 (dk_at dksX4_run_0 6 rfl rfl)
theorem dX4_run_9 : decode cX4_run 9 = .ok (.iconst (-1), 1) := dk_2 (dk_at dksX4_run_0 9 rfl rfl)
theorem dX4_run_10 : decode cX4_run 10 = .ok (.if_icmp .eq 12, 3) := dk_159 0 12 (dk_at dksX4_run_0 10 rfl rfl)
theorem dX4_run_13 : decode cX4_run 13 = .ok (.sipush (-2000), 3) := dk_17 248 48 (dk_at dksX4_run_0 13 rfl rfl)
theorem dX4_run_16 : decode cX4_run 16 = .ok (.aload_n 0, 1) := dk_42 (dk_at dksX4_run_0 16 rfl rfl)
theorem dX4_run_17 : decode cX4_run 17 = .ok (.getfield 198, 3) := dk_180 0 198 (dk_at dksX4_run_0 17 rfl rfl)
theorem dX4_run_20 : decode cX4_run 20 = .ok (.isub, 1) := dk_100 (dk_at dksX4_run_0 20 rfl rfl)
theorem dX4_run_21 : decode cX4_run 21 = .ok (.ireturn, 1) := dk_172 (dk_at dksX4_run_0 21 rfl rfl)
theorem dX4_run_22 : decode cX4_run 22 = .ok (.aload_n 0, 1) := dk_42 (dk_at dksX4_run_0 22 rfl rfl)
theorem dX4_run_23 : decode cX4_run 23 = .ok (.iconst 0, 1) := dk_3 (dk_at dksX4_run_0 23 rfl rfl)
theorem dX4_run_24 : decode cX4_run 24 = .ok (.putfield 189, 3) := dk_181 0 189 (dk_at dksX4_run_1 0 rfl rfl)
theorem dX4_run_27 : decode cX4_run 27 = .ok (.iload_n 1, 1) := dk_27 (dk_at dksX4_run_1 3 rfl rfl)
theorem dX4_run_28 : decode cX4_run 28 = .ok (.tableswitch 130 0 4 #[36, 74, 103, 120, 125], 36) := by decide +kernel
theorem dX4_run_64 : decode cX4_run 64 = .ok (.aload_n 0, 1) := dk_42 (dk_at dksX4_run_3 0 rfl rfl)
theorem dX4_run_65 : decode cX4_run 65 = .ok (.aload_n 0, 1) := dk_42 (dk_at dksX4_run_3 1 rfl rfl)
theorem dX4_run_66 : decode cX4_run 66 = .ok (.getfield 45, 3) := dk_180 0 45 (dk_at dksX4_run_3 2 rfl rfl)
theorem dX4_run_69 : decode cX4_run 69 = .ok (.iconst 0, 1) := dk_3 (dk_at dksX4_run_3 5 rfl rfl)
theorem dX4_run_70 : decode cX4_run 70 = .ok (.iaload, 1) := dk_46 (dk_at dksX4_run_3 6 rfl rfl)
theorem dX4_run_71 : decode cX4_run 71 = .ok (.aload_n 0, 1) := dk_42 (dk_at dksX4_run_3 7 rfl rfl)
theorem dX4_run_72 : decode cX4_run 72 = .ok (.getfield 45, 3) := dk_180 0 45 (dk_at dksX4_run_3 8 rfl rfl)
theorem dX4_run_75 : decode cX4_run 75 = .ok (.iconst 1, 1) := dk_4 (dk_at dksX4_run_3 11 rfl rfl)
theorem dX4_run_76 : decode cX4_run 76 = .ok (.iaload, 1) := dk_46 (dk_at dksX4_run_3 12 rfl rfl)
theorem dX4_run_77 : decode cX4_run 77 = .ok (.aload_n 0, 1) := dk_42 (dk_at dksX4_run_3 13 rfl rfl)
theorem dX4_run_78 : decode cX4_run 78 = .ok (.getfield 45, 3) := dk_180 0 45 (dk_at dksX4_run_3 14 rfl rfl)
theorem dX4_run_81 : decode cX4_run 81 = .ok (.iconst 2, 1) := dk_5 (dk_at dksX4_run_3 17 rfl rfl)
theorem dX4_run_82 : decode cX4_run 82 = .ok (.iaload, 1) := dk_46 (dk_at dksX4_run_3 18 rfl rfl)
theorem dX4_run_83 : decode cX4_run 83 = .ok (.aload_n 0, 1) := dk_42 (dk_at dksX4_run_3 19 rfl rfl)
theorem dX4_run_84 : decode cX4_run 84 = .ok (.getfield 45, 3) := dk_180 0 45 (dk_at dksX4_run_3 20 rfl rfl)
theorem dX4_run_87 : decode cX4_run 87 = .ok (.iconst 3, 1) := dk_6 (dk_at dksX4_run_3 23 rfl rfl)
theorem dX4_run_88 : decode cX4_run 88 = .ok (.iaload, 1) := dk_46 (dk_at dksX4_run_4 0 rfl rfl)
theorem dX4_run_89 : decode cX4_run 89 = .ok (.aload_n 0, 1) := dk_42 (dk_at dksX4_run_4 1 rfl rfl)
theorem dX4_run_90 : decode cX4_run 90 = .ok (.getfield 45, 3) := dk_180 0 45 (dk_at dksX4_run_4 2 rfl rfl)
theorem dX4_run_93 : decode cX4_run 93 = .ok (.iconst 4, 1) := dk_7 (dk_at dksX4_run_4 5 rfl rfl)
theorem dX4_run_94 : decode cX4_run 94 = .ok (.iaload, 1) := dk_46 (dk_at dksX4_run_4 6 rfl rfl)
theorem dX4_run_95 : decode cX4_run 95 = .ok (.sipush 255, 3) := dk_17 0 255 (dk_at dksX4_run_4 7 rfl rfl)
theorem dX4_run_98 : decode cX4_run 98 = .ok (.invokevirtual 238, 3) := dk_182 0 238 (dk_at dksX4_run_4 10 rfl rfl)
theorem dX4_run_101 : decode cX4_run 101 = .ok (.ireturn, 1) := dk_172 (dk_at dksX4_run_4 13 rfl rfl)
theorem dX4_run_102 : decode cX4_run 102 = .ok (.aload_n 0, 1) := dk_42 (dk_at dksX4_run_4 14 rfl rfl)
theorem dX4_run_103 : decode cX4_run 103 = .ok (.aload_n 0, 1) := dk_42 (dk_at dksX4_run_4 15 rfl rfl)
theorem dX4_run_104 : decode cX4_run 104 = .ok (.getfield 45, 3) := dk_180 0 45 (dk_at dksX4_run_4 16 rfl rfl)
theorem dX4_run_107 : decode cX4_run 107 = .ok (.iconst 0, 1) := dk_3 (dk_at dksX4_run_4 19 rfl rfl)
theorem dX4_run_108 : decode cX4_run 108 = .ok (.iaload, 1) := dk_46 (dk_at dksX4_run_4 20 rfl rfl)
theorem dX4_run_109 : decode cX4_run 109 = .ok (.aload_n 0, 1) := dk_42 (dk_at dksX4_run_4 21 rfl rfl)
theorem dX4_run_110 : decode cX4_run 110 = .ok (.getfield 45, 3) := dk_180 0 45 (dk_at dksX4_run_5 0 rfl rfl)
theorem dX4_run_113 : decode cX4_run 113 = .ok (.iconst 1, 1) := dk_4 (dk_at dksX4_run_5 3 rfl rfl)
theorem dX4_run_114 : decode cX4_run 114 = .ok (.iaload, 1) := dk_46 (dk_at dksX4_run_5 4 rfl rfl)
theorem dX4_run_115 : decode cX4_run 115 = .ok (.aload_n 0, 1) := dk_42 (dk_at dksX4_run_5 5 rfl rfl)
theorem dX4_run_116 : decode cX4_run 116 = .ok (.getfield 45, 3) := dk_180 0 45 (dk_at dksX4_run_5 6 rfl rfl)
theorem dX4_run_119 : decode cX4_run 119 = .ok (.iconst 2, 1) := dk_5 (dk_at dksX4_run_5 9 rfl rfl)
theorem dX4_run_120 : decode cX4_run 120 = .ok (.iaload, 1) := dk_46 (dk_at dksX4_run_5 10 rfl rfl)
theorem dX4_run_121 : decode cX4_run 121 = .ok (.aload_n 0, 1) := dk_42 (dk_at dksX4_run_5 11 rfl rfl)
theorem dX4_run_122 : decode cX4_run 122 = .ok (.getfield 45, 3) := dk_180 0 45 (dk_at dksX4_run_5 12 rfl rfl)
theorem dX4_run_125 : decode cX4_run 125 = .ok (.iconst 3, 1) := dk_6 (dk_at dksX4_run_5 15 rfl rfl)
theorem dX4_run_126 : decode cX4_run 126 = .ok (.iaload, 1) := dk_46 (dk_at dksX4_run_5 16 rfl rfl)
theorem dX4_run_127 : decode cX4_run 127 = .ok (.invokevirtual 242, 3) := dk_182 0 242 (dk_at dksX4_run_5 17 rfl rfl)
theorem dX4_run_130 : decode cX4_run 130 = .ok (.ireturn, 1) := dk_172 (dk_at dksX4_run_5 20 rfl rfl)
theorem dX4_run_131 : decode cX4_run 131 = .ok (.aload_n 0, 1) := dk_42 (dk_at dksX4_run_5 21 rfl rfl)
theorem dX4_run_132 : decode cX4_run 132 = .ok (.aload_n 0, 1) := dk_42 (dk_at dksX4_run_5 22 rfl rfl)
theorem dX4_run_133 : decode cX4_run 133 = .ok (.getfield 45, 3) := dk_180 0 45 (dk_at dksX4_run_6 0 rfl rfl)
theorem dX4_run_136 : decode cX4_run 136 = .ok (.iconst 0, 1) := dk_3 (dk_at dksX4_run_6 3 rfl rfl)
theorem dX4_run_137 : decode cX4_run 137 = .ok (.iaload, 1) := dk_46 (dk_at dksX4_run_6 4 rfl rfl)
theorem dX4_run_138 : decode cX4_run 138 = .ok (.aload_n 0, 1) := dk_42 (dk_at dksX4_run_6 5 rfl rfl)
theorem dX4_run_139 : decode cX4_run 139 = .ok (.getfield 45, 3) := dk_180 0 45 (dk_at dksX4_run_6 6 rfl rfl)
theorem dX4_run_142 : decode cX4_run 142 = .ok (.iconst 1, 1) := dk_4 (dk_at dksX4_run_6 9 rfl rfl)
theorem dX4_run_143 : decode cX4_run 143 = .ok (.iaload, 1) := dk_46 (dk_at dksX4_run_6 10 rfl rfl)
theorem dX4_run_144 : decode cX4_run 144 = .ok (.invokevirtual 246, 3) := dk_182 0 246 (dk_at dksX4_run_6 11 rfl rfl)
theorem dX4_run_147 : decode cX4_run 147 = .ok (.ireturn, 1) := dk_172 (dk_at dksX4_run_6 14 rfl rfl)
theorem dX4_run_148 : decode cX4_run 148 = .ok (.aload_n 0, 1) := dk_42 (dk_at dksX4_run_6 15 rfl rfl)
theorem dX4_run_149 : decode cX4_run 149 = .ok (.invokevirtual 132, 3) := dk_182 0 132 (dk_at dksX4_run_6 16 rfl rfl)
theorem dX4_run_152 : decode cX4_run 152 = .ok (.ireturn, 1) := dk_172 (dk_at dksX4_run_6 19 rfl rfl)
theorem dX4_run_153 : decode cX4_run 153 = .ok (.aload_n 0, 1) := dk_42 (dk_at dksX4_run_6 20 rfl rfl)
theorem dX4_run_154 : decode cX4_run 154 = .ok (.invokevirtual 249, 3) := dk_182 0 249 (dk_at dksX4_run_6 21 rfl rfl)
theorem dX4_run_157 : decode cX4_run 157 = .ok (.ireturn, 1) := dk_172 (dk_at dksX4_run_7 0 rfl rfl)
theorem dX4_run_158 : decode cX4_run 158 = .ok (.aload_n 0, 1) := dk_42 (dk_at dksX4_run_7 1 rfl rfl)
theorem dX4_run_159 : decode cX4_run 159 = .ok (.invokevirtual 252, 3) := dk_182 0 252 (dk_at dksX4_run_7 2 rfl rfl)
theorem dX4_run_162 : decode cX4_run 162 = .ok (.ireturn, 1) := dk_172 (dk_at dksX4_run_7 5 rfl rfl)
abbrev cX4_reads : ByteArray := prog_17_method_60_code
def yX4_reads : MethodName := ⟨RX4, "reads", "()I"⟩
def dkwX4_reads_6 : List UInt8 := [162, 0, 11, 42, 42, 180, 0, 192, 182, 0, 216, 28, 172]
abbrev dktX4_reads_6 : List UInt8 := dkwX4_reads_6 ++ []
def dkwX4_reads_5 : List UInt8 := [180, 0, 45, 21, 4, 42, 182, 0, 232, 79, 132, 4, 1, 167, 255, 223, 42, 180, 0, 192, 42, 180, 0, 189]
abbrev dktX4_reads_5 : List UInt8 := dkwX4_reads_5 ++ dktX4_reads_6
def dkwX4_reads_4 : List UInt8 := [3, 54, 4, 21, 4, 5, 162, 0, 33, 28, 5, 160, 0, 28, 42, 180, 0, 198, 2, 160, 0, 20, 42]
abbrev dktX4_reads_4 : List UInt8 := dkwX4_reads_4 ++ dktX4_reads_5
def dkwX4_reads_3 : List UInt8 := [180, 0, 198, 2, 160, 0, 20, 42, 180, 0, 45, 21, 4, 42, 182, 0, 223, 79, 132, 4, 1, 167, 255, 228]
abbrev dktX4_reads_3 : List UInt8 := dkwX4_reads_3 ++ dktX4_reads_4
def dkwX4_reads_2 : List UInt8 := [167, 0, 13, 28, 4, 160, 0, 7, 7, 167, 0, 4, 3, 62, 3, 54, 4, 21, 4, 29, 162, 0, 28, 42]
abbrev dktX4_reads_2 : List UInt8 := dkwX4_reads_2 ++ dktX4_reads_3
def dkwX4_reads_1 : List UInt8 := [182, 0, 229, 61, 28, 2, 160, 0, 8, 42, 27, 182, 0, 216, 42, 182, 0, 220, 28, 154, 0, 7, 8]
abbrev dktX4_reads_1 : List UInt8 := dkwX4_reads_1 ++ dktX4_reads_2
def dkwX4_reads_0 : List UInt8 := [42, 3, 181, 0, 192, 42, 2, 181, 0, 198, 42, 182, 0, 220, 42, 180, 0, 192, 60, 42, 182, 0, 226, 42]
abbrev dktX4_reads_0 : List UInt8 := dkwX4_reads_0 ++ dktX4_reads_1
theorem dksX4_reads_0 : cX4_reads.data.toList.drop 0 = dktX4_reads_0 := by decide +kernel
theorem dksX4_reads_1 : cX4_reads.data.toList.drop 24 = dktX4_reads_1 := dk_seg dksX4_reads_0 24 rfl rfl
theorem dksX4_reads_2 : cX4_reads.data.toList.drop 47 = dktX4_reads_2 := dk_seg dksX4_reads_1 23 rfl rfl
theorem dksX4_reads_3 : cX4_reads.data.toList.drop 71 = dktX4_reads_3 := dk_seg dksX4_reads_2 24 rfl rfl
theorem dksX4_reads_4 : cX4_reads.data.toList.drop 95 = dktX4_reads_4 := dk_seg dksX4_reads_3 24 rfl rfl
theorem dksX4_reads_5 : cX4_reads.data.toList.drop 118 = dktX4_reads_5 := dk_seg dksX4_reads_4 23 rfl rfl
theorem dksX4_reads_6 : cX4_reads.data.toList.drop 142 = dktX4_reads_6 := dk_seg dksX4_reads_5 24 rfl rfl
theorem dX4_reads_0 : decode cX4_reads 0 = .ok (.aload_n 0, 1) := dk_42 (dk_at dksX4_reads_0 0 rfl rfl)
theorem dX4_reads_1 : decode cX4_reads 1 = .ok (.iconst 0, 1) := dk_3 (dk_at dksX4_reads_0 1 rfl rfl)
theorem dX4_reads_2 : decode cX4_reads 2 = .ok (.putfield 192, 3) := dk_181 0 192 (dk_at dksX4_reads_0 2 rfl rfl)
theorem dX4_reads_5 : decode cX4_reads 5 = .ok (.aload_n 0, 1) := dk_42 (dk_at dksX4_reads_0 5 rfl rfl)
theorem dX4_reads_6 : decode cX4_reads 6 = .ok (.iconst (-1), 1) := dk_2 (dk_at dksX4_reads_0 6 rfl rfl)
theorem dX4_reads_7 : decode cX4_reads 7 = .ok (.putfield 198, 3) := dk_181 0 198 (dk_at dksX4_reads_0 7 rfl rfl)
theorem dX4_reads_10 : decode cX4_reads 10 = .ok (.aload_n 0, 1) := dk_42 (dk_at dksX4_reads_0 10 rfl rfl)
theorem dX4_reads_11 : decode cX4_reads 11 = .ok (.invokevirtual 220, 3) := dk_182 0 220 (dk_at dksX4_reads_0 11 rfl rfl)
theorem dX4_reads_14 : decode cX4_reads 14 = .ok (.aload_n 0, 1) := dk_42 (dk_at dksX4_reads_0 14 rfl rfl)
theorem dX4_reads_15 : decode cX4_reads 15 = .ok (.getfield 192, 3) := dk_180 0 192 (dk_at dksX4_reads_0 15 rfl rfl)
theorem dX4_reads_18 : decode cX4_reads 18 = .ok (.istore_n 1, 1) := dk_60 (dk_at dksX4_reads_0 18 rfl rfl)
theorem dX4_reads_19 : decode cX4_reads 19 = .ok (.aload_n 0, 1) := dk_42 (dk_at dksX4_reads_0 19 rfl rfl)
theorem dX4_reads_20 : decode cX4_reads 20 = .ok (.invokevirtual 226, 3) := dk_182 0 226 (dk_at dksX4_reads_0 20 rfl rfl)
theorem dX4_reads_23 : decode cX4_reads 23 = .ok (.aload_n 0, 1) := dk_42 (dk_at dksX4_reads_0 23 rfl rfl)
theorem dX4_reads_24 : decode cX4_reads 24 = .ok (.invokevirtual 229, 3) := dk_182 0 229 (dk_at dksX4_reads_1 0 rfl rfl)
theorem dX4_reads_27 : decode cX4_reads 27 = .ok (.istore_n 2, 1) := dk_61 (dk_at dksX4_reads_1 3 rfl rfl)
theorem dX4_reads_28 : decode cX4_reads 28 = .ok (.iload_n 2, 1) := dk_28 (dk_at dksX4_reads_1 4 rfl rfl)
theorem dX4_reads_29 : decode cX4_reads 29 = .ok (.iconst (-1), 1) := dk_2 (dk_at dksX4_reads_1 5 rfl rfl)
theorem dX4_reads_30 : decode cX4_reads 30 = .ok (.if_icmp .ne 8, 3) := dk_160 0 8 (dk_at dksX4_reads_1 6 rfl rfl)
theorem dX4_reads_33 : decode cX4_reads 33 = .ok (.aload_n 0, 1) := dk_42 (dk_at dksX4_reads_1 9 rfl rfl)
theorem dX4_reads_34 : decode cX4_reads 34 = .ok (.iload_n 1, 1) := dk_27 (dk_at dksX4_reads_1 10 rfl rfl)
theorem dX4_reads_35 : decode cX4_reads 35 = .ok (.invokevirtual 216, 3) := dk_182 0 216 (dk_at dksX4_reads_1 11 rfl rfl)
theorem dX4_reads_38 : decode cX4_reads 38 = .ok (.aload_n 0, 1) := dk_42 (dk_at dksX4_reads_1 14 rfl rfl)
theorem dX4_reads_39 : decode cX4_reads 39 = .ok (.invokevirtual 220, 3) := dk_182 0 220 (dk_at dksX4_reads_1 15 rfl rfl)
theorem dX4_reads_42 : decode cX4_reads 42 = .ok (.iload_n 2, 1) := dk_28 (dk_at dksX4_reads_1 18 rfl rfl)
theorem dX4_reads_43 : decode cX4_reads 43 = .ok (.ifCond .ne 7, 3) := dk_154 0 7 (dk_at dksX4_reads_1 19 rfl rfl)
theorem dX4_reads_46 : decode cX4_reads 46 = .ok (.iconst 5, 1) := dk_8 (dk_at dksX4_reads_1 22 rfl rfl)
theorem dX4_reads_47 : decode cX4_reads 47 = .ok (.goto 13, 3) := dk_167 0 13 (dk_at dksX4_reads_2 0 rfl rfl)
theorem dX4_reads_50 : decode cX4_reads 50 = .ok (.iload_n 2, 1) := dk_28 (dk_at dksX4_reads_2 3 rfl rfl)
theorem dX4_reads_51 : decode cX4_reads 51 = .ok (.iconst 1, 1) := dk_4 (dk_at dksX4_reads_2 4 rfl rfl)
theorem dX4_reads_52 : decode cX4_reads 52 = .ok (.if_icmp .ne 7, 3) := dk_160 0 7 (dk_at dksX4_reads_2 5 rfl rfl)
theorem dX4_reads_55 : decode cX4_reads 55 = .ok (.iconst 4, 1) := dk_7 (dk_at dksX4_reads_2 8 rfl rfl)
theorem dX4_reads_56 : decode cX4_reads 56 = .ok (.goto 4, 3) := dk_167 0 4 (dk_at dksX4_reads_2 9 rfl rfl)
theorem dX4_reads_59 : decode cX4_reads 59 = .ok (.iconst 0, 1) := dk_3 (dk_at dksX4_reads_2 12 rfl rfl)
theorem dX4_reads_60 : decode cX4_reads 60 = .ok (.istore_n 3, 1) := dk_62 (dk_at dksX4_reads_2 13 rfl rfl)
theorem dX4_reads_61 : decode cX4_reads 61 = .ok (.iconst 0, 1) := dk_3 (dk_at dksX4_reads_2 14 rfl rfl)
theorem dX4_reads_62 : decode cX4_reads 62 = .ok (.istore 4, 2) := dk_54 4 (dk_at dksX4_reads_2 15 rfl rfl)
theorem dX4_reads_64 : decode cX4_reads 64 = .ok (.iload 4, 2) := dk_21 4 (dk_at dksX4_reads_2 17 rfl rfl)
theorem dX4_reads_66 : decode cX4_reads 66 = .ok (.iload_n 3, 1) := dk_29 (dk_at dksX4_reads_2 19 rfl rfl)
theorem dX4_reads_67 : decode cX4_reads 67 = .ok (.if_icmp .ge 28, 3) := dk_162 0 28 (dk_at dksX4_reads_2 20 rfl rfl)
theorem dX4_reads_70 : decode cX4_reads 70 = .ok (.aload_n 0, 1) := dk_42 (dk_at dksX4_reads_2 23 rfl rfl)
theorem dX4_reads_71 : decode cX4_reads 71 = .ok (.getfield 198, 3) := dk_180 0 198 (dk_at dksX4_reads_3 0 rfl rfl)
theorem dX4_reads_74 : decode cX4_reads 74 = .ok (.iconst (-1), 1) := dk_2 (dk_at dksX4_reads_3 3 rfl rfl)
theorem dX4_reads_75 : decode cX4_reads 75 = .ok (.if_icmp .ne 20, 3) := dk_160 0 20 (dk_at dksX4_reads_3 4 rfl rfl)
theorem dX4_reads_78 : decode cX4_reads 78 = .ok (.aload_n 0, 1) := dk_42 (dk_at dksX4_reads_3 7 rfl rfl)
theorem dX4_reads_79 : decode cX4_reads 79 = .ok (.getfield 45, 3) := dk_180 0 45 (dk_at dksX4_reads_3 8 rfl rfl)
theorem dX4_reads_82 : decode cX4_reads 82 = .ok (.iload 4, 2) := dk_21 4 (dk_at dksX4_reads_3 11 rfl rfl)
theorem dX4_reads_84 : decode cX4_reads 84 = .ok (.aload_n 0, 1) := dk_42 (dk_at dksX4_reads_3 13 rfl rfl)
theorem dX4_reads_85 : decode cX4_reads 85 = .ok (.invokevirtual 223, 3) := dk_182 0 223 (dk_at dksX4_reads_3 14 rfl rfl)
theorem dX4_reads_88 : decode cX4_reads 88 = .ok (.iastore, 1) := dk_79 (dk_at dksX4_reads_3 17 rfl rfl)
theorem dX4_reads_89 : decode cX4_reads 89 = .ok (.iinc 4 1, 3) := dk_132 4 1 (dk_at dksX4_reads_3 18 rfl rfl)
theorem dX4_reads_92 : decode cX4_reads 92 = .ok (.goto (-28), 3) := dk_167 255 228 (dk_at dksX4_reads_3 21 rfl rfl)
theorem dX4_reads_95 : decode cX4_reads 95 = .ok (.iconst 0, 1) := dk_3 (dk_at dksX4_reads_4 0 rfl rfl)
theorem dX4_reads_96 : decode cX4_reads 96 = .ok (.istore 4, 2) := dk_54 4 (dk_at dksX4_reads_4 1 rfl rfl)
theorem dX4_reads_98 : decode cX4_reads 98 = .ok (.iload 4, 2) := dk_21 4 (dk_at dksX4_reads_4 3 rfl rfl)
theorem dX4_reads_100 : decode cX4_reads 100 = .ok (.iconst 2, 1) := dk_5 (dk_at dksX4_reads_4 5 rfl rfl)
theorem dX4_reads_101 : decode cX4_reads 101 = .ok (.if_icmp .ge 33, 3) := dk_162 0 33 (dk_at dksX4_reads_4 6 rfl rfl)
theorem dX4_reads_104 : decode cX4_reads 104 = .ok (.iload_n 2, 1) := dk_28 (dk_at dksX4_reads_4 9 rfl rfl)
theorem dX4_reads_105 : decode cX4_reads 105 = .ok (.iconst 2, 1) := dk_5 (dk_at dksX4_reads_4 10 rfl rfl)
theorem dX4_reads_106 : decode cX4_reads 106 = .ok (.if_icmp .ne 28, 3) := dk_160 0 28 (dk_at dksX4_reads_4 11 rfl rfl)
theorem dX4_reads_109 : decode cX4_reads 109 = .ok (.aload_n 0, 1) := dk_42 (dk_at dksX4_reads_4 14 rfl rfl)
theorem dX4_reads_110 : decode cX4_reads 110 = .ok (.getfield 198, 3) := dk_180 0 198 (dk_at dksX4_reads_4 15 rfl rfl)
theorem dX4_reads_113 : decode cX4_reads 113 = .ok (.iconst (-1), 1) := dk_2 (dk_at dksX4_reads_4 18 rfl rfl)
theorem dX4_reads_114 : decode cX4_reads 114 = .ok (.if_icmp .ne 20, 3) := dk_160 0 20 (dk_at dksX4_reads_4 19 rfl rfl)
theorem dX4_reads_117 : decode cX4_reads 117 = .ok (.aload_n 0, 1) := dk_42 (dk_at dksX4_reads_4 22 rfl rfl)
theorem dX4_reads_118 : decode cX4_reads 118 = .ok (.getfield 45, 3) := dk_180 0 45 (dk_at dksX4_reads_5 0 rfl rfl)
theorem dX4_reads_121 : decode cX4_reads 121 = .ok (.iload 4, 2) := dk_21 4 (dk_at dksX4_reads_5 3 rfl rfl)
theorem dX4_reads_123 : decode cX4_reads 123 = .ok (.aload_n 0, 1) := dk_42 (dk_at dksX4_reads_5 5 rfl rfl)
theorem dX4_reads_124 : decode cX4_reads 124 = .ok (.invokevirtual 232, 3) := dk_182 0 232 (dk_at dksX4_reads_5 6 rfl rfl)
theorem dX4_reads_127 : decode cX4_reads 127 = .ok (.iastore, 1) := dk_79 (dk_at dksX4_reads_5 9 rfl rfl)
theorem dX4_reads_128 : decode cX4_reads 128 = .ok (.iinc 4 1, 3) := dk_132 4 1 (dk_at dksX4_reads_5 10 rfl rfl)
theorem dX4_reads_131 : decode cX4_reads 131 = .ok (.goto (-33), 3) := dk_167 255 223 (dk_at dksX4_reads_5 13 rfl rfl)
theorem dX4_reads_134 : decode cX4_reads 134 = .ok (.aload_n 0, 1) := dk_42 (dk_at dksX4_reads_5 16 rfl rfl)
theorem dX4_reads_135 : decode cX4_reads 135 = .ok (.getfield 192, 3) := dk_180 0 192 (dk_at dksX4_reads_5 17 rfl rfl)
theorem dX4_reads_138 : decode cX4_reads 138 = .ok (.aload_n 0, 1) := dk_42 (dk_at dksX4_reads_5 20 rfl rfl)
theorem dX4_reads_139 : decode cX4_reads 139 = .ok (.getfield 189, 3) := dk_180 0 189 (dk_at dksX4_reads_5 21 rfl rfl)
theorem dX4_reads_142 : decode cX4_reads 142 = .ok (.if_icmp .ge 11, 3) := dk_162 0 11 (dk_at dksX4_reads_6 0 rfl rfl)
theorem dX4_reads_145 : decode cX4_reads 145 = .ok (.aload_n 0, 1) := dk_42 (dk_at dksX4_reads_6 3 rfl rfl)
theorem dX4_reads_146 : decode cX4_reads 146 = .ok (.aload_n 0, 1) := dk_42 (dk_at dksX4_reads_6 4 rfl rfl)
theorem dX4_reads_147 : decode cX4_reads 147 = .ok (.getfield 192, 3) := dk_180 0 192 (dk_at dksX4_reads_6 5 rfl rfl)
theorem dX4_reads_150 : decode cX4_reads 150 = .ok (.invokevirtual 216, 3) := dk_182 0 216 (dk_at dksX4_reads_6 8 rfl rfl)
theorem dX4_reads_153 : decode cX4_reads 153 = .ok (.iload_n 2, 1) := dk_28 (dk_at dksX4_reads_6 11 rfl rfl)
theorem dX4_reads_154 : decode cX4_reads 154 = .ok (.ireturn, 1) := dk_172 (dk_at dksX4_reads_6 12 rfl rfl)
abbrev cX4_skips : ByteArray := prog_17_method_53_code
def yX4_skips : MethodName := ⟨RX4, "skips", "()V"⟩
def dkwX4_skips_0 : List UInt8 := [42, 182, 0, 195, 16, 32, 160, 0, 16, 42, 89, 180, 0, 192, 4, 96, 181, 0, 192, 167, 255, 237, 177]
abbrev dktX4_skips_0 : List UInt8 := dkwX4_skips_0 ++ []
theorem dksX4_skips_0 : cX4_skips.data.toList.drop 0 = dktX4_skips_0 := by decide +kernel
theorem dX4_skips_0 : decode cX4_skips 0 = .ok (.aload_n 0, 1) := dk_42 (dk_at dksX4_skips_0 0 rfl rfl)
theorem dX4_skips_1 : decode cX4_skips 1 = .ok (.invokevirtual 195, 3) := dk_182 0 195 (dk_at dksX4_skips_0 1 rfl rfl)
theorem dX4_skips_4 : decode cX4_skips 4 = .ok (.bipush 32, 2) := dk_16 32 (dk_at dksX4_skips_0 4 rfl rfl)
theorem dX4_skips_6 : decode cX4_skips 6 = .ok (.if_icmp .ne 16, 3) := dk_160 0 16 (dk_at dksX4_skips_0 6 rfl rfl)
theorem dX4_skips_9 : decode cX4_skips 9 = .ok (.aload_n 0, 1) := dk_42 (dk_at dksX4_skips_0 9 rfl rfl)
theorem dX4_skips_10 : decode cX4_skips 10 = .ok (.dup, 1) := dk_89 (dk_at dksX4_skips_0 10 rfl rfl)
theorem dX4_skips_11 : decode cX4_skips 11 = .ok (.getfield 192, 3) := dk_180 0 192 (dk_at dksX4_skips_0 11 rfl rfl)
theorem dX4_skips_14 : decode cX4_skips 14 = .ok (.iconst 1, 1) := dk_4 (dk_at dksX4_skips_0 14 rfl rfl)
theorem dX4_skips_15 : decode cX4_skips 15 = .ok (.iadd, 1) := dk_96 (dk_at dksX4_skips_0 15 rfl rfl)
theorem dX4_skips_16 : decode cX4_skips 16 = .ok (.putfield 192, 3) := dk_181 0 192 (dk_at dksX4_skips_0 16 rfl rfl)
theorem dX4_skips_19 : decode cX4_skips 19 = .ok (.goto (-19), 3) := dk_167 255 237 (dk_at dksX4_skips_0 19 rfl rfl)
theorem dX4_skips_22 : decode cX4_skips 22 = .ok (.return_, 1) := dk_177 (dk_at dksX4_skips_0 22 rfl rfl)
abbrev cX4_next : ByteArray := prog_17_method_52_code
def yX4_next : MethodName := ⟨RX4, "next", "()I"⟩
def dkwX4_next_1 : List UInt8 := [172]
abbrev dktX4_next_1 : List UInt8 := dkwX4_next_1 ++ []
def dkwX4_next_0 : List UInt8 := [42, 180, 0, 192, 42, 180, 0, 189, 162, 0, 15, 42, 180, 0, 39, 42, 180, 0, 192, 46, 167, 0, 4, 2]
abbrev dktX4_next_0 : List UInt8 := dkwX4_next_0 ++ dktX4_next_1
theorem dksX4_next_0 : cX4_next.data.toList.drop 0 = dktX4_next_0 := by decide +kernel
theorem dksX4_next_1 : cX4_next.data.toList.drop 24 = dktX4_next_1 := dk_seg dksX4_next_0 24 rfl rfl
theorem dX4_next_0 : decode cX4_next 0 = .ok (.aload_n 0, 1) := dk_42 (dk_at dksX4_next_0 0 rfl rfl)
theorem dX4_next_1 : decode cX4_next 1 = .ok (.getfield 192, 3) := dk_180 0 192 (dk_at dksX4_next_0 1 rfl rfl)
theorem dX4_next_4 : decode cX4_next 4 = .ok (.aload_n 0, 1) := dk_42 (dk_at dksX4_next_0 4 rfl rfl)
theorem dX4_next_5 : decode cX4_next 5 = .ok (.getfield 189, 3) := dk_180 0 189 (dk_at dksX4_next_0 5 rfl rfl)
theorem dX4_next_8 : decode cX4_next 8 = .ok (.if_icmp .ge 15, 3) := dk_162 0 15 (dk_at dksX4_next_0 8 rfl rfl)
theorem dX4_next_11 : decode cX4_next 11 = .ok (.aload_n 0, 1) := dk_42 (dk_at dksX4_next_0 11 rfl rfl)
theorem dX4_next_12 : decode cX4_next 12 = .ok (.getfield 39, 3) := dk_180 0 39 (dk_at dksX4_next_0 12 rfl rfl)
theorem dX4_next_15 : decode cX4_next 15 = .ok (.aload_n 0, 1) := dk_42 (dk_at dksX4_next_0 15 rfl rfl)
theorem dX4_next_16 : decode cX4_next 16 = .ok (.getfield 192, 3) := dk_180 0 192 (dk_at dksX4_next_0 16 rfl rfl)
theorem dX4_next_19 : decode cX4_next 19 = .ok (.iaload, 1) := dk_46 (dk_at dksX4_next_0 19 rfl rfl)
theorem dX4_next_20 : decode cX4_next 20 = .ok (.goto 4, 3) := dk_167 0 4 (dk_at dksX4_next_0 20 rfl rfl)
theorem dX4_next_23 : decode cX4_next 23 = .ok (.iconst (-1), 1) := dk_2 (dk_at dksX4_next_0 23 rfl rfl)
theorem dX4_next_24 : decode cX4_next 24 = .ok (.ireturn, 1) := dk_172 (dk_at dksX4_next_1 0 rfl rfl)
abbrev cX4_readsWord : ByteArray := prog_17_method_55_code
def yX4_readsWord : MethodName := ⟨RX4, "readsWord", "()V"⟩
def dkwX4_readsWord_2 : List UInt8 := [180, 0, 192, 4, 96, 181, 0, 192, 167, 255, 206, 177]
abbrev dktX4_readsWord_2 : List UInt8 := dkwX4_readsWord_2 ++ []
def dkwX4_readsWord_1 : List UInt8 := [180, 0, 42, 42, 180, 0, 201, 42, 182, 0, 195, 79, 42, 89, 180, 0, 201, 4, 96, 181, 0, 201, 42, 89]
abbrev dktX4_readsWord_1 : List UInt8 := dkwX4_readsWord_1 ++ dktX4_readsWord_2
def dkwX4_readsWord_0 : List UInt8 := [42, 3, 181, 0, 201, 42, 182, 0, 195, 133, 20, 0, 204, 20, 0, 206, 184, 0, 51, 153, 0, 39, 42]
abbrev dktX4_readsWord_0 : List UInt8 := dkwX4_readsWord_0 ++ dktX4_readsWord_1
theorem dksX4_readsWord_0 : cX4_readsWord.data.toList.drop 0 = dktX4_readsWord_0 := by decide +kernel
theorem dksX4_readsWord_1 : cX4_readsWord.data.toList.drop 23 = dktX4_readsWord_1 := dk_seg dksX4_readsWord_0 23 rfl rfl
theorem dksX4_readsWord_2 : cX4_readsWord.data.toList.drop 47 = dktX4_readsWord_2 := dk_seg dksX4_readsWord_1 24 rfl rfl
theorem dX4_readsWord_0 : decode cX4_readsWord 0 = .ok (.aload_n 0, 1) := dk_42 (dk_at dksX4_readsWord_0 0 rfl rfl)
theorem dX4_readsWord_1 : decode cX4_readsWord 1 = .ok (.iconst 0, 1) := dk_3 (dk_at dksX4_readsWord_0 1 rfl rfl)
theorem dX4_readsWord_2 : decode cX4_readsWord 2 = .ok (.putfield 201, 3) := dk_181 0 201 (dk_at dksX4_readsWord_0 2 rfl rfl)
theorem dX4_readsWord_5 : decode cX4_readsWord 5 = .ok (.aload_n 0, 1) := dk_42 (dk_at dksX4_readsWord_0 5 rfl rfl)
theorem dX4_readsWord_6 : decode cX4_readsWord 6 = .ok (.invokevirtual 195, 3) := dk_182 0 195 (dk_at dksX4_readsWord_0 6 rfl rfl)
theorem dX4_readsWord_9 : decode cX4_readsWord 9 = .ok (.i2l, 1) := dk_133 (dk_at dksX4_readsWord_0 9 rfl rfl)
theorem dX4_readsWord_10 : decode cX4_readsWord 10 = .ok (.ldc2_w 204, 3) := dk_20 0 204 (dk_at dksX4_readsWord_0 10 rfl rfl)
theorem dX4_readsWord_13 : decode cX4_readsWord 13 = .ok (.ldc2_w 206, 3) := dk_20 0 206 (dk_at dksX4_readsWord_0 13 rfl rfl)
theorem dX4_readsWord_16 : decode cX4_readsWord 16 = .ok (.invokestatic 51, 3) := dk_184 0 51 (dk_at dksX4_readsWord_0 16 rfl rfl)
theorem dX4_readsWord_19 : decode cX4_readsWord 19 = .ok (.ifCond .eq 39, 3) := dk_153 0 39 (dk_at dksX4_readsWord_0 19 rfl rfl)
theorem dX4_readsWord_22 : decode cX4_readsWord 22 = .ok (.aload_n 0, 1) := dk_42 (dk_at dksX4_readsWord_0 22 rfl rfl)
theorem dX4_readsWord_23 : decode cX4_readsWord 23 = .ok (.getfield 42, 3) := dk_180 0 42 (dk_at dksX4_readsWord_1 0 rfl rfl)
theorem dX4_readsWord_26 : decode cX4_readsWord 26 = .ok (.aload_n 0, 1) := dk_42 (dk_at dksX4_readsWord_1 3 rfl rfl)
theorem dX4_readsWord_27 : decode cX4_readsWord 27 = .ok (.getfield 201, 3) := dk_180 0 201 (dk_at dksX4_readsWord_1 4 rfl rfl)
theorem dX4_readsWord_30 : decode cX4_readsWord 30 = .ok (.aload_n 0, 1) := dk_42 (dk_at dksX4_readsWord_1 7 rfl rfl)
theorem dX4_readsWord_31 : decode cX4_readsWord 31 = .ok (.invokevirtual 195, 3) := dk_182 0 195 (dk_at dksX4_readsWord_1 8 rfl rfl)
theorem dX4_readsWord_34 : decode cX4_readsWord 34 = .ok (.iastore, 1) := dk_79 (dk_at dksX4_readsWord_1 11 rfl rfl)
theorem dX4_readsWord_35 : decode cX4_readsWord 35 = .ok (.aload_n 0, 1) := dk_42 (dk_at dksX4_readsWord_1 12 rfl rfl)
theorem dX4_readsWord_36 : decode cX4_readsWord 36 = .ok (.dup, 1) := dk_89 (dk_at dksX4_readsWord_1 13 rfl rfl)
theorem dX4_readsWord_37 : decode cX4_readsWord 37 = .ok (.getfield 201, 3) := dk_180 0 201 (dk_at dksX4_readsWord_1 14 rfl rfl)
theorem dX4_readsWord_40 : decode cX4_readsWord 40 = .ok (.iconst 1, 1) := dk_4 (dk_at dksX4_readsWord_1 17 rfl rfl)
theorem dX4_readsWord_41 : decode cX4_readsWord 41 = .ok (.iadd, 1) := dk_96 (dk_at dksX4_readsWord_1 18 rfl rfl)
theorem dX4_readsWord_42 : decode cX4_readsWord 42 = .ok (.putfield 201, 3) := dk_181 0 201 (dk_at dksX4_readsWord_1 19 rfl rfl)
theorem dX4_readsWord_45 : decode cX4_readsWord 45 = .ok (.aload_n 0, 1) := dk_42 (dk_at dksX4_readsWord_1 22 rfl rfl)
theorem dX4_readsWord_46 : decode cX4_readsWord 46 = .ok (.dup, 1) := dk_89 (dk_at dksX4_readsWord_1 23 rfl rfl)
theorem dX4_readsWord_47 : decode cX4_readsWord 47 = .ok (.getfield 192, 3) := dk_180 0 192 (dk_at dksX4_readsWord_2 0 rfl rfl)
theorem dX4_readsWord_50 : decode cX4_readsWord 50 = .ok (.iconst 1, 1) := dk_4 (dk_at dksX4_readsWord_2 3 rfl rfl)
theorem dX4_readsWord_51 : decode cX4_readsWord 51 = .ok (.iadd, 1) := dk_96 (dk_at dksX4_readsWord_2 4 rfl rfl)
theorem dX4_readsWord_52 : decode cX4_readsWord 52 = .ok (.putfield 192, 3) := dk_181 0 192 (dk_at dksX4_readsWord_2 5 rfl rfl)
theorem dX4_readsWord_55 : decode cX4_readsWord 55 = .ok (.goto (-50), 3) := dk_167 255 206 (dk_at dksX4_readsWord_2 8 rfl rfl)
theorem dX4_readsWord_58 : decode cX4_readsWord 58 = .ok (.return_, 1) := dk_177 (dk_at dksX4_readsWord_2 11 rfl rfl)
abbrev cX4_command : ByteArray := prog_17_method_57_code
def yX4_command : MethodName := ⟨RX4, "command", "()I"⟩
def dkwX4_command_6 : List UInt8 := [167, 0, 4, 27, 172]
abbrev dktX4_command_6 : List UInt8 := dkwX4_command_6 ++ []
def dkwX4_command_5 : List UInt8 := [167, 0, 26, 42, 16, 104, 16, 105, 16, 100, 16, 101, 3, 3, 3, 182, 0, 208, 153, 0, 7, 8]
abbrev dktX4_command_5 : List UInt8 := dkwX4_command_5 ++ dktX4_command_6
def dkwX4_command_4 : List UInt8 := [42, 16, 105, 16, 109, 16, 112, 16, 114, 16, 111, 16, 118, 16, 101, 182, 0, 208, 153, 0, 7, 7]
abbrev dktX4_command_4 : List UInt8 := dkwX4_command_4 ++ dktX4_command_5
def dkwX4_command_3 : List UInt8 := [16, 108, 16, 97, 16, 98, 16, 101, 16, 108, 3, 3, 182, 0, 208, 153, 0, 7, 6, 167, 0, 4, 27, 60]
abbrev dktX4_command_3 : List UInt8 := dkwX4_command_3 ++ dktX4_command_4
def dkwX4_command_2 : List UInt8 := [60, 42, 16, 112, 16, 97, 16, 110, 3, 3, 3, 3, 182, 0, 208, 153, 0, 7, 5, 167, 0, 27, 42]
abbrev dktX4_command_2 : List UInt8 := dkwX4_command_2 ++ dktX4_command_3
def dkwX4_command_1 : List UInt8 := [16, 119, 16, 105, 16, 110, 16, 100, 16, 111, 16, 119, 3, 182, 0, 208, 153, 0, 7, 4, 167, 0, 4, 2]
abbrev dktX4_command_1 : List UInt8 := dkwX4_command_1 ++ dktX4_command_2
def dkwX4_command_0 : List UInt8 := [42, 16, 112, 16, 111, 16, 105, 16, 110, 16, 116, 3, 3, 182, 0, 208, 153, 0, 7, 3, 167, 0, 28, 42]
abbrev dktX4_command_0 : List UInt8 := dkwX4_command_0 ++ dktX4_command_1
theorem dksX4_command_0 : cX4_command.data.toList.drop 0 = dktX4_command_0 := by decide +kernel
theorem dksX4_command_1 : cX4_command.data.toList.drop 24 = dktX4_command_1 := dk_seg dksX4_command_0 24 rfl rfl
theorem dksX4_command_2 : cX4_command.data.toList.drop 48 = dktX4_command_2 := dk_seg dksX4_command_1 24 rfl rfl
theorem dksX4_command_3 : cX4_command.data.toList.drop 71 = dktX4_command_3 := dk_seg dksX4_command_2 23 rfl rfl
theorem dksX4_command_4 : cX4_command.data.toList.drop 95 = dktX4_command_4 := dk_seg dksX4_command_3 24 rfl rfl
theorem dksX4_command_5 : cX4_command.data.toList.drop 117 = dktX4_command_5 := dk_seg dksX4_command_4 22 rfl rfl
theorem dksX4_command_6 : cX4_command.data.toList.drop 139 = dktX4_command_6 := dk_seg dksX4_command_5 22 rfl rfl
theorem dX4_command_0 : decode cX4_command 0 = .ok (.aload_n 0, 1) := dk_42 (dk_at dksX4_command_0 0 rfl rfl)
theorem dX4_command_1 : decode cX4_command 1 = .ok (.bipush 112, 2) := dk_16 112 (dk_at dksX4_command_0 1 rfl rfl)
theorem dX4_command_3 : decode cX4_command 3 = .ok (.bipush 111, 2) := dk_16 111 (dk_at dksX4_command_0 3 rfl rfl)
theorem dX4_command_5 : decode cX4_command 5 = .ok (.bipush 105, 2) := dk_16 105 (dk_at dksX4_command_0 5 rfl rfl)
theorem dX4_command_7 : decode cX4_command 7 = .ok (.bipush 110, 2) := dk_16 110 (dk_at dksX4_command_0 7 rfl rfl)
theorem dX4_command_9 : decode cX4_command 9 = .ok (.bipush 116, 2) := dk_16 116 (dk_at dksX4_command_0 9 rfl rfl)
theorem dX4_command_11 : decode cX4_command 11 = .ok (.iconst 0, 1) := dk_3 (dk_at dksX4_command_0 11 rfl rfl)
theorem dX4_command_12 : decode cX4_command 12 = .ok (.iconst 0, 1) := dk_3 (dk_at dksX4_command_0 12 rfl rfl)
theorem dX4_command_13 : decode cX4_command 13 = .ok (.invokevirtual 208, 3) := dk_182 0 208 (dk_at dksX4_command_0 13 rfl rfl)
theorem dX4_command_16 : decode cX4_command 16 = .ok (.ifCond .eq 7, 3) := dk_153 0 7 (dk_at dksX4_command_0 16 rfl rfl)
theorem dX4_command_19 : decode cX4_command 19 = .ok (.iconst 0, 1) := dk_3 (dk_at dksX4_command_0 19 rfl rfl)
theorem dX4_command_20 : decode cX4_command 20 = .ok (.goto 28, 3) := dk_167 0 28 (dk_at dksX4_command_0 20 rfl rfl)
theorem dX4_command_23 : decode cX4_command 23 = .ok (.aload_n 0, 1) := dk_42 (dk_at dksX4_command_0 23 rfl rfl)
theorem dX4_command_24 : decode cX4_command 24 = .ok (.bipush 119, 2) := dk_16 119 (dk_at dksX4_command_1 0 rfl rfl)
theorem dX4_command_26 : decode cX4_command 26 = .ok (.bipush 105, 2) := dk_16 105 (dk_at dksX4_command_1 2 rfl rfl)
theorem dX4_command_28 : decode cX4_command 28 = .ok (.bipush 110, 2) := dk_16 110 (dk_at dksX4_command_1 4 rfl rfl)
theorem dX4_command_30 : decode cX4_command 30 = .ok (.bipush 100, 2) := dk_16 100 (dk_at dksX4_command_1 6 rfl rfl)
theorem dX4_command_32 : decode cX4_command 32 = .ok (.bipush 111, 2) := dk_16 111 (dk_at dksX4_command_1 8 rfl rfl)
theorem dX4_command_34 : decode cX4_command 34 = .ok (.bipush 119, 2) := dk_16 119 (dk_at dksX4_command_1 10 rfl rfl)
theorem dX4_command_36 : decode cX4_command 36 = .ok (.iconst 0, 1) := dk_3 (dk_at dksX4_command_1 12 rfl rfl)
theorem dX4_command_37 : decode cX4_command 37 = .ok (.invokevirtual 208, 3) := dk_182 0 208 (dk_at dksX4_command_1 13 rfl rfl)
theorem dX4_command_40 : decode cX4_command 40 = .ok (.ifCond .eq 7, 3) := dk_153 0 7 (dk_at dksX4_command_1 16 rfl rfl)
theorem dX4_command_43 : decode cX4_command 43 = .ok (.iconst 1, 1) := dk_4 (dk_at dksX4_command_1 19 rfl rfl)
theorem dX4_command_44 : decode cX4_command 44 = .ok (.goto 4, 3) := dk_167 0 4 (dk_at dksX4_command_1 20 rfl rfl)
theorem dX4_command_47 : decode cX4_command 47 = .ok (.iconst (-1), 1) := dk_2 (dk_at dksX4_command_1 23 rfl rfl)
theorem dX4_command_48 : decode cX4_command 48 = .ok (.istore_n 1, 1) := dk_60 (dk_at dksX4_command_2 0 rfl rfl)
theorem dX4_command_49 : decode cX4_command 49 = .ok (.aload_n 0, 1) := dk_42 (dk_at dksX4_command_2 1 rfl rfl)
theorem dX4_command_50 : decode cX4_command 50 = .ok (.bipush 112, 2) := dk_16 112 (dk_at dksX4_command_2 2 rfl rfl)
theorem dX4_command_52 : decode cX4_command 52 = .ok (.bipush 97, 2) := dk_16 97 (dk_at dksX4_command_2 4 rfl rfl)
theorem dX4_command_54 : decode cX4_command 54 = .ok (.bipush 110, 2) := dk_16 110 (dk_at dksX4_command_2 6 rfl rfl)
theorem dX4_command_56 : decode cX4_command 56 = .ok (.iconst 0, 1) := dk_3 (dk_at dksX4_command_2 8 rfl rfl)
theorem dX4_command_57 : decode cX4_command 57 = .ok (.iconst 0, 1) := dk_3 (dk_at dksX4_command_2 9 rfl rfl)
theorem dX4_command_58 : decode cX4_command 58 = .ok (.iconst 0, 1) := dk_3 (dk_at dksX4_command_2 10 rfl rfl)
theorem dX4_command_59 : decode cX4_command 59 = .ok (.iconst 0, 1) := dk_3 (dk_at dksX4_command_2 11 rfl rfl)
theorem dX4_command_60 : decode cX4_command 60 = .ok (.invokevirtual 208, 3) := dk_182 0 208 (dk_at dksX4_command_2 12 rfl rfl)
theorem dX4_command_63 : decode cX4_command 63 = .ok (.ifCond .eq 7, 3) := dk_153 0 7 (dk_at dksX4_command_2 15 rfl rfl)
theorem dX4_command_66 : decode cX4_command 66 = .ok (.iconst 2, 1) := dk_5 (dk_at dksX4_command_2 18 rfl rfl)
theorem dX4_command_67 : decode cX4_command 67 = .ok (.goto 27, 3) := dk_167 0 27 (dk_at dksX4_command_2 19 rfl rfl)
theorem dX4_command_70 : decode cX4_command 70 = .ok (.aload_n 0, 1) := dk_42 (dk_at dksX4_command_2 22 rfl rfl)
theorem dX4_command_71 : decode cX4_command 71 = .ok (.bipush 108, 2) := dk_16 108 (dk_at dksX4_command_3 0 rfl rfl)
theorem dX4_command_73 : decode cX4_command 73 = .ok (.bipush 97, 2) := dk_16 97 (dk_at dksX4_command_3 2 rfl rfl)
theorem dX4_command_75 : decode cX4_command 75 = .ok (.bipush 98, 2) := dk_16 98 (dk_at dksX4_command_3 4 rfl rfl)
theorem dX4_command_77 : decode cX4_command 77 = .ok (.bipush 101, 2) := dk_16 101 (dk_at dksX4_command_3 6 rfl rfl)
theorem dX4_command_79 : decode cX4_command 79 = .ok (.bipush 108, 2) := dk_16 108 (dk_at dksX4_command_3 8 rfl rfl)
theorem dX4_command_81 : decode cX4_command 81 = .ok (.iconst 0, 1) := dk_3 (dk_at dksX4_command_3 10 rfl rfl)
theorem dX4_command_82 : decode cX4_command 82 = .ok (.iconst 0, 1) := dk_3 (dk_at dksX4_command_3 11 rfl rfl)
theorem dX4_command_83 : decode cX4_command 83 = .ok (.invokevirtual 208, 3) := dk_182 0 208 (dk_at dksX4_command_3 12 rfl rfl)
theorem dX4_command_86 : decode cX4_command 86 = .ok (.ifCond .eq 7, 3) := dk_153 0 7 (dk_at dksX4_command_3 15 rfl rfl)
theorem dX4_command_89 : decode cX4_command 89 = .ok (.iconst 3, 1) := dk_6 (dk_at dksX4_command_3 18 rfl rfl)
theorem dX4_command_90 : decode cX4_command 90 = .ok (.goto 4, 3) := dk_167 0 4 (dk_at dksX4_command_3 19 rfl rfl)
theorem dX4_command_93 : decode cX4_command 93 = .ok (.iload_n 1, 1) := dk_27 (dk_at dksX4_command_3 22 rfl rfl)
theorem dX4_command_94 : decode cX4_command 94 = .ok (.istore_n 1, 1) := dk_60 (dk_at dksX4_command_3 23 rfl rfl)
theorem dX4_command_95 : decode cX4_command 95 = .ok (.aload_n 0, 1) := dk_42 (dk_at dksX4_command_4 0 rfl rfl)
theorem dX4_command_96 : decode cX4_command 96 = .ok (.bipush 105, 2) := dk_16 105 (dk_at dksX4_command_4 1 rfl rfl)
theorem dX4_command_98 : decode cX4_command 98 = .ok (.bipush 109, 2) := dk_16 109 (dk_at dksX4_command_4 3 rfl rfl)
theorem dX4_command_100 : decode cX4_command 100 = .ok (.bipush 112, 2) := dk_16 112 (dk_at dksX4_command_4 5 rfl rfl)
theorem dX4_command_102 : decode cX4_command 102 = .ok (.bipush 114, 2) := dk_16 114 (dk_at dksX4_command_4 7 rfl rfl)
theorem dX4_command_104 : decode cX4_command 104 = .ok (.bipush 111, 2) := dk_16 111 (dk_at dksX4_command_4 9 rfl rfl)
theorem dX4_command_106 : decode cX4_command 106 = .ok (.bipush 118, 2) := dk_16 118 (dk_at dksX4_command_4 11 rfl rfl)
theorem dX4_command_108 : decode cX4_command 108 = .ok (.bipush 101, 2) := dk_16 101 (dk_at dksX4_command_4 13 rfl rfl)
theorem dX4_command_110 : decode cX4_command 110 = .ok (.invokevirtual 208, 3) := dk_182 0 208 (dk_at dksX4_command_4 15 rfl rfl)
theorem dX4_command_113 : decode cX4_command 113 = .ok (.ifCond .eq 7, 3) := dk_153 0 7 (dk_at dksX4_command_4 18 rfl rfl)
theorem dX4_command_116 : decode cX4_command 116 = .ok (.iconst 4, 1) := dk_7 (dk_at dksX4_command_4 21 rfl rfl)
theorem dX4_command_117 : decode cX4_command 117 = .ok (.goto 26, 3) := dk_167 0 26 (dk_at dksX4_command_5 0 rfl rfl)
theorem dX4_command_120 : decode cX4_command 120 = .ok (.aload_n 0, 1) := dk_42 (dk_at dksX4_command_5 3 rfl rfl)
theorem dX4_command_121 : decode cX4_command 121 = .ok (.bipush 104, 2) := dk_16 104 (dk_at dksX4_command_5 4 rfl rfl)
theorem dX4_command_123 : decode cX4_command 123 = .ok (.bipush 105, 2) := dk_16 105 (dk_at dksX4_command_5 6 rfl rfl)
theorem dX4_command_125 : decode cX4_command 125 = .ok (.bipush 100, 2) := dk_16 100 (dk_at dksX4_command_5 8 rfl rfl)
theorem dX4_command_127 : decode cX4_command 127 = .ok (.bipush 101, 2) := dk_16 101 (dk_at dksX4_command_5 10 rfl rfl)
theorem dX4_command_129 : decode cX4_command 129 = .ok (.iconst 0, 1) := dk_3 (dk_at dksX4_command_5 12 rfl rfl)
theorem dX4_command_130 : decode cX4_command 130 = .ok (.iconst 0, 1) := dk_3 (dk_at dksX4_command_5 13 rfl rfl)
theorem dX4_command_131 : decode cX4_command 131 = .ok (.iconst 0, 1) := dk_3 (dk_at dksX4_command_5 14 rfl rfl)
theorem dX4_command_132 : decode cX4_command 132 = .ok (.invokevirtual 208, 3) := dk_182 0 208 (dk_at dksX4_command_5 15 rfl rfl)
theorem dX4_command_135 : decode cX4_command 135 = .ok (.ifCond .eq 7, 3) := dk_153 0 7 (dk_at dksX4_command_5 18 rfl rfl)
theorem dX4_command_138 : decode cX4_command 138 = .ok (.iconst 5, 1) := dk_8 (dk_at dksX4_command_5 21 rfl rfl)
theorem dX4_command_139 : decode cX4_command 139 = .ok (.goto 4, 3) := dk_167 0 4 (dk_at dksX4_command_6 0 rfl rfl)
theorem dX4_command_142 : decode cX4_command 142 = .ok (.iload_n 1, 1) := dk_27 (dk_at dksX4_command_6 3 rfl rfl)
theorem dX4_command_143 : decode cX4_command 143 = .ok (.ireturn, 1) := dk_172 (dk_at dksX4_command_6 4 rfl rfl)
abbrev cX4_isWord : ByteArray := prog_17_method_56_code
def yX4_isWord : MethodName := ⟨RX4, "isWord", "(IIIIIII)Z"⟩
def dkwX4_isWord_7 : List UInt8 := [16, 7, 161, 0, 15, 42, 180, 0, 42, 16, 6, 46, 21, 7, 160, 0, 7, 4, 167, 0, 4, 3, 172]
abbrev dktX4_isWord_7 : List UInt8 := dkwX4_isWord_7 ++ []
def dkwX4_isWord_6 : List UInt8 := [153, 0, 44, 21, 8, 16, 6, 161, 0, 14, 42, 180, 0, 42, 8, 46, 21, 6, 160, 0, 26, 21, 8]
abbrev dktX4_isWord_6 : List UInt8 := dkwX4_isWord_6 ++ dktX4_isWord_7
def dkwX4_isWord_5 : List UInt8 := [161, 0, 14, 42, 180, 0, 42, 7, 46, 21, 5, 160, 0, 7, 4, 167, 0, 4, 3, 54, 9, 21, 9]
abbrev dktX4_isWord_5 : List UInt8 := dkwX4_isWord_5 ++ dktX4_isWord_6
def dkwX4_isWord_4 : List UInt8 := [153, 0, 41, 21, 8, 7, 161, 0, 14, 42, 180, 0, 42, 6, 46, 21, 4, 160, 0, 24, 21, 8, 8]
abbrev dktX4_isWord_4 : List UInt8 := dkwX4_isWord_4 ++ dktX4_isWord_5
def dkwX4_isWord_3 : List UInt8 := [160, 0, 17, 42, 180, 0, 42, 5, 46, 29, 160, 0, 7, 4, 167, 0, 4, 3, 54, 9, 21, 9]
abbrev dktX4_isWord_3 : List UInt8 := dkwX4_isWord_3 ++ dktX4_isWord_4
def dkwX4_isWord_2 : List UInt8 := [21, 8, 160, 0, 37, 42, 180, 0, 42, 3, 46, 27, 160, 0, 27, 42, 180, 0, 42, 4, 46, 28]
abbrev dktX4_isWord_2 : List UInt8 := dkwX4_isWord_2 ++ dktX4_isWord_3
def dkwX4_isWord_1 : List UInt8 := [158, 0, 7, 8, 167, 0, 13, 21, 4, 158, 0, 7, 7, 167, 0, 4, 6, 54, 8, 42, 180, 0, 201]
abbrev dktX4_isWord_1 : List UInt8 := dkwX4_isWord_1 ++ dktX4_isWord_2
def dkwX4_isWord_0 : List UInt8 := [21, 7, 158, 0, 8, 16, 7, 167, 0, 32, 21, 6, 158, 0, 8, 16, 6, 167, 0, 22, 21, 5]
abbrev dktX4_isWord_0 : List UInt8 := dkwX4_isWord_0 ++ dktX4_isWord_1
theorem dksX4_isWord_0 : cX4_isWord.data.toList.drop 0 = dktX4_isWord_0 := by decide +kernel
theorem dksX4_isWord_1 : cX4_isWord.data.toList.drop 22 = dktX4_isWord_1 := dk_seg dksX4_isWord_0 22 rfl rfl
theorem dksX4_isWord_2 : cX4_isWord.data.toList.drop 45 = dktX4_isWord_2 := dk_seg dksX4_isWord_1 23 rfl rfl
theorem dksX4_isWord_3 : cX4_isWord.data.toList.drop 67 = dktX4_isWord_3 := dk_seg dksX4_isWord_2 22 rfl rfl
theorem dksX4_isWord_4 : cX4_isWord.data.toList.drop 89 = dktX4_isWord_4 := dk_seg dksX4_isWord_3 22 rfl rfl
theorem dksX4_isWord_5 : cX4_isWord.data.toList.drop 112 = dktX4_isWord_5 := dk_seg dksX4_isWord_4 23 rfl rfl
theorem dksX4_isWord_6 : cX4_isWord.data.toList.drop 135 = dktX4_isWord_6 := dk_seg dksX4_isWord_5 23 rfl rfl
theorem dksX4_isWord_7 : cX4_isWord.data.toList.drop 158 = dktX4_isWord_7 := dk_seg dksX4_isWord_6 23 rfl rfl
theorem dX4_isWord_0 : decode cX4_isWord 0 = .ok (.iload 7, 2) := dk_21 7 (dk_at dksX4_isWord_0 0 rfl rfl)
theorem dX4_isWord_2 : decode cX4_isWord 2 = .ok (.ifCond .le 8, 3) := dk_158 0 8 (dk_at dksX4_isWord_0 2 rfl rfl)
theorem dX4_isWord_5 : decode cX4_isWord 5 = .ok (.bipush 7, 2) := dk_16 7 (dk_at dksX4_isWord_0 5 rfl rfl)
theorem dX4_isWord_7 : decode cX4_isWord 7 = .ok (.goto 32, 3) := dk_167 0 32 (dk_at dksX4_isWord_0 7 rfl rfl)
theorem dX4_isWord_10 : decode cX4_isWord 10 = .ok (.iload 6, 2) := dk_21 6 (dk_at dksX4_isWord_0 10 rfl rfl)
theorem dX4_isWord_12 : decode cX4_isWord 12 = .ok (.ifCond .le 8, 3) := dk_158 0 8 (dk_at dksX4_isWord_0 12 rfl rfl)
theorem dX4_isWord_15 : decode cX4_isWord 15 = .ok (.bipush 6, 2) := dk_16 6 (dk_at dksX4_isWord_0 15 rfl rfl)
theorem dX4_isWord_17 : decode cX4_isWord 17 = .ok (.goto 22, 3) := dk_167 0 22 (dk_at dksX4_isWord_0 17 rfl rfl)
theorem dX4_isWord_20 : decode cX4_isWord 20 = .ok (.iload 5, 2) := dk_21 5 (dk_at dksX4_isWord_0 20 rfl rfl)
theorem dX4_isWord_22 : decode cX4_isWord 22 = .ok (.ifCond .le 7, 3) := dk_158 0 7 (dk_at dksX4_isWord_1 0 rfl rfl)
theorem dX4_isWord_25 : decode cX4_isWord 25 = .ok (.iconst 5, 1) := dk_8 (dk_at dksX4_isWord_1 3 rfl rfl)
theorem dX4_isWord_26 : decode cX4_isWord 26 = .ok (.goto 13, 3) := dk_167 0 13 (dk_at dksX4_isWord_1 4 rfl rfl)
theorem dX4_isWord_29 : decode cX4_isWord 29 = .ok (.iload 4, 2) := dk_21 4 (dk_at dksX4_isWord_1 7 rfl rfl)
theorem dX4_isWord_31 : decode cX4_isWord 31 = .ok (.ifCond .le 7, 3) := dk_158 0 7 (dk_at dksX4_isWord_1 9 rfl rfl)
theorem dX4_isWord_34 : decode cX4_isWord 34 = .ok (.iconst 4, 1) := dk_7 (dk_at dksX4_isWord_1 12 rfl rfl)
theorem dX4_isWord_35 : decode cX4_isWord 35 = .ok (.goto 4, 3) := dk_167 0 4 (dk_at dksX4_isWord_1 13 rfl rfl)
theorem dX4_isWord_38 : decode cX4_isWord 38 = .ok (.iconst 3, 1) := dk_6 (dk_at dksX4_isWord_1 16 rfl rfl)
theorem dX4_isWord_39 : decode cX4_isWord 39 = .ok (.istore 8, 2) := dk_54 8 (dk_at dksX4_isWord_1 17 rfl rfl)
theorem dX4_isWord_41 : decode cX4_isWord 41 = .ok (.aload_n 0, 1) := dk_42 (dk_at dksX4_isWord_1 19 rfl rfl)
theorem dX4_isWord_42 : decode cX4_isWord 42 = .ok (.getfield 201, 3) := dk_180 0 201 (dk_at dksX4_isWord_1 20 rfl rfl)
theorem dX4_isWord_45 : decode cX4_isWord 45 = .ok (.iload 8, 2) := dk_21 8 (dk_at dksX4_isWord_2 0 rfl rfl)
theorem dX4_isWord_47 : decode cX4_isWord 47 = .ok (.if_icmp .ne 37, 3) := dk_160 0 37 (dk_at dksX4_isWord_2 2 rfl rfl)
theorem dX4_isWord_50 : decode cX4_isWord 50 = .ok (.aload_n 0, 1) := dk_42 (dk_at dksX4_isWord_2 5 rfl rfl)
theorem dX4_isWord_51 : decode cX4_isWord 51 = .ok (.getfield 42, 3) := dk_180 0 42 (dk_at dksX4_isWord_2 6 rfl rfl)
theorem dX4_isWord_54 : decode cX4_isWord 54 = .ok (.iconst 0, 1) := dk_3 (dk_at dksX4_isWord_2 9 rfl rfl)
theorem dX4_isWord_55 : decode cX4_isWord 55 = .ok (.iaload, 1) := dk_46 (dk_at dksX4_isWord_2 10 rfl rfl)
theorem dX4_isWord_56 : decode cX4_isWord 56 = .ok (.iload_n 1, 1) := dk_27 (dk_at dksX4_isWord_2 11 rfl rfl)
theorem dX4_isWord_57 : decode cX4_isWord 57 = .ok (.if_icmp .ne 27, 3) := dk_160 0 27 (dk_at dksX4_isWord_2 12 rfl rfl)
theorem dX4_isWord_60 : decode cX4_isWord 60 = .ok (.aload_n 0, 1) := dk_42 (dk_at dksX4_isWord_2 15 rfl rfl)
theorem dX4_isWord_61 : decode cX4_isWord 61 = .ok (.getfield 42, 3) := dk_180 0 42 (dk_at dksX4_isWord_2 16 rfl rfl)
theorem dX4_isWord_64 : decode cX4_isWord 64 = .ok (.iconst 1, 1) := dk_4 (dk_at dksX4_isWord_2 19 rfl rfl)
theorem dX4_isWord_65 : decode cX4_isWord 65 = .ok (.iaload, 1) := dk_46 (dk_at dksX4_isWord_2 20 rfl rfl)
theorem dX4_isWord_66 : decode cX4_isWord 66 = .ok (.iload_n 2, 1) := dk_28 (dk_at dksX4_isWord_2 21 rfl rfl)
theorem dX4_isWord_67 : decode cX4_isWord 67 = .ok (.if_icmp .ne 17, 3) := dk_160 0 17 (dk_at dksX4_isWord_3 0 rfl rfl)
theorem dX4_isWord_70 : decode cX4_isWord 70 = .ok (.aload_n 0, 1) := dk_42 (dk_at dksX4_isWord_3 3 rfl rfl)
theorem dX4_isWord_71 : decode cX4_isWord 71 = .ok (.getfield 42, 3) := dk_180 0 42 (dk_at dksX4_isWord_3 4 rfl rfl)
theorem dX4_isWord_74 : decode cX4_isWord 74 = .ok (.iconst 2, 1) := dk_5 (dk_at dksX4_isWord_3 7 rfl rfl)
theorem dX4_isWord_75 : decode cX4_isWord 75 = .ok (.iaload, 1) := dk_46 (dk_at dksX4_isWord_3 8 rfl rfl)
theorem dX4_isWord_76 : decode cX4_isWord 76 = .ok (.iload_n 3, 1) := dk_29 (dk_at dksX4_isWord_3 9 rfl rfl)
theorem dX4_isWord_77 : decode cX4_isWord 77 = .ok (.if_icmp .ne 7, 3) := dk_160 0 7 (dk_at dksX4_isWord_3 10 rfl rfl)
theorem dX4_isWord_80 : decode cX4_isWord 80 = .ok (.iconst 1, 1) := dk_4 (dk_at dksX4_isWord_3 13 rfl rfl)
theorem dX4_isWord_81 : decode cX4_isWord 81 = .ok (.goto 4, 3) := dk_167 0 4 (dk_at dksX4_isWord_3 14 rfl rfl)
theorem dX4_isWord_84 : decode cX4_isWord 84 = .ok (.iconst 0, 1) := dk_3 (dk_at dksX4_isWord_3 17 rfl rfl)
theorem dX4_isWord_85 : decode cX4_isWord 85 = .ok (.istore 9, 2) := dk_54 9 (dk_at dksX4_isWord_3 18 rfl rfl)
theorem dX4_isWord_87 : decode cX4_isWord 87 = .ok (.iload 9, 2) := dk_21 9 (dk_at dksX4_isWord_3 20 rfl rfl)
theorem dX4_isWord_89 : decode cX4_isWord 89 = .ok (.ifCond .eq 41, 3) := dk_153 0 41 (dk_at dksX4_isWord_4 0 rfl rfl)
theorem dX4_isWord_92 : decode cX4_isWord 92 = .ok (.iload 8, 2) := dk_21 8 (dk_at dksX4_isWord_4 3 rfl rfl)
theorem dX4_isWord_94 : decode cX4_isWord 94 = .ok (.iconst 4, 1) := dk_7 (dk_at dksX4_isWord_4 5 rfl rfl)
theorem dX4_isWord_95 : decode cX4_isWord 95 = .ok (.if_icmp .lt 14, 3) := dk_161 0 14 (dk_at dksX4_isWord_4 6 rfl rfl)
theorem dX4_isWord_98 : decode cX4_isWord 98 = .ok (.aload_n 0, 1) := dk_42 (dk_at dksX4_isWord_4 9 rfl rfl)
theorem dX4_isWord_99 : decode cX4_isWord 99 = .ok (.getfield 42, 3) := dk_180 0 42 (dk_at dksX4_isWord_4 10 rfl rfl)
theorem dX4_isWord_102 : decode cX4_isWord 102 = .ok (.iconst 3, 1) := dk_6 (dk_at dksX4_isWord_4 13 rfl rfl)
theorem dX4_isWord_103 : decode cX4_isWord 103 = .ok (.iaload, 1) := dk_46 (dk_at dksX4_isWord_4 14 rfl rfl)
theorem dX4_isWord_104 : decode cX4_isWord 104 = .ok (.iload 4, 2) := dk_21 4 (dk_at dksX4_isWord_4 15 rfl rfl)
theorem dX4_isWord_106 : decode cX4_isWord 106 = .ok (.if_icmp .ne 24, 3) := dk_160 0 24 (dk_at dksX4_isWord_4 17 rfl rfl)
theorem dX4_isWord_109 : decode cX4_isWord 109 = .ok (.iload 8, 2) := dk_21 8 (dk_at dksX4_isWord_4 20 rfl rfl)
theorem dX4_isWord_111 : decode cX4_isWord 111 = .ok (.iconst 5, 1) := dk_8 (dk_at dksX4_isWord_4 22 rfl rfl)
theorem dX4_isWord_112 : decode cX4_isWord 112 = .ok (.if_icmp .lt 14, 3) := dk_161 0 14 (dk_at dksX4_isWord_5 0 rfl rfl)
theorem dX4_isWord_115 : decode cX4_isWord 115 = .ok (.aload_n 0, 1) := dk_42 (dk_at dksX4_isWord_5 3 rfl rfl)
theorem dX4_isWord_116 : decode cX4_isWord 116 = .ok (.getfield 42, 3) := dk_180 0 42 (dk_at dksX4_isWord_5 4 rfl rfl)
theorem dX4_isWord_119 : decode cX4_isWord 119 = .ok (.iconst 4, 1) := dk_7 (dk_at dksX4_isWord_5 7 rfl rfl)
theorem dX4_isWord_120 : decode cX4_isWord 120 = .ok (.iaload, 1) := dk_46 (dk_at dksX4_isWord_5 8 rfl rfl)
theorem dX4_isWord_121 : decode cX4_isWord 121 = .ok (.iload 5, 2) := dk_21 5 (dk_at dksX4_isWord_5 9 rfl rfl)
theorem dX4_isWord_123 : decode cX4_isWord 123 = .ok (.if_icmp .ne 7, 3) := dk_160 0 7 (dk_at dksX4_isWord_5 11 rfl rfl)
theorem dX4_isWord_126 : decode cX4_isWord 126 = .ok (.iconst 1, 1) := dk_4 (dk_at dksX4_isWord_5 14 rfl rfl)
theorem dX4_isWord_127 : decode cX4_isWord 127 = .ok (.goto 4, 3) := dk_167 0 4 (dk_at dksX4_isWord_5 15 rfl rfl)
theorem dX4_isWord_130 : decode cX4_isWord 130 = .ok (.iconst 0, 1) := dk_3 (dk_at dksX4_isWord_5 18 rfl rfl)
theorem dX4_isWord_131 : decode cX4_isWord 131 = .ok (.istore 9, 2) := dk_54 9 (dk_at dksX4_isWord_5 19 rfl rfl)
theorem dX4_isWord_133 : decode cX4_isWord 133 = .ok (.iload 9, 2) := dk_21 9 (dk_at dksX4_isWord_5 21 rfl rfl)
theorem dX4_isWord_135 : decode cX4_isWord 135 = .ok (.ifCond .eq 44, 3) := dk_153 0 44 (dk_at dksX4_isWord_6 0 rfl rfl)
theorem dX4_isWord_138 : decode cX4_isWord 138 = .ok (.iload 8, 2) := dk_21 8 (dk_at dksX4_isWord_6 3 rfl rfl)
theorem dX4_isWord_140 : decode cX4_isWord 140 = .ok (.bipush 6, 2) := dk_16 6 (dk_at dksX4_isWord_6 5 rfl rfl)
theorem dX4_isWord_142 : decode cX4_isWord 142 = .ok (.if_icmp .lt 14, 3) := dk_161 0 14 (dk_at dksX4_isWord_6 7 rfl rfl)
theorem dX4_isWord_145 : decode cX4_isWord 145 = .ok (.aload_n 0, 1) := dk_42 (dk_at dksX4_isWord_6 10 rfl rfl)
theorem dX4_isWord_146 : decode cX4_isWord 146 = .ok (.getfield 42, 3) := dk_180 0 42 (dk_at dksX4_isWord_6 11 rfl rfl)
theorem dX4_isWord_149 : decode cX4_isWord 149 = .ok (.iconst 5, 1) := dk_8 (dk_at dksX4_isWord_6 14 rfl rfl)
theorem dX4_isWord_150 : decode cX4_isWord 150 = .ok (.iaload, 1) := dk_46 (dk_at dksX4_isWord_6 15 rfl rfl)
theorem dX4_isWord_151 : decode cX4_isWord 151 = .ok (.iload 6, 2) := dk_21 6 (dk_at dksX4_isWord_6 16 rfl rfl)
theorem dX4_isWord_153 : decode cX4_isWord 153 = .ok (.if_icmp .ne 26, 3) := dk_160 0 26 (dk_at dksX4_isWord_6 18 rfl rfl)
theorem dX4_isWord_156 : decode cX4_isWord 156 = .ok (.iload 8, 2) := dk_21 8 (dk_at dksX4_isWord_6 21 rfl rfl)
theorem dX4_isWord_158 : decode cX4_isWord 158 = .ok (.bipush 7, 2) := dk_16 7 (dk_at dksX4_isWord_7 0 rfl rfl)
theorem dX4_isWord_160 : decode cX4_isWord 160 = .ok (.if_icmp .lt 15, 3) := dk_161 0 15 (dk_at dksX4_isWord_7 2 rfl rfl)
theorem dX4_isWord_163 : decode cX4_isWord 163 = .ok (.aload_n 0, 1) := dk_42 (dk_at dksX4_isWord_7 5 rfl rfl)
theorem dX4_isWord_164 : decode cX4_isWord 164 = .ok (.getfield 42, 3) := dk_180 0 42 (dk_at dksX4_isWord_7 6 rfl rfl)
theorem dX4_isWord_167 : decode cX4_isWord 167 = .ok (.bipush 6, 2) := dk_16 6 (dk_at dksX4_isWord_7 9 rfl rfl)
theorem dX4_isWord_169 : decode cX4_isWord 169 = .ok (.iaload, 1) := dk_46 (dk_at dksX4_isWord_7 11 rfl rfl)
theorem dX4_isWord_170 : decode cX4_isWord 170 = .ok (.iload 7, 2) := dk_21 7 (dk_at dksX4_isWord_7 12 rfl rfl)
theorem dX4_isWord_172 : decode cX4_isWord 172 = .ok (.if_icmp .ne 7, 3) := dk_160 0 7 (dk_at dksX4_isWord_7 14 rfl rfl)
theorem dX4_isWord_175 : decode cX4_isWord 175 = .ok (.iconst 1, 1) := dk_4 (dk_at dksX4_isWord_7 17 rfl rfl)
theorem dX4_isWord_176 : decode cX4_isWord 176 = .ok (.goto 4, 3) := dk_167 0 4 (dk_at dksX4_isWord_7 18 rfl rfl)
theorem dX4_isWord_179 : decode cX4_isWord 179 = .ok (.iconst 0, 1) := dk_3 (dk_at dksX4_isWord_7 21 rfl rfl)
theorem dX4_isWord_180 : decode cX4_isWord 180 = .ok (.ireturn, 1) := dk_172 (dk_at dksX4_isWord_7 22 rfl rfl)
abbrev cX4_fails : ByteArray := prog_17_method_54_code
def yX4_fails : MethodName := ⟨RX4, "fails", "(I)V"⟩
def dkwX4_fails_0 : List UInt8 := [42, 42, 180, 0, 198, 2, 160, 0, 7, 27, 167, 0, 7, 42, 180, 0, 198, 181, 0, 198, 177]
abbrev dktX4_fails_0 : List UInt8 := dkwX4_fails_0 ++ []
theorem dksX4_fails_0 : cX4_fails.data.toList.drop 0 = dktX4_fails_0 := by decide +kernel
theorem dX4_fails_0 : decode cX4_fails 0 = .ok (.aload_n 0, 1) := dk_42 (dk_at dksX4_fails_0 0 rfl rfl)
theorem dX4_fails_1 : decode cX4_fails 1 = .ok (.aload_n 0, 1) := dk_42 (dk_at dksX4_fails_0 1 rfl rfl)
theorem dX4_fails_2 : decode cX4_fails 2 = .ok (.getfield 198, 3) := dk_180 0 198 (dk_at dksX4_fails_0 2 rfl rfl)
theorem dX4_fails_5 : decode cX4_fails 5 = .ok (.iconst (-1), 1) := dk_2 (dk_at dksX4_fails_0 5 rfl rfl)
theorem dX4_fails_6 : decode cX4_fails 6 = .ok (.if_icmp .ne 7, 3) := dk_160 0 7 (dk_at dksX4_fails_0 6 rfl rfl)
theorem dX4_fails_9 : decode cX4_fails 9 = .ok (.iload_n 1, 1) := dk_27 (dk_at dksX4_fails_0 9 rfl rfl)
theorem dX4_fails_10 : decode cX4_fails 10 = .ok (.goto 7, 3) := dk_167 0 7 (dk_at dksX4_fails_0 10 rfl rfl)
theorem dX4_fails_13 : decode cX4_fails 13 = .ok (.aload_n 0, 1) := dk_42 (dk_at dksX4_fails_0 13 rfl rfl)
theorem dX4_fails_14 : decode cX4_fails 14 = .ok (.getfield 198, 3) := dk_180 0 198 (dk_at dksX4_fails_0 14 rfl rfl)
theorem dX4_fails_17 : decode cX4_fails 17 = .ok (.putfield 198, 3) := dk_181 0 198 (dk_at dksX4_fails_0 17 rfl rfl)
theorem dX4_fails_20 : decode cX4_fails 20 = .ok (.return_, 1) := dk_177 (dk_at dksX4_fails_0 20 rfl rfl)
abbrev cX4_readsNumber : ByteArray := prog_17_method_58_code
def yX4_readsNumber : MethodName := ⟨RX4, "readsNumber", "()I"⟩
def dkwX4_readsNumber_4 : List UInt8 := [42, 182, 0, 220, 28, 172]
abbrev dktX4_readsNumber_4 : List UInt8 := dkwX4_readsNumber_4 ++ []
def dkwX4_readsNumber_3 : List UInt8 := [182, 0, 195, 133, 20, 0, 212, 20, 0, 214, 184, 0, 51, 153, 0, 11, 42, 42, 180, 0, 192, 182, 0, 216]
abbrev dktX4_readsNumber_3 : List UInt8 := dkwX4_readsNumber_3 ++ dktX4_readsNumber_4
def dkwX4_readsNumber_2 : List UInt8 := [61, 42, 89, 180, 0, 192, 4, 96, 181, 0, 192, 167, 255, 206, 42, 180, 0, 192, 27, 159, 0, 20, 42]
abbrev dktX4_readsNumber_2 : List UInt8 := dkwX4_readsNumber_2 ++ dktX4_readsNumber_3
def dkwX4_readsNumber_1 : List UInt8 := [20, 0, 212, 20, 0, 214, 184, 0, 51, 153, 0, 29, 16, 10, 28, 104, 42, 182, 0, 195, 96, 16, 48, 100]
abbrev dktX4_readsNumber_1 : List UInt8 := dkwX4_readsNumber_1 ++ dktX4_readsNumber_2
def dkwX4_readsNumber_0 : List UInt8 := [42, 180, 0, 192, 60, 3, 61, 42, 180, 0, 192, 27, 6, 96, 162, 0, 46, 42, 182, 0, 195, 133]
abbrev dktX4_readsNumber_0 : List UInt8 := dkwX4_readsNumber_0 ++ dktX4_readsNumber_1
theorem dksX4_readsNumber_0 : cX4_readsNumber.data.toList.drop 0 = dktX4_readsNumber_0 := by decide +kernel
theorem dksX4_readsNumber_1 : cX4_readsNumber.data.toList.drop 22 = dktX4_readsNumber_1 := dk_seg dksX4_readsNumber_0 22 rfl rfl
theorem dksX4_readsNumber_2 : cX4_readsNumber.data.toList.drop 46 = dktX4_readsNumber_2 := dk_seg dksX4_readsNumber_1 24 rfl rfl
theorem dksX4_readsNumber_3 : cX4_readsNumber.data.toList.drop 69 = dktX4_readsNumber_3 := dk_seg dksX4_readsNumber_2 23 rfl rfl
theorem dksX4_readsNumber_4 : cX4_readsNumber.data.toList.drop 93 = dktX4_readsNumber_4 := dk_seg dksX4_readsNumber_3 24 rfl rfl
theorem dX4_readsNumber_0 : decode cX4_readsNumber 0 = .ok (.aload_n 0, 1) := dk_42 (dk_at dksX4_readsNumber_0 0 rfl rfl)
theorem dX4_readsNumber_1 : decode cX4_readsNumber 1 = .ok (.getfield 192, 3) := dk_180 0 192 (dk_at dksX4_readsNumber_0 1 rfl rfl)
theorem dX4_readsNumber_4 : decode cX4_readsNumber 4 = .ok (.istore_n 1, 1) := dk_60 (dk_at dksX4_readsNumber_0 4 rfl rfl)
theorem dX4_readsNumber_5 : decode cX4_readsNumber 5 = .ok (.iconst 0, 1) := dk_3 (dk_at dksX4_readsNumber_0 5 rfl rfl)
theorem dX4_readsNumber_6 : decode cX4_readsNumber 6 = .ok (.istore_n 2, 1) := dk_61 (dk_at dksX4_readsNumber_0 6 rfl rfl)
theorem dX4_readsNumber_7 : decode cX4_readsNumber 7 = .ok (.aload_n 0, 1) := dk_42 (dk_at dksX4_readsNumber_0 7 rfl rfl)
theorem dX4_readsNumber_8 : decode cX4_readsNumber 8 = .ok (.getfield 192, 3) := dk_180 0 192 (dk_at dksX4_readsNumber_0 8 rfl rfl)
theorem dX4_readsNumber_11 : decode cX4_readsNumber 11 = .ok (.iload_n 1, 1) := dk_27 (dk_at dksX4_readsNumber_0 11 rfl rfl)
theorem dX4_readsNumber_12 : decode cX4_readsNumber 12 = .ok (.iconst 3, 1) := dk_6 (dk_at dksX4_readsNumber_0 12 rfl rfl)
theorem dX4_readsNumber_13 : decode cX4_readsNumber 13 = .ok (.iadd, 1) := dk_96 (dk_at dksX4_readsNumber_0 13 rfl rfl)
theorem dX4_readsNumber_14 : decode cX4_readsNumber 14 = .ok (.if_icmp .ge 46, 3) := dk_162 0 46 (dk_at dksX4_readsNumber_0 14 rfl rfl)
theorem dX4_readsNumber_17 : decode cX4_readsNumber 17 = .ok (.aload_n 0, 1) := dk_42 (dk_at dksX4_readsNumber_0 17 rfl rfl)
theorem dX4_readsNumber_18 : decode cX4_readsNumber 18 = .ok (.invokevirtual 195, 3) := dk_182 0 195 (dk_at dksX4_readsNumber_0 18 rfl rfl)
theorem dX4_readsNumber_21 : decode cX4_readsNumber 21 = .ok (.i2l, 1) := dk_133 (dk_at dksX4_readsNumber_0 21 rfl rfl)
theorem dX4_readsNumber_22 : decode cX4_readsNumber 22 = .ok (.ldc2_w 212, 3) := dk_20 0 212 (dk_at dksX4_readsNumber_1 0 rfl rfl)
theorem dX4_readsNumber_25 : decode cX4_readsNumber 25 = .ok (.ldc2_w 214, 3) := dk_20 0 214 (dk_at dksX4_readsNumber_1 3 rfl rfl)
theorem dX4_readsNumber_28 : decode cX4_readsNumber 28 = .ok (.invokestatic 51, 3) := dk_184 0 51 (dk_at dksX4_readsNumber_1 6 rfl rfl)
theorem dX4_readsNumber_31 : decode cX4_readsNumber 31 = .ok (.ifCond .eq 29, 3) := dk_153 0 29 (dk_at dksX4_readsNumber_1 9 rfl rfl)
theorem dX4_readsNumber_34 : decode cX4_readsNumber 34 = .ok (.bipush 10, 2) := dk_16 10 (dk_at dksX4_readsNumber_1 12 rfl rfl)
theorem dX4_readsNumber_36 : decode cX4_readsNumber 36 = .ok (.iload_n 2, 1) := dk_28 (dk_at dksX4_readsNumber_1 14 rfl rfl)
theorem dX4_readsNumber_37 : decode cX4_readsNumber 37 = .ok (.imul, 1) := dk_104 (dk_at dksX4_readsNumber_1 15 rfl rfl)
theorem dX4_readsNumber_38 : decode cX4_readsNumber 38 = .ok (.aload_n 0, 1) := dk_42 (dk_at dksX4_readsNumber_1 16 rfl rfl)
theorem dX4_readsNumber_39 : decode cX4_readsNumber 39 = .ok (.invokevirtual 195, 3) := dk_182 0 195 (dk_at dksX4_readsNumber_1 17 rfl rfl)
theorem dX4_readsNumber_42 : decode cX4_readsNumber 42 = .ok (.iadd, 1) := dk_96 (dk_at dksX4_readsNumber_1 20 rfl rfl)
theorem dX4_readsNumber_43 : decode cX4_readsNumber 43 = .ok (.bipush 48, 2) := dk_16 48 (dk_at dksX4_readsNumber_1 21 rfl rfl)
theorem dX4_readsNumber_45 : decode cX4_readsNumber 45 = .ok (.isub, 1) := dk_100 (dk_at dksX4_readsNumber_1 23 rfl rfl)
theorem dX4_readsNumber_46 : decode cX4_readsNumber 46 = .ok (.istore_n 2, 1) := dk_61 (dk_at dksX4_readsNumber_2 0 rfl rfl)
theorem dX4_readsNumber_47 : decode cX4_readsNumber 47 = .ok (.aload_n 0, 1) := dk_42 (dk_at dksX4_readsNumber_2 1 rfl rfl)
theorem dX4_readsNumber_48 : decode cX4_readsNumber 48 = .ok (.dup, 1) := dk_89 (dk_at dksX4_readsNumber_2 2 rfl rfl)
theorem dX4_readsNumber_49 : decode cX4_readsNumber 49 = .ok (.getfield 192, 3) := dk_180 0 192 (dk_at dksX4_readsNumber_2 3 rfl rfl)
theorem dX4_readsNumber_52 : decode cX4_readsNumber 52 = .ok (.iconst 1, 1) := dk_4 (dk_at dksX4_readsNumber_2 6 rfl rfl)
theorem dX4_readsNumber_53 : decode cX4_readsNumber 53 = .ok (.iadd, 1) := dk_96 (dk_at dksX4_readsNumber_2 7 rfl rfl)
theorem dX4_readsNumber_54 : decode cX4_readsNumber 54 = .ok (.putfield 192, 3) := dk_181 0 192 (dk_at dksX4_readsNumber_2 8 rfl rfl)
theorem dX4_readsNumber_57 : decode cX4_readsNumber 57 = .ok (.goto (-50), 3) := dk_167 255 206 (dk_at dksX4_readsNumber_2 11 rfl rfl)
theorem dX4_readsNumber_60 : decode cX4_readsNumber 60 = .ok (.aload_n 0, 1) := dk_42 (dk_at dksX4_readsNumber_2 14 rfl rfl)
theorem dX4_readsNumber_61 : decode cX4_readsNumber 61 = .ok (.getfield 192, 3) := dk_180 0 192 (dk_at dksX4_readsNumber_2 15 rfl rfl)
theorem dX4_readsNumber_64 : decode cX4_readsNumber 64 = .ok (.iload_n 1, 1) := dk_27 (dk_at dksX4_readsNumber_2 18 rfl rfl)
theorem dX4_readsNumber_65 : decode cX4_readsNumber 65 = .ok (.if_icmp .eq 20, 3) := dk_159 0 20 (dk_at dksX4_readsNumber_2 19 rfl rfl)
theorem dX4_readsNumber_68 : decode cX4_readsNumber 68 = .ok (.aload_n 0, 1) := dk_42 (dk_at dksX4_readsNumber_2 22 rfl rfl)
theorem dX4_readsNumber_69 : decode cX4_readsNumber 69 = .ok (.invokevirtual 195, 3) := dk_182 0 195 (dk_at dksX4_readsNumber_3 0 rfl rfl)
theorem dX4_readsNumber_72 : decode cX4_readsNumber 72 = .ok (.i2l, 1) := dk_133 (dk_at dksX4_readsNumber_3 3 rfl rfl)
theorem dX4_readsNumber_73 : decode cX4_readsNumber 73 = .ok (.ldc2_w 212, 3) := dk_20 0 212 (dk_at dksX4_readsNumber_3 4 rfl rfl)
theorem dX4_readsNumber_76 : decode cX4_readsNumber 76 = .ok (.ldc2_w 214, 3) := dk_20 0 214 (dk_at dksX4_readsNumber_3 7 rfl rfl)
theorem dX4_readsNumber_79 : decode cX4_readsNumber 79 = .ok (.invokestatic 51, 3) := dk_184 0 51 (dk_at dksX4_readsNumber_3 10 rfl rfl)
theorem dX4_readsNumber_82 : decode cX4_readsNumber 82 = .ok (.ifCond .eq 11, 3) := dk_153 0 11 (dk_at dksX4_readsNumber_3 13 rfl rfl)
theorem dX4_readsNumber_85 : decode cX4_readsNumber 85 = .ok (.aload_n 0, 1) := dk_42 (dk_at dksX4_readsNumber_3 16 rfl rfl)
theorem dX4_readsNumber_86 : decode cX4_readsNumber 86 = .ok (.aload_n 0, 1) := dk_42 (dk_at dksX4_readsNumber_3 17 rfl rfl)
theorem dX4_readsNumber_87 : decode cX4_readsNumber 87 = .ok (.getfield 192, 3) := dk_180 0 192 (dk_at dksX4_readsNumber_3 18 rfl rfl)
theorem dX4_readsNumber_90 : decode cX4_readsNumber 90 = .ok (.invokevirtual 216, 3) := dk_182 0 216 (dk_at dksX4_readsNumber_3 21 rfl rfl)
theorem dX4_readsNumber_93 : decode cX4_readsNumber 93 = .ok (.aload_n 0, 1) := dk_42 (dk_at dksX4_readsNumber_4 0 rfl rfl)
theorem dX4_readsNumber_94 : decode cX4_readsNumber 94 = .ok (.invokevirtual 220, 3) := dk_182 0 220 (dk_at dksX4_readsNumber_4 1 rfl rfl)
theorem dX4_readsNumber_97 : decode cX4_readsNumber 97 = .ok (.iload_n 2, 1) := dk_28 (dk_at dksX4_readsNumber_4 4 rfl rfl)
theorem dX4_readsNumber_98 : decode cX4_readsNumber 98 = .ok (.ireturn, 1) := dk_172 (dk_at dksX4_readsNumber_4 5 rfl rfl)
abbrev cX4_readsWhole : ByteArray := prog_17_method_59_code
def yX4_readsWhole : MethodName := ⟨RX4, "readsWhole", "()I"⟩
def dkwX4_readsWhole_2 : List UInt8 := [172]
abbrev dktX4_readsWhole_2 : List UInt8 := dkwX4_readsWhole_2 ++ []
def dkwX4_readsWhole_1 : List UInt8 := [4, 96, 181, 0, 192, 42, 182, 0, 220, 42, 182, 0, 223, 61, 27, 153, 0, 8, 28, 116, 167, 0, 4, 28]
abbrev dktX4_readsWhole_1 : List UInt8 := dkwX4_readsWhole_1 ++ dktX4_readsWhole_2
def dkwX4_readsWhole_0 : List UInt8 := [42, 182, 0, 195, 16, 45, 160, 0, 7, 4, 167, 0, 4, 3, 60, 27, 153, 0, 17, 42, 89, 180, 0, 192]
abbrev dktX4_readsWhole_0 : List UInt8 := dkwX4_readsWhole_0 ++ dktX4_readsWhole_1
theorem dksX4_readsWhole_0 : cX4_readsWhole.data.toList.drop 0 = dktX4_readsWhole_0 := by decide +kernel
theorem dksX4_readsWhole_1 : cX4_readsWhole.data.toList.drop 24 = dktX4_readsWhole_1 := dk_seg dksX4_readsWhole_0 24 rfl rfl
theorem dksX4_readsWhole_2 : cX4_readsWhole.data.toList.drop 48 = dktX4_readsWhole_2 := dk_seg dksX4_readsWhole_1 24 rfl rfl
theorem dX4_readsWhole_0 : decode cX4_readsWhole 0 = .ok (.aload_n 0, 1) := dk_42 (dk_at dksX4_readsWhole_0 0 rfl rfl)
theorem dX4_readsWhole_1 : decode cX4_readsWhole 1 = .ok (.invokevirtual 195, 3) := dk_182 0 195 (dk_at dksX4_readsWhole_0 1 rfl rfl)
theorem dX4_readsWhole_4 : decode cX4_readsWhole 4 = .ok (.bipush 45, 2) := dk_16 45 (dk_at dksX4_readsWhole_0 4 rfl rfl)
theorem dX4_readsWhole_6 : decode cX4_readsWhole 6 = .ok (.if_icmp .ne 7, 3) := dk_160 0 7 (dk_at dksX4_readsWhole_0 6 rfl rfl)
theorem dX4_readsWhole_9 : decode cX4_readsWhole 9 = .ok (.iconst 1, 1) := dk_4 (dk_at dksX4_readsWhole_0 9 rfl rfl)
theorem dX4_readsWhole_10 : decode cX4_readsWhole 10 = .ok (.goto 4, 3) := dk_167 0 4 (dk_at dksX4_readsWhole_0 10 rfl rfl)
theorem dX4_readsWhole_13 : decode cX4_readsWhole 13 = .ok (.iconst 0, 1) := dk_3 (dk_at dksX4_readsWhole_0 13 rfl rfl)
theorem dX4_readsWhole_14 : decode cX4_readsWhole 14 = .ok (.istore_n 1, 1) := dk_60 (dk_at dksX4_readsWhole_0 14 rfl rfl)
theorem dX4_readsWhole_15 : decode cX4_readsWhole 15 = .ok (.iload_n 1, 1) := dk_27 (dk_at dksX4_readsWhole_0 15 rfl rfl)
theorem dX4_readsWhole_16 : decode cX4_readsWhole 16 = .ok (.ifCond .eq 17, 3) := dk_153 0 17 (dk_at dksX4_readsWhole_0 16 rfl rfl)
theorem dX4_readsWhole_19 : decode cX4_readsWhole 19 = .ok (.aload_n 0, 1) := dk_42 (dk_at dksX4_readsWhole_0 19 rfl rfl)
theorem dX4_readsWhole_20 : decode cX4_readsWhole 20 = .ok (.dup, 1) := dk_89 (dk_at dksX4_readsWhole_0 20 rfl rfl)
theorem dX4_readsWhole_21 : decode cX4_readsWhole 21 = .ok (.getfield 192, 3) := dk_180 0 192 (dk_at dksX4_readsWhole_0 21 rfl rfl)
theorem dX4_readsWhole_24 : decode cX4_readsWhole 24 = .ok (.iconst 1, 1) := dk_4 (dk_at dksX4_readsWhole_1 0 rfl rfl)
theorem dX4_readsWhole_25 : decode cX4_readsWhole 25 = .ok (.iadd, 1) := dk_96 (dk_at dksX4_readsWhole_1 1 rfl rfl)
theorem dX4_readsWhole_26 : decode cX4_readsWhole 26 = .ok (.putfield 192, 3) := dk_181 0 192 (dk_at dksX4_readsWhole_1 2 rfl rfl)
theorem dX4_readsWhole_29 : decode cX4_readsWhole 29 = .ok (.aload_n 0, 1) := dk_42 (dk_at dksX4_readsWhole_1 5 rfl rfl)
theorem dX4_readsWhole_30 : decode cX4_readsWhole 30 = .ok (.invokevirtual 220, 3) := dk_182 0 220 (dk_at dksX4_readsWhole_1 6 rfl rfl)
theorem dX4_readsWhole_33 : decode cX4_readsWhole 33 = .ok (.aload_n 0, 1) := dk_42 (dk_at dksX4_readsWhole_1 9 rfl rfl)
theorem dX4_readsWhole_34 : decode cX4_readsWhole 34 = .ok (.invokevirtual 223, 3) := dk_182 0 223 (dk_at dksX4_readsWhole_1 10 rfl rfl)
theorem dX4_readsWhole_37 : decode cX4_readsWhole 37 = .ok (.istore_n 2, 1) := dk_61 (dk_at dksX4_readsWhole_1 13 rfl rfl)
theorem dX4_readsWhole_38 : decode cX4_readsWhole 38 = .ok (.iload_n 1, 1) := dk_27 (dk_at dksX4_readsWhole_1 14 rfl rfl)
theorem dX4_readsWhole_39 : decode cX4_readsWhole 39 = .ok (.ifCond .eq 8, 3) := dk_153 0 8 (dk_at dksX4_readsWhole_1 15 rfl rfl)
theorem dX4_readsWhole_42 : decode cX4_readsWhole 42 = .ok (.iload_n 2, 1) := dk_28 (dk_at dksX4_readsWhole_1 18 rfl rfl)
theorem dX4_readsWhole_43 : decode cX4_readsWhole 43 = .ok (.ineg, 1) := dk_116 (dk_at dksX4_readsWhole_1 19 rfl rfl)
theorem dX4_readsWhole_44 : decode cX4_readsWhole 44 = .ok (.goto 4, 3) := dk_167 0 4 (dk_at dksX4_readsWhole_1 20 rfl rfl)
theorem dX4_readsWhole_47 : decode cX4_readsWhole 47 = .ok (.iload_n 2, 1) := dk_28 (dk_at dksX4_readsWhole_1 23 rfl rfl)
theorem dX4_readsWhole_48 : decode cX4_readsWhole 48 = .ok (.ireturn, 1) := dk_172 (dk_at dksX4_readsWhole_2 0 rfl rfl)
abbrev cX4_count : ByteArray := prog_17_method_67_code
def yX4_count : MethodName := ⟨RX4, "count", "(I)I"⟩
def dkwX4_count_1 : List UInt8 := [16, 254, 172]
abbrev dktX4_count_1 : List UInt8 := dkwX4_count_1 ++ []
def dkwX4_count_0 : List UInt8 := [42, 182, 0, 83, 27, 133, 9, 20, 1, 11, 184, 0, 51, 153, 0, 11, 42, 27, 182, 1, 13, 167, 0, 5]
abbrev dktX4_count_0 : List UInt8 := dkwX4_count_0 ++ dktX4_count_1
theorem dksX4_count_0 : cX4_count.data.toList.drop 0 = dktX4_count_0 := by decide +kernel
theorem dksX4_count_1 : cX4_count.data.toList.drop 24 = dktX4_count_1 := dk_seg dksX4_count_0 24 rfl rfl
theorem dX4_count_0 : decode cX4_count 0 = .ok (.aload_n 0, 1) := dk_42 (dk_at dksX4_count_0 0 rfl rfl)
theorem dX4_count_1 : decode cX4_count 1 = .ok (.invokevirtual 83, 3) := dk_182 0 83 (dk_at dksX4_count_0 1 rfl rfl)
theorem dX4_count_4 : decode cX4_count 4 = .ok (.iload_n 1, 1) := dk_27 (dk_at dksX4_count_0 4 rfl rfl)
theorem dX4_count_5 : decode cX4_count 5 = .ok (.i2l, 1) := dk_133 (dk_at dksX4_count_0 5 rfl rfl)
theorem dX4_count_6 : decode cX4_count 6 = .ok (.lconst 0, 1) := dk_9 (dk_at dksX4_count_0 6 rfl rfl)
theorem dX4_count_7 : decode cX4_count 7 = .ok (.ldc2_w 267, 3) := dk_20 1 11 (dk_at dksX4_count_0 7 rfl rfl)
theorem dX4_count_10 : decode cX4_count 10 = .ok (.invokestatic 51, 3) := dk_184 0 51 (dk_at dksX4_count_0 10 rfl rfl)
theorem dX4_count_13 : decode cX4_count 13 = .ok (.ifCond .eq 11, 3) := dk_153 0 11 (dk_at dksX4_count_0 13 rfl rfl)
theorem dX4_count_16 : decode cX4_count 16 = .ok (.aload_n 0, 1) := dk_42 (dk_at dksX4_count_0 16 rfl rfl)
theorem dX4_count_17 : decode cX4_count 17 = .ok (.iload_n 1, 1) := dk_27 (dk_at dksX4_count_0 17 rfl rfl)
theorem dX4_count_18 : decode cX4_count 18 = .ok (.invokevirtual 269, 3) := dk_182 1 13 (dk_at dksX4_count_0 18 rfl rfl)
theorem dX4_count_21 : decode cX4_count 21 = .ok (.goto 5, 3) := dk_167 0 5 (dk_at dksX4_count_0 21 rfl rfl)
theorem dX4_count_24 : decode cX4_count 24 = .ok (.bipush (-2), 2) := dk_16 254 (dk_at dksX4_count_1 0 rfl rfl)
theorem dX4_count_26 : decode cX4_count 26 = .ok (.ireturn, 1) := dk_172 (dk_at dksX4_count_1 2 rfl rfl)
abbrev cX4_number : ByteArray := prog_17_method_66_code
def yX4_number : MethodName := ⟨RX4, "number", "(I)I"⟩
def dkwX4_number_4 : List UInt8 := [180, 0, 17, 172, 42, 180, 0, 182, 172, 42, 180, 0, 189, 172, 42, 182, 1, 8, 172]
abbrev dktX4_number_4 : List UInt8 := dkwX4_number_4 ++ []
def dkwX4_number_3 : List UInt8 := [172, 42, 182, 1, 5, 172, 42, 180, 0, 55, 172, 42, 180, 0, 58, 172, 42, 180, 0, 13, 172, 42]
abbrev dktX4_number_3 : List UInt8 := dkwX4_number_3 ++ dktX4_number_4
def dkwX4_number_2 : List UInt8 := [42, 180, 0, 48, 172, 42, 182, 0, 125, 172, 42, 182, 0, 255, 172, 42, 182, 1, 2, 172, 42, 182, 0, 129]
abbrev dktX4_number_2 : List UInt8 := dkwX4_number_2 ++ dktX4_number_3
def dkwX4_number_1 : List UInt8 := [170, 0, 0, 0, 0, 0, 123, 0, 0, 0, 0, 0, 0, 0, 11, 0, 0, 0, 63, 0, 0, 0, 68, 0, 0, 0, 73, 0, 0, 0, 78, 0, 0, 0, 83, 0, 0, 0, 88, 0, 0, 0, 93, 0, 0, 0, 98, 0, 0, 0, 103, 0, 0, 0, 108, 0, 0, 0, 113, 0, 0, 0, 118]
abbrev dktX4_number_1 : List UInt8 := dkwX4_number_1 ++ dktX4_number_2
def dkwX4_number_0 : List UInt8 := [27]
abbrev dktX4_number_0 : List UInt8 := dkwX4_number_0 ++ dktX4_number_1
theorem dksX4_number_0 : cX4_number.data.toList.drop 0 = dktX4_number_0 := by decide +kernel
theorem dksX4_number_1 : cX4_number.data.toList.drop 1 = dktX4_number_1 := dk_seg dksX4_number_0 1 rfl rfl
theorem dksX4_number_2 : cX4_number.data.toList.drop 64 = dktX4_number_2 := dk_seg dksX4_number_1 63 rfl rfl
theorem dksX4_number_3 : cX4_number.data.toList.drop 88 = dktX4_number_3 := dk_seg dksX4_number_2 24 rfl rfl
theorem dksX4_number_4 : cX4_number.data.toList.drop 110 = dktX4_number_4 := dk_seg dksX4_number_3 22 rfl rfl
theorem dX4_number_0 : decode cX4_number 0 = .ok (.iload_n 1, 1) := dk_27 (dk_at dksX4_number_0 0 rfl rfl)
theorem dX4_number_1 : decode cX4_number 1 = .ok (.tableswitch 123 0 11 #[63, 68, 73, 78, 83, 88, 93, 98, 103, 108, 113, 118], 63) := by decide +kernel
theorem dX4_number_64 : decode cX4_number 64 = .ok (.aload_n 0, 1) := dk_42 (dk_at dksX4_number_2 0 rfl rfl)
theorem dX4_number_65 : decode cX4_number 65 = .ok (.getfield 48, 3) := dk_180 0 48 (dk_at dksX4_number_2 1 rfl rfl)
theorem dX4_number_68 : decode cX4_number 68 = .ok (.ireturn, 1) := dk_172 (dk_at dksX4_number_2 4 rfl rfl)
theorem dX4_number_69 : decode cX4_number 69 = .ok (.aload_n 0, 1) := dk_42 (dk_at dksX4_number_2 5 rfl rfl)
theorem dX4_number_70 : decode cX4_number 70 = .ok (.invokevirtual 125, 3) := dk_182 0 125 (dk_at dksX4_number_2 6 rfl rfl)
theorem dX4_number_73 : decode cX4_number 73 = .ok (.ireturn, 1) := dk_172 (dk_at dksX4_number_2 9 rfl rfl)
theorem dX4_number_74 : decode cX4_number 74 = .ok (.aload_n 0, 1) := dk_42 (dk_at dksX4_number_2 10 rfl rfl)
theorem dX4_number_75 : decode cX4_number 75 = .ok (.invokevirtual 255, 3) := dk_182 0 255 (dk_at dksX4_number_2 11 rfl rfl)
theorem dX4_number_78 : decode cX4_number 78 = .ok (.ireturn, 1) := dk_172 (dk_at dksX4_number_2 14 rfl rfl)
theorem dX4_number_79 : decode cX4_number 79 = .ok (.aload_n 0, 1) := dk_42 (dk_at dksX4_number_2 15 rfl rfl)
theorem dX4_number_80 : decode cX4_number 80 = .ok (.invokevirtual 258, 3) := dk_182 1 2 (dk_at dksX4_number_2 16 rfl rfl)
theorem dX4_number_83 : decode cX4_number 83 = .ok (.ireturn, 1) := dk_172 (dk_at dksX4_number_2 19 rfl rfl)
theorem dX4_number_84 : decode cX4_number 84 = .ok (.aload_n 0, 1) := dk_42 (dk_at dksX4_number_2 20 rfl rfl)
theorem dX4_number_85 : decode cX4_number 85 = .ok (.invokevirtual 129, 3) := dk_182 0 129 (dk_at dksX4_number_2 21 rfl rfl)
theorem dX4_number_88 : decode cX4_number 88 = .ok (.ireturn, 1) := dk_172 (dk_at dksX4_number_3 0 rfl rfl)
theorem dX4_number_89 : decode cX4_number 89 = .ok (.aload_n 0, 1) := dk_42 (dk_at dksX4_number_3 1 rfl rfl)
theorem dX4_number_90 : decode cX4_number 90 = .ok (.invokevirtual 261, 3) := dk_182 1 5 (dk_at dksX4_number_3 2 rfl rfl)
theorem dX4_number_93 : decode cX4_number 93 = .ok (.ireturn, 1) := dk_172 (dk_at dksX4_number_3 5 rfl rfl)
theorem dX4_number_94 : decode cX4_number 94 = .ok (.aload_n 0, 1) := dk_42 (dk_at dksX4_number_3 6 rfl rfl)
theorem dX4_number_95 : decode cX4_number 95 = .ok (.getfield 55, 3) := dk_180 0 55 (dk_at dksX4_number_3 7 rfl rfl)
theorem dX4_number_98 : decode cX4_number 98 = .ok (.ireturn, 1) := dk_172 (dk_at dksX4_number_3 10 rfl rfl)
theorem dX4_number_99 : decode cX4_number 99 = .ok (.aload_n 0, 1) := dk_42 (dk_at dksX4_number_3 11 rfl rfl)
theorem dX4_number_100 : decode cX4_number 100 = .ok (.getfield 58, 3) := dk_180 0 58 (dk_at dksX4_number_3 12 rfl rfl)
theorem dX4_number_103 : decode cX4_number 103 = .ok (.ireturn, 1) := dk_172 (dk_at dksX4_number_3 15 rfl rfl)
theorem dX4_number_104 : decode cX4_number 104 = .ok (.aload_n 0, 1) := dk_42 (dk_at dksX4_number_3 16 rfl rfl)
theorem dX4_number_105 : decode cX4_number 105 = .ok (.getfield 13, 3) := dk_180 0 13 (dk_at dksX4_number_3 17 rfl rfl)
theorem dX4_number_108 : decode cX4_number 108 = .ok (.ireturn, 1) := dk_172 (dk_at dksX4_number_3 20 rfl rfl)
theorem dX4_number_109 : decode cX4_number 109 = .ok (.aload_n 0, 1) := dk_42 (dk_at dksX4_number_3 21 rfl rfl)
theorem dX4_number_110 : decode cX4_number 110 = .ok (.getfield 17, 3) := dk_180 0 17 (dk_at dksX4_number_4 0 rfl rfl)
theorem dX4_number_113 : decode cX4_number 113 = .ok (.ireturn, 1) := dk_172 (dk_at dksX4_number_4 3 rfl rfl)
theorem dX4_number_114 : decode cX4_number 114 = .ok (.aload_n 0, 1) := dk_42 (dk_at dksX4_number_4 4 rfl rfl)
theorem dX4_number_115 : decode cX4_number 115 = .ok (.getfield 182, 3) := dk_180 0 182 (dk_at dksX4_number_4 5 rfl rfl)
theorem dX4_number_118 : decode cX4_number 118 = .ok (.ireturn, 1) := dk_172 (dk_at dksX4_number_4 8 rfl rfl)
theorem dX4_number_119 : decode cX4_number 119 = .ok (.aload_n 0, 1) := dk_42 (dk_at dksX4_number_4 9 rfl rfl)
theorem dX4_number_120 : decode cX4_number 120 = .ok (.getfield 189, 3) := dk_180 0 189 (dk_at dksX4_number_4 10 rfl rfl)
theorem dX4_number_123 : decode cX4_number 123 = .ok (.ireturn, 1) := dk_172 (dk_at dksX4_number_4 13 rfl rfl)
theorem dX4_number_124 : decode cX4_number 124 = .ok (.aload_n 0, 1) := dk_42 (dk_at dksX4_number_4 14 rfl rfl)
theorem dX4_number_125 : decode cX4_number 125 = .ok (.invokevirtual 264, 3) := dk_182 1 8 (dk_at dksX4_number_4 15 rfl rfl)
theorem dX4_number_128 : decode cX4_number 128 = .ok (.ireturn, 1) := dk_172 (dk_at dksX4_number_4 18 rfl rfl)
abbrev cX4_places : ByteArray := prog_17_method_62_code
def yX4_places : MethodName := ⟨RX4, "places", "()I"⟩
def dkwX4_places_1 : List UInt8 := [167, 255, 237, 27, 172]
abbrev dktX4_places_1 : List UInt8 := dkwX4_places_1 ++ []
def dkwX4_places_0 : List UInt8 := [3, 60, 3, 61, 28, 42, 180, 0, 48, 162, 0, 17, 27, 42, 28, 182, 0, 112, 96, 60, 132, 2, 1]
abbrev dktX4_places_0 : List UInt8 := dkwX4_places_0 ++ dktX4_places_1
theorem dksX4_places_0 : cX4_places.data.toList.drop 0 = dktX4_places_0 := by decide +kernel
theorem dksX4_places_1 : cX4_places.data.toList.drop 23 = dktX4_places_1 := dk_seg dksX4_places_0 23 rfl rfl
theorem dX4_places_0 : decode cX4_places 0 = .ok (.iconst 0, 1) := dk_3 (dk_at dksX4_places_0 0 rfl rfl)
theorem dX4_places_1 : decode cX4_places 1 = .ok (.istore_n 1, 1) := dk_60 (dk_at dksX4_places_0 1 rfl rfl)
theorem dX4_places_2 : decode cX4_places 2 = .ok (.iconst 0, 1) := dk_3 (dk_at dksX4_places_0 2 rfl rfl)
theorem dX4_places_3 : decode cX4_places 3 = .ok (.istore_n 2, 1) := dk_61 (dk_at dksX4_places_0 3 rfl rfl)
theorem dX4_places_4 : decode cX4_places 4 = .ok (.iload_n 2, 1) := dk_28 (dk_at dksX4_places_0 4 rfl rfl)
theorem dX4_places_5 : decode cX4_places 5 = .ok (.aload_n 0, 1) := dk_42 (dk_at dksX4_places_0 5 rfl rfl)
theorem dX4_places_6 : decode cX4_places 6 = .ok (.getfield 48, 3) := dk_180 0 48 (dk_at dksX4_places_0 6 rfl rfl)
theorem dX4_places_9 : decode cX4_places 9 = .ok (.if_icmp .ge 17, 3) := dk_162 0 17 (dk_at dksX4_places_0 9 rfl rfl)
theorem dX4_places_12 : decode cX4_places 12 = .ok (.iload_n 1, 1) := dk_27 (dk_at dksX4_places_0 12 rfl rfl)
theorem dX4_places_13 : decode cX4_places 13 = .ok (.aload_n 0, 1) := dk_42 (dk_at dksX4_places_0 13 rfl rfl)
theorem dX4_places_14 : decode cX4_places 14 = .ok (.iload_n 2, 1) := dk_28 (dk_at dksX4_places_0 14 rfl rfl)
theorem dX4_places_15 : decode cX4_places 15 = .ok (.invokevirtual 112, 3) := dk_182 0 112 (dk_at dksX4_places_0 15 rfl rfl)
theorem dX4_places_18 : decode cX4_places 18 = .ok (.iadd, 1) := dk_96 (dk_at dksX4_places_0 18 rfl rfl)
theorem dX4_places_19 : decode cX4_places 19 = .ok (.istore_n 1, 1) := dk_60 (dk_at dksX4_places_0 19 rfl rfl)
theorem dX4_places_20 : decode cX4_places 20 = .ok (.iinc 2 1, 3) := dk_132 2 1 (dk_at dksX4_places_0 20 rfl rfl)
theorem dX4_places_23 : decode cX4_places 23 = .ok (.goto (-19), 3) := dk_167 255 237 (dk_at dksX4_places_1 0 rfl rfl)
theorem dX4_places_26 : decode cX4_places 26 = .ok (.iload_n 1, 1) := dk_27 (dk_at dksX4_places_1 3 rfl rfl)
theorem dX4_places_27 : decode cX4_places 27 = .ok (.ireturn, 1) := dk_172 (dk_at dksX4_places_1 4 rfl rfl)
abbrev cX4_pairs : ByteArray := prog_17_method_63_code
def yX4_pairs : MethodName := ⟨RX4, "pairs", "()I"⟩
def dkwX4_pairs_2 : List UInt8 := [167, 255, 214, 27, 5, 108, 172]
abbrev dktX4_pairs_2 : List UInt8 := dkwX4_pairs_2 ++ []
def dkwX4_pairs_1 : List UInt8 := [153, 0, 18, 42, 28, 16, 8, 108, 28, 16, 8, 112, 182, 0, 135, 167, 0, 4, 3, 96, 60, 132, 2, 1]
abbrev dktX4_pairs_1 : List UInt8 := dkwX4_pairs_1 ++ dktX4_pairs_2
def dkwX4_pairs_0 : List UInt8 := [3, 60, 3, 61, 28, 16, 8, 42, 180, 0, 48, 104, 162, 0, 37, 27, 42, 180, 0, 20, 28, 51]
abbrev dktX4_pairs_0 : List UInt8 := dkwX4_pairs_0 ++ dktX4_pairs_1
theorem dksX4_pairs_0 : cX4_pairs.data.toList.drop 0 = dktX4_pairs_0 := by decide +kernel
theorem dksX4_pairs_1 : cX4_pairs.data.toList.drop 22 = dktX4_pairs_1 := dk_seg dksX4_pairs_0 22 rfl rfl
theorem dksX4_pairs_2 : cX4_pairs.data.toList.drop 46 = dktX4_pairs_2 := dk_seg dksX4_pairs_1 24 rfl rfl
theorem dX4_pairs_0 : decode cX4_pairs 0 = .ok (.iconst 0, 1) := dk_3 (dk_at dksX4_pairs_0 0 rfl rfl)
theorem dX4_pairs_1 : decode cX4_pairs 1 = .ok (.istore_n 1, 1) := dk_60 (dk_at dksX4_pairs_0 1 rfl rfl)
theorem dX4_pairs_2 : decode cX4_pairs 2 = .ok (.iconst 0, 1) := dk_3 (dk_at dksX4_pairs_0 2 rfl rfl)
theorem dX4_pairs_3 : decode cX4_pairs 3 = .ok (.istore_n 2, 1) := dk_61 (dk_at dksX4_pairs_0 3 rfl rfl)
theorem dX4_pairs_4 : decode cX4_pairs 4 = .ok (.iload_n 2, 1) := dk_28 (dk_at dksX4_pairs_0 4 rfl rfl)
theorem dX4_pairs_5 : decode cX4_pairs 5 = .ok (.bipush 8, 2) := dk_16 8 (dk_at dksX4_pairs_0 5 rfl rfl)
theorem dX4_pairs_7 : decode cX4_pairs 7 = .ok (.aload_n 0, 1) := dk_42 (dk_at dksX4_pairs_0 7 rfl rfl)
theorem dX4_pairs_8 : decode cX4_pairs 8 = .ok (.getfield 48, 3) := dk_180 0 48 (dk_at dksX4_pairs_0 8 rfl rfl)
theorem dX4_pairs_11 : decode cX4_pairs 11 = .ok (.imul, 1) := dk_104 (dk_at dksX4_pairs_0 11 rfl rfl)
theorem dX4_pairs_12 : decode cX4_pairs 12 = .ok (.if_icmp .ge 37, 3) := dk_162 0 37 (dk_at dksX4_pairs_0 12 rfl rfl)
theorem dX4_pairs_15 : decode cX4_pairs 15 = .ok (.iload_n 1, 1) := dk_27 (dk_at dksX4_pairs_0 15 rfl rfl)
theorem dX4_pairs_16 : decode cX4_pairs 16 = .ok (.aload_n 0, 1) := dk_42 (dk_at dksX4_pairs_0 16 rfl rfl)
theorem dX4_pairs_17 : decode cX4_pairs 17 = .ok (.getfield 20, 3) := dk_180 0 20 (dk_at dksX4_pairs_0 17 rfl rfl)
theorem dX4_pairs_20 : decode cX4_pairs 20 = .ok (.iload_n 2, 1) := dk_28 (dk_at dksX4_pairs_0 20 rfl rfl)
theorem dX4_pairs_21 : decode cX4_pairs 21 = .ok (.baload, 1) := dk_51 (dk_at dksX4_pairs_0 21 rfl rfl)
theorem dX4_pairs_22 : decode cX4_pairs 22 = .ok (.ifCond .eq 18, 3) := dk_153 0 18 (dk_at dksX4_pairs_1 0 rfl rfl)
theorem dX4_pairs_25 : decode cX4_pairs 25 = .ok (.aload_n 0, 1) := dk_42 (dk_at dksX4_pairs_1 3 rfl rfl)
theorem dX4_pairs_26 : decode cX4_pairs 26 = .ok (.iload_n 2, 1) := dk_28 (dk_at dksX4_pairs_1 4 rfl rfl)
theorem dX4_pairs_27 : decode cX4_pairs 27 = .ok (.bipush 8, 2) := dk_16 8 (dk_at dksX4_pairs_1 5 rfl rfl)
theorem dX4_pairs_29 : decode cX4_pairs 29 = .ok (.idiv, 1) := dk_108 (dk_at dksX4_pairs_1 7 rfl rfl)
theorem dX4_pairs_30 : decode cX4_pairs 30 = .ok (.iload_n 2, 1) := dk_28 (dk_at dksX4_pairs_1 8 rfl rfl)
theorem dX4_pairs_31 : decode cX4_pairs 31 = .ok (.bipush 8, 2) := dk_16 8 (dk_at dksX4_pairs_1 9 rfl rfl)
theorem dX4_pairs_33 : decode cX4_pairs 33 = .ok (.irem, 1) := dk_112 (dk_at dksX4_pairs_1 11 rfl rfl)
theorem dX4_pairs_34 : decode cX4_pairs 34 = .ok (.invokevirtual 135, 3) := dk_182 0 135 (dk_at dksX4_pairs_1 12 rfl rfl)
theorem dX4_pairs_37 : decode cX4_pairs 37 = .ok (.goto 4, 3) := dk_167 0 4 (dk_at dksX4_pairs_1 15 rfl rfl)
theorem dX4_pairs_40 : decode cX4_pairs 40 = .ok (.iconst 0, 1) := dk_3 (dk_at dksX4_pairs_1 18 rfl rfl)
theorem dX4_pairs_41 : decode cX4_pairs 41 = .ok (.iadd, 1) := dk_96 (dk_at dksX4_pairs_1 19 rfl rfl)
theorem dX4_pairs_42 : decode cX4_pairs 42 = .ok (.istore_n 1, 1) := dk_60 (dk_at dksX4_pairs_1 20 rfl rfl)
theorem dX4_pairs_43 : decode cX4_pairs 43 = .ok (.iinc 2 1, 3) := dk_132 2 1 (dk_at dksX4_pairs_1 21 rfl rfl)
theorem dX4_pairs_46 : decode cX4_pairs 46 = .ok (.goto (-42), 3) := dk_167 255 214 (dk_at dksX4_pairs_2 0 rfl rfl)
theorem dX4_pairs_49 : decode cX4_pairs 49 = .ok (.iload_n 1, 1) := dk_27 (dk_at dksX4_pairs_2 3 rfl rfl)
theorem dX4_pairs_50 : decode cX4_pairs 50 = .ok (.iconst 2, 1) := dk_5 (dk_at dksX4_pairs_2 4 rfl rfl)
theorem dX4_pairs_51 : decode cX4_pairs 51 = .ok (.idiv, 1) := dk_108 (dk_at dksX4_pairs_2 5 rfl rfl)
theorem dX4_pairs_52 : decode cX4_pairs 52 = .ok (.ireturn, 1) := dk_172 (dk_at dksX4_pairs_2 6 rfl rfl)
abbrev cX4_priorities : ByteArray := prog_17_method_64_code
def yX4_priorities : MethodName := ⟨RX4, "priorities", "()I"⟩
def dkwX4_priorities_2 : List UInt8 := [27, 172]
abbrev dktX4_priorities_2 : List UInt8 := dkwX4_priorities_2 ++ []
def dkwX4_priorities_1 : List UInt8 := [159, 0, 15, 42, 180, 0, 7, 16, 80, 28, 96, 46, 167, 0, 4, 3, 96, 60, 132, 2, 1, 167, 255, 216]
abbrev dktX4_priorities_1 : List UInt8 := dkwX4_priorities_1 ++ dktX4_priorities_2
def dkwX4_priorities_0 : List UInt8 := [3, 60, 3, 61, 28, 42, 180, 0, 48, 162, 0, 38, 27, 42, 180, 0, 7, 16, 120, 28, 96, 46, 2]
abbrev dktX4_priorities_0 : List UInt8 := dkwX4_priorities_0 ++ dktX4_priorities_1
theorem dksX4_priorities_0 : cX4_priorities.data.toList.drop 0 = dktX4_priorities_0 := by decide +kernel
theorem dksX4_priorities_1 : cX4_priorities.data.toList.drop 23 = dktX4_priorities_1 := dk_seg dksX4_priorities_0 23 rfl rfl
theorem dksX4_priorities_2 : cX4_priorities.data.toList.drop 47 = dktX4_priorities_2 := dk_seg dksX4_priorities_1 24 rfl rfl
theorem dX4_priorities_0 : decode cX4_priorities 0 = .ok (.iconst 0, 1) := dk_3 (dk_at dksX4_priorities_0 0 rfl rfl)
theorem dX4_priorities_1 : decode cX4_priorities 1 = .ok (.istore_n 1, 1) := dk_60 (dk_at dksX4_priorities_0 1 rfl rfl)
theorem dX4_priorities_2 : decode cX4_priorities 2 = .ok (.iconst 0, 1) := dk_3 (dk_at dksX4_priorities_0 2 rfl rfl)
theorem dX4_priorities_3 : decode cX4_priorities 3 = .ok (.istore_n 2, 1) := dk_61 (dk_at dksX4_priorities_0 3 rfl rfl)
theorem dX4_priorities_4 : decode cX4_priorities 4 = .ok (.iload_n 2, 1) := dk_28 (dk_at dksX4_priorities_0 4 rfl rfl)
theorem dX4_priorities_5 : decode cX4_priorities 5 = .ok (.aload_n 0, 1) := dk_42 (dk_at dksX4_priorities_0 5 rfl rfl)
theorem dX4_priorities_6 : decode cX4_priorities 6 = .ok (.getfield 48, 3) := dk_180 0 48 (dk_at dksX4_priorities_0 6 rfl rfl)
theorem dX4_priorities_9 : decode cX4_priorities 9 = .ok (.if_icmp .ge 38, 3) := dk_162 0 38 (dk_at dksX4_priorities_0 9 rfl rfl)
theorem dX4_priorities_12 : decode cX4_priorities 12 = .ok (.iload_n 1, 1) := dk_27 (dk_at dksX4_priorities_0 12 rfl rfl)
theorem dX4_priorities_13 : decode cX4_priorities 13 = .ok (.aload_n 0, 1) := dk_42 (dk_at dksX4_priorities_0 13 rfl rfl)
theorem dX4_priorities_14 : decode cX4_priorities 14 = .ok (.getfield 7, 3) := dk_180 0 7 (dk_at dksX4_priorities_0 14 rfl rfl)
theorem dX4_priorities_17 : decode cX4_priorities 17 = .ok (.bipush 120, 2) := dk_16 120 (dk_at dksX4_priorities_0 17 rfl rfl)
theorem dX4_priorities_19 : decode cX4_priorities 19 = .ok (.iload_n 2, 1) := dk_28 (dk_at dksX4_priorities_0 19 rfl rfl)
theorem dX4_priorities_20 : decode cX4_priorities 20 = .ok (.iadd, 1) := dk_96 (dk_at dksX4_priorities_0 20 rfl rfl)
theorem dX4_priorities_21 : decode cX4_priorities 21 = .ok (.iaload, 1) := dk_46 (dk_at dksX4_priorities_0 21 rfl rfl)
theorem dX4_priorities_22 : decode cX4_priorities 22 = .ok (.iconst (-1), 1) := dk_2 (dk_at dksX4_priorities_0 22 rfl rfl)
theorem dX4_priorities_23 : decode cX4_priorities 23 = .ok (.if_icmp .eq 15, 3) := dk_159 0 15 (dk_at dksX4_priorities_1 0 rfl rfl)
theorem dX4_priorities_26 : decode cX4_priorities 26 = .ok (.aload_n 0, 1) := dk_42 (dk_at dksX4_priorities_1 3 rfl rfl)
theorem dX4_priorities_27 : decode cX4_priorities 27 = .ok (.getfield 7, 3) := dk_180 0 7 (dk_at dksX4_priorities_1 4 rfl rfl)
theorem dX4_priorities_30 : decode cX4_priorities 30 = .ok (.bipush 80, 2) := dk_16 80 (dk_at dksX4_priorities_1 7 rfl rfl)
theorem dX4_priorities_32 : decode cX4_priorities 32 = .ok (.iload_n 2, 1) := dk_28 (dk_at dksX4_priorities_1 9 rfl rfl)
theorem dX4_priorities_33 : decode cX4_priorities 33 = .ok (.iadd, 1) := dk_96 (dk_at dksX4_priorities_1 10 rfl rfl)
theorem dX4_priorities_34 : decode cX4_priorities 34 = .ok (.iaload, 1) := dk_46 (dk_at dksX4_priorities_1 11 rfl rfl)
theorem dX4_priorities_35 : decode cX4_priorities 35 = .ok (.goto 4, 3) := dk_167 0 4 (dk_at dksX4_priorities_1 12 rfl rfl)
theorem dX4_priorities_38 : decode cX4_priorities 38 = .ok (.iconst 0, 1) := dk_3 (dk_at dksX4_priorities_1 15 rfl rfl)
theorem dX4_priorities_39 : decode cX4_priorities 39 = .ok (.iadd, 1) := dk_96 (dk_at dksX4_priorities_1 16 rfl rfl)
theorem dX4_priorities_40 : decode cX4_priorities 40 = .ok (.istore_n 1, 1) := dk_60 (dk_at dksX4_priorities_1 17 rfl rfl)
theorem dX4_priorities_41 : decode cX4_priorities 41 = .ok (.iinc 2 1, 3) := dk_132 2 1 (dk_at dksX4_priorities_1 18 rfl rfl)
theorem dX4_priorities_44 : decode cX4_priorities 44 = .ok (.goto (-40), 3) := dk_167 255 216 (dk_at dksX4_priorities_1 21 rfl rfl)
theorem dX4_priorities_47 : decode cX4_priorities 47 = .ok (.iload_n 1, 1) := dk_27 (dk_at dksX4_priorities_2 0 rfl rfl)
theorem dX4_priorities_48 : decode cX4_priorities 48 = .ok (.ireturn, 1) := dk_172 (dk_at dksX4_priorities_2 1 rfl rfl)
abbrev cX4_pushing : ByteArray := prog_17_method_65_code
def yX4_pushing : MethodName := ⟨RX4, "pushing", "()I"⟩
def dkwX4_pushing_1 : List UInt8 := [167, 0, 4, 3, 96, 60, 132, 2, 1, 167, 255, 228, 27, 172]
abbrev dktX4_pushing_1 : List UInt8 := dkwX4_pushing_1 ++ []
def dkwX4_pushing_0 : List UInt8 := [3, 60, 3, 61, 28, 42, 180, 0, 48, 162, 0, 26, 27, 42, 28, 182, 0, 166, 2, 159, 0, 7, 4]
abbrev dktX4_pushing_0 : List UInt8 := dkwX4_pushing_0 ++ dktX4_pushing_1
theorem dksX4_pushing_0 : cX4_pushing.data.toList.drop 0 = dktX4_pushing_0 := by decide +kernel
theorem dksX4_pushing_1 : cX4_pushing.data.toList.drop 23 = dktX4_pushing_1 := dk_seg dksX4_pushing_0 23 rfl rfl
theorem dX4_pushing_0 : decode cX4_pushing 0 = .ok (.iconst 0, 1) := dk_3 (dk_at dksX4_pushing_0 0 rfl rfl)
theorem dX4_pushing_1 : decode cX4_pushing 1 = .ok (.istore_n 1, 1) := dk_60 (dk_at dksX4_pushing_0 1 rfl rfl)
theorem dX4_pushing_2 : decode cX4_pushing 2 = .ok (.iconst 0, 1) := dk_3 (dk_at dksX4_pushing_0 2 rfl rfl)
theorem dX4_pushing_3 : decode cX4_pushing 3 = .ok (.istore_n 2, 1) := dk_61 (dk_at dksX4_pushing_0 3 rfl rfl)
theorem dX4_pushing_4 : decode cX4_pushing 4 = .ok (.iload_n 2, 1) := dk_28 (dk_at dksX4_pushing_0 4 rfl rfl)
theorem dX4_pushing_5 : decode cX4_pushing 5 = .ok (.aload_n 0, 1) := dk_42 (dk_at dksX4_pushing_0 5 rfl rfl)
theorem dX4_pushing_6 : decode cX4_pushing 6 = .ok (.getfield 48, 3) := dk_180 0 48 (dk_at dksX4_pushing_0 6 rfl rfl)
theorem dX4_pushing_9 : decode cX4_pushing 9 = .ok (.if_icmp .ge 26, 3) := dk_162 0 26 (dk_at dksX4_pushing_0 9 rfl rfl)
theorem dX4_pushing_12 : decode cX4_pushing 12 = .ok (.iload_n 1, 1) := dk_27 (dk_at dksX4_pushing_0 12 rfl rfl)
theorem dX4_pushing_13 : decode cX4_pushing 13 = .ok (.aload_n 0, 1) := dk_42 (dk_at dksX4_pushing_0 13 rfl rfl)
theorem dX4_pushing_14 : decode cX4_pushing 14 = .ok (.iload_n 2, 1) := dk_28 (dk_at dksX4_pushing_0 14 rfl rfl)
theorem dX4_pushing_15 : decode cX4_pushing 15 = .ok (.invokevirtual 166, 3) := dk_182 0 166 (dk_at dksX4_pushing_0 15 rfl rfl)
theorem dX4_pushing_18 : decode cX4_pushing 18 = .ok (.iconst (-1), 1) := dk_2 (dk_at dksX4_pushing_0 18 rfl rfl)
theorem dX4_pushing_19 : decode cX4_pushing 19 = .ok (.if_icmp .eq 7, 3) := dk_159 0 7 (dk_at dksX4_pushing_0 19 rfl rfl)
theorem dX4_pushing_22 : decode cX4_pushing 22 = .ok (.iconst 1, 1) := dk_4 (dk_at dksX4_pushing_0 22 rfl rfl)
theorem dX4_pushing_23 : decode cX4_pushing 23 = .ok (.goto 4, 3) := dk_167 0 4 (dk_at dksX4_pushing_1 0 rfl rfl)
theorem dX4_pushing_26 : decode cX4_pushing 26 = .ok (.iconst 0, 1) := dk_3 (dk_at dksX4_pushing_1 3 rfl rfl)
theorem dX4_pushing_27 : decode cX4_pushing 27 = .ok (.iadd, 1) := dk_96 (dk_at dksX4_pushing_1 4 rfl rfl)
theorem dX4_pushing_28 : decode cX4_pushing 28 = .ok (.istore_n 1, 1) := dk_60 (dk_at dksX4_pushing_1 5 rfl rfl)
theorem dX4_pushing_29 : decode cX4_pushing 29 = .ok (.iinc 2 1, 3) := dk_132 2 1 (dk_at dksX4_pushing_1 6 rfl rfl)
theorem dX4_pushing_32 : decode cX4_pushing 32 = .ok (.goto (-28), 3) := dk_167 255 228 (dk_at dksX4_pushing_1 9 rfl rfl)
theorem dX4_pushing_35 : decode cX4_pushing 35 = .ok (.iload_n 1, 1) := dk_27 (dk_at dksX4_pushing_1 12 rfl rfl)
theorem dX4_pushing_36 : decode cX4_pushing 36 = .ok (.ireturn, 1) := dk_172 (dk_at dksX4_pushing_1 13 rfl rfl)
abbrev cX4_digest : ByteArray := prog_17_method_69_code
def yX4_digest : MethodName := ⟨RX4, "digest", "()J"⟩
def dkwX4_digest_7 : List UInt8 := [173]
abbrev dktX4_digest_7 : List UInt8 := dkwX4_digest_7 ++ []
def dkwX4_digest_6 : List UInt8 := [162, 0, 20, 42, 42, 180, 0, 39, 27, 46, 133, 182, 1, 24, 132, 1, 1, 167, 255, 234, 42, 180, 1, 18]
abbrev dktX4_digest_6 : List UInt8 := dkwX4_digest_6 ++ dktX4_digest_7
def dkwX4_digest_5 : List UInt8 := [42, 42, 180, 0, 33, 27, 46, 133, 182, 1, 24, 132, 1, 1, 167, 255, 232, 3, 60, 27, 42, 180, 0, 189]
abbrev dktX4_digest_5 : List UInt8 := dkwX4_digest_5 ++ dktX4_digest_6
def dkwX4_digest_4 : List UInt8 := [132, 2, 1, 167, 255, 231, 132, 1, 1, 167, 255, 190, 3, 60, 27, 7, 42, 180, 0, 182, 104, 162, 0, 20]
abbrev dktX4_digest_4 : List UInt8 := dkwX4_digest_4 ++ dktX4_digest_5
def dkwX4_digest_3 : List UInt8 := [3, 61, 28, 16, 40, 162, 0, 25, 42, 42, 27, 28, 8, 108, 28, 8, 112, 182, 0, 145, 133, 182, 1, 24]
abbrev dktX4_digest_3 : List UInt8 := dkwX4_digest_3 ++ dktX4_digest_4
def dkwX4_digest_2 : List UInt8 := [61, 28, 16, 9, 162, 0, 20, 42, 42, 27, 28, 182, 0, 118, 133, 182, 1, 24, 132, 2, 1, 167, 255, 236]
abbrev dktX4_digest_2 : List UInt8 := dkwX4_digest_2 ++ dktX4_digest_3
def dkwX4_digest_1 : List UInt8 := [182, 1, 13, 133, 182, 1, 24, 132, 1, 1, 167, 255, 237, 3, 60, 27, 42, 180, 0, 48, 162, 0, 64, 3]
abbrev dktX4_digest_1 : List UInt8 := dkwX4_digest_1 ++ dktX4_digest_2
def dkwX4_digest_0 : List UInt8 := [42, 182, 0, 83, 42, 20, 1, 22, 181, 1, 18, 3, 60, 27, 16, 13, 162, 0, 19, 42, 42, 27]
abbrev dktX4_digest_0 : List UInt8 := dkwX4_digest_0 ++ dktX4_digest_1
theorem dksX4_digest_0 : cX4_digest.data.toList.drop 0 = dktX4_digest_0 := by decide +kernel
theorem dksX4_digest_1 : cX4_digest.data.toList.drop 22 = dktX4_digest_1 := dk_seg dksX4_digest_0 22 rfl rfl
theorem dksX4_digest_2 : cX4_digest.data.toList.drop 46 = dktX4_digest_2 := dk_seg dksX4_digest_1 24 rfl rfl
theorem dksX4_digest_3 : cX4_digest.data.toList.drop 70 = dktX4_digest_3 := dk_seg dksX4_digest_2 24 rfl rfl
theorem dksX4_digest_4 : cX4_digest.data.toList.drop 94 = dktX4_digest_4 := dk_seg dksX4_digest_3 24 rfl rfl
theorem dksX4_digest_5 : cX4_digest.data.toList.drop 118 = dktX4_digest_5 := dk_seg dksX4_digest_4 24 rfl rfl
theorem dksX4_digest_6 : cX4_digest.data.toList.drop 142 = dktX4_digest_6 := dk_seg dksX4_digest_5 24 rfl rfl
theorem dksX4_digest_7 : cX4_digest.data.toList.drop 166 = dktX4_digest_7 := dk_seg dksX4_digest_6 24 rfl rfl
theorem dX4_digest_0 : decode cX4_digest 0 = .ok (.aload_n 0, 1) := dk_42 (dk_at dksX4_digest_0 0 rfl rfl)
theorem dX4_digest_1 : decode cX4_digest 1 = .ok (.invokevirtual 83, 3) := dk_182 0 83 (dk_at dksX4_digest_0 1 rfl rfl)
theorem dX4_digest_4 : decode cX4_digest 4 = .ok (.aload_n 0, 1) := dk_42 (dk_at dksX4_digest_0 4 rfl rfl)
theorem dX4_digest_5 : decode cX4_digest 5 = .ok (.ldc2_w 278, 3) := dk_20 1 22 (dk_at dksX4_digest_0 5 rfl rfl)
theorem dX4_digest_8 : decode cX4_digest 8 = .ok (.putfield 274, 3) := dk_181 1 18 (dk_at dksX4_digest_0 8 rfl rfl)
theorem dX4_digest_11 : decode cX4_digest 11 = .ok (.iconst 0, 1) := dk_3 (dk_at dksX4_digest_0 11 rfl rfl)
theorem dX4_digest_12 : decode cX4_digest 12 = .ok (.istore_n 1, 1) := dk_60 (dk_at dksX4_digest_0 12 rfl rfl)
theorem dX4_digest_13 : decode cX4_digest 13 = .ok (.iload_n 1, 1) := dk_27 (dk_at dksX4_digest_0 13 rfl rfl)
theorem dX4_digest_14 : decode cX4_digest 14 = .ok (.bipush 13, 2) := dk_16 13 (dk_at dksX4_digest_0 14 rfl rfl)
theorem dX4_digest_16 : decode cX4_digest 16 = .ok (.if_icmp .ge 19, 3) := dk_162 0 19 (dk_at dksX4_digest_0 16 rfl rfl)
theorem dX4_digest_19 : decode cX4_digest 19 = .ok (.aload_n 0, 1) := dk_42 (dk_at dksX4_digest_0 19 rfl rfl)
theorem dX4_digest_20 : decode cX4_digest 20 = .ok (.aload_n 0, 1) := dk_42 (dk_at dksX4_digest_0 20 rfl rfl)
theorem dX4_digest_21 : decode cX4_digest 21 = .ok (.iload_n 1, 1) := dk_27 (dk_at dksX4_digest_0 21 rfl rfl)
theorem dX4_digest_22 : decode cX4_digest 22 = .ok (.invokevirtual 269, 3) := dk_182 1 13 (dk_at dksX4_digest_1 0 rfl rfl)
theorem dX4_digest_25 : decode cX4_digest 25 = .ok (.i2l, 1) := dk_133 (dk_at dksX4_digest_1 3 rfl rfl)
theorem dX4_digest_26 : decode cX4_digest 26 = .ok (.invokevirtual 280, 3) := dk_182 1 24 (dk_at dksX4_digest_1 4 rfl rfl)
theorem dX4_digest_29 : decode cX4_digest 29 = .ok (.iinc 1 1, 3) := dk_132 1 1 (dk_at dksX4_digest_1 7 rfl rfl)
theorem dX4_digest_32 : decode cX4_digest 32 = .ok (.goto (-19), 3) := dk_167 255 237 (dk_at dksX4_digest_1 10 rfl rfl)
theorem dX4_digest_35 : decode cX4_digest 35 = .ok (.iconst 0, 1) := dk_3 (dk_at dksX4_digest_1 13 rfl rfl)
theorem dX4_digest_36 : decode cX4_digest 36 = .ok (.istore_n 1, 1) := dk_60 (dk_at dksX4_digest_1 14 rfl rfl)
theorem dX4_digest_37 : decode cX4_digest 37 = .ok (.iload_n 1, 1) := dk_27 (dk_at dksX4_digest_1 15 rfl rfl)
theorem dX4_digest_38 : decode cX4_digest 38 = .ok (.aload_n 0, 1) := dk_42 (dk_at dksX4_digest_1 16 rfl rfl)
theorem dX4_digest_39 : decode cX4_digest 39 = .ok (.getfield 48, 3) := dk_180 0 48 (dk_at dksX4_digest_1 17 rfl rfl)
theorem dX4_digest_42 : decode cX4_digest 42 = .ok (.if_icmp .ge 64, 3) := dk_162 0 64 (dk_at dksX4_digest_1 20 rfl rfl)
theorem dX4_digest_45 : decode cX4_digest 45 = .ok (.iconst 0, 1) := dk_3 (dk_at dksX4_digest_1 23 rfl rfl)
theorem dX4_digest_46 : decode cX4_digest 46 = .ok (.istore_n 2, 1) := dk_61 (dk_at dksX4_digest_2 0 rfl rfl)
theorem dX4_digest_47 : decode cX4_digest 47 = .ok (.iload_n 2, 1) := dk_28 (dk_at dksX4_digest_2 1 rfl rfl)
theorem dX4_digest_48 : decode cX4_digest 48 = .ok (.bipush 9, 2) := dk_16 9 (dk_at dksX4_digest_2 2 rfl rfl)
theorem dX4_digest_50 : decode cX4_digest 50 = .ok (.if_icmp .ge 20, 3) := dk_162 0 20 (dk_at dksX4_digest_2 4 rfl rfl)
theorem dX4_digest_53 : decode cX4_digest 53 = .ok (.aload_n 0, 1) := dk_42 (dk_at dksX4_digest_2 7 rfl rfl)
theorem dX4_digest_54 : decode cX4_digest 54 = .ok (.aload_n 0, 1) := dk_42 (dk_at dksX4_digest_2 8 rfl rfl)
theorem dX4_digest_55 : decode cX4_digest 55 = .ok (.iload_n 1, 1) := dk_27 (dk_at dksX4_digest_2 9 rfl rfl)
theorem dX4_digest_56 : decode cX4_digest 56 = .ok (.iload_n 2, 1) := dk_28 (dk_at dksX4_digest_2 10 rfl rfl)
theorem dX4_digest_57 : decode cX4_digest 57 = .ok (.invokevirtual 118, 3) := dk_182 0 118 (dk_at dksX4_digest_2 11 rfl rfl)
theorem dX4_digest_60 : decode cX4_digest 60 = .ok (.i2l, 1) := dk_133 (dk_at dksX4_digest_2 14 rfl rfl)
theorem dX4_digest_61 : decode cX4_digest 61 = .ok (.invokevirtual 280, 3) := dk_182 1 24 (dk_at dksX4_digest_2 15 rfl rfl)
theorem dX4_digest_64 : decode cX4_digest 64 = .ok (.iinc 2 1, 3) := dk_132 2 1 (dk_at dksX4_digest_2 18 rfl rfl)
theorem dX4_digest_67 : decode cX4_digest 67 = .ok (.goto (-20), 3) := dk_167 255 236 (dk_at dksX4_digest_2 21 rfl rfl)
theorem dX4_digest_70 : decode cX4_digest 70 = .ok (.iconst 0, 1) := dk_3 (dk_at dksX4_digest_3 0 rfl rfl)
theorem dX4_digest_71 : decode cX4_digest 71 = .ok (.istore_n 2, 1) := dk_61 (dk_at dksX4_digest_3 1 rfl rfl)
theorem dX4_digest_72 : decode cX4_digest 72 = .ok (.iload_n 2, 1) := dk_28 (dk_at dksX4_digest_3 2 rfl rfl)
theorem dX4_digest_73 : decode cX4_digest 73 = .ok (.bipush 40, 2) := dk_16 40 (dk_at dksX4_digest_3 3 rfl rfl)
theorem dX4_digest_75 : decode cX4_digest 75 = .ok (.if_icmp .ge 25, 3) := dk_162 0 25 (dk_at dksX4_digest_3 5 rfl rfl)
theorem dX4_digest_78 : decode cX4_digest 78 = .ok (.aload_n 0, 1) := dk_42 (dk_at dksX4_digest_3 8 rfl rfl)
theorem dX4_digest_79 : decode cX4_digest 79 = .ok (.aload_n 0, 1) := dk_42 (dk_at dksX4_digest_3 9 rfl rfl)
theorem dX4_digest_80 : decode cX4_digest 80 = .ok (.iload_n 1, 1) := dk_27 (dk_at dksX4_digest_3 10 rfl rfl)
theorem dX4_digest_81 : decode cX4_digest 81 = .ok (.iload_n 2, 1) := dk_28 (dk_at dksX4_digest_3 11 rfl rfl)
theorem dX4_digest_82 : decode cX4_digest 82 = .ok (.iconst 5, 1) := dk_8 (dk_at dksX4_digest_3 12 rfl rfl)
theorem dX4_digest_83 : decode cX4_digest 83 = .ok (.idiv, 1) := dk_108 (dk_at dksX4_digest_3 13 rfl rfl)
theorem dX4_digest_84 : decode cX4_digest 84 = .ok (.iload_n 2, 1) := dk_28 (dk_at dksX4_digest_3 14 rfl rfl)
theorem dX4_digest_85 : decode cX4_digest 85 = .ok (.iconst 5, 1) := dk_8 (dk_at dksX4_digest_3 15 rfl rfl)
theorem dX4_digest_86 : decode cX4_digest 86 = .ok (.irem, 1) := dk_112 (dk_at dksX4_digest_3 16 rfl rfl)
theorem dX4_digest_87 : decode cX4_digest 87 = .ok (.invokevirtual 145, 3) := dk_182 0 145 (dk_at dksX4_digest_3 17 rfl rfl)
theorem dX4_digest_90 : decode cX4_digest 90 = .ok (.i2l, 1) := dk_133 (dk_at dksX4_digest_3 20 rfl rfl)
theorem dX4_digest_91 : decode cX4_digest 91 = .ok (.invokevirtual 280, 3) := dk_182 1 24 (dk_at dksX4_digest_3 21 rfl rfl)
theorem dX4_digest_94 : decode cX4_digest 94 = .ok (.iinc 2 1, 3) := dk_132 2 1 (dk_at dksX4_digest_4 0 rfl rfl)
theorem dX4_digest_97 : decode cX4_digest 97 = .ok (.goto (-25), 3) := dk_167 255 231 (dk_at dksX4_digest_4 3 rfl rfl)
theorem dX4_digest_100 : decode cX4_digest 100 = .ok (.iinc 1 1, 3) := dk_132 1 1 (dk_at dksX4_digest_4 6 rfl rfl)
theorem dX4_digest_103 : decode cX4_digest 103 = .ok (.goto (-66), 3) := dk_167 255 190 (dk_at dksX4_digest_4 9 rfl rfl)
theorem dX4_digest_106 : decode cX4_digest 106 = .ok (.iconst 0, 1) := dk_3 (dk_at dksX4_digest_4 12 rfl rfl)
theorem dX4_digest_107 : decode cX4_digest 107 = .ok (.istore_n 1, 1) := dk_60 (dk_at dksX4_digest_4 13 rfl rfl)
theorem dX4_digest_108 : decode cX4_digest 108 = .ok (.iload_n 1, 1) := dk_27 (dk_at dksX4_digest_4 14 rfl rfl)
theorem dX4_digest_109 : decode cX4_digest 109 = .ok (.iconst 4, 1) := dk_7 (dk_at dksX4_digest_4 15 rfl rfl)
theorem dX4_digest_110 : decode cX4_digest 110 = .ok (.aload_n 0, 1) := dk_42 (dk_at dksX4_digest_4 16 rfl rfl)
theorem dX4_digest_111 : decode cX4_digest 111 = .ok (.getfield 182, 3) := dk_180 0 182 (dk_at dksX4_digest_4 17 rfl rfl)
theorem dX4_digest_114 : decode cX4_digest 114 = .ok (.imul, 1) := dk_104 (dk_at dksX4_digest_4 20 rfl rfl)
theorem dX4_digest_115 : decode cX4_digest 115 = .ok (.if_icmp .ge 20, 3) := dk_162 0 20 (dk_at dksX4_digest_4 21 rfl rfl)
theorem dX4_digest_118 : decode cX4_digest 118 = .ok (.aload_n 0, 1) := dk_42 (dk_at dksX4_digest_5 0 rfl rfl)
theorem dX4_digest_119 : decode cX4_digest 119 = .ok (.aload_n 0, 1) := dk_42 (dk_at dksX4_digest_5 1 rfl rfl)
theorem dX4_digest_120 : decode cX4_digest 120 = .ok (.getfield 33, 3) := dk_180 0 33 (dk_at dksX4_digest_5 2 rfl rfl)
theorem dX4_digest_123 : decode cX4_digest 123 = .ok (.iload_n 1, 1) := dk_27 (dk_at dksX4_digest_5 5 rfl rfl)
theorem dX4_digest_124 : decode cX4_digest 124 = .ok (.iaload, 1) := dk_46 (dk_at dksX4_digest_5 6 rfl rfl)
theorem dX4_digest_125 : decode cX4_digest 125 = .ok (.i2l, 1) := dk_133 (dk_at dksX4_digest_5 7 rfl rfl)
theorem dX4_digest_126 : decode cX4_digest 126 = .ok (.invokevirtual 280, 3) := dk_182 1 24 (dk_at dksX4_digest_5 8 rfl rfl)
theorem dX4_digest_129 : decode cX4_digest 129 = .ok (.iinc 1 1, 3) := dk_132 1 1 (dk_at dksX4_digest_5 11 rfl rfl)
theorem dX4_digest_132 : decode cX4_digest 132 = .ok (.goto (-24), 3) := dk_167 255 232 (dk_at dksX4_digest_5 14 rfl rfl)
theorem dX4_digest_135 : decode cX4_digest 135 = .ok (.iconst 0, 1) := dk_3 (dk_at dksX4_digest_5 17 rfl rfl)
theorem dX4_digest_136 : decode cX4_digest 136 = .ok (.istore_n 1, 1) := dk_60 (dk_at dksX4_digest_5 18 rfl rfl)
theorem dX4_digest_137 : decode cX4_digest 137 = .ok (.iload_n 1, 1) := dk_27 (dk_at dksX4_digest_5 19 rfl rfl)
theorem dX4_digest_138 : decode cX4_digest 138 = .ok (.aload_n 0, 1) := dk_42 (dk_at dksX4_digest_5 20 rfl rfl)
theorem dX4_digest_139 : decode cX4_digest 139 = .ok (.getfield 189, 3) := dk_180 0 189 (dk_at dksX4_digest_5 21 rfl rfl)
theorem dX4_digest_142 : decode cX4_digest 142 = .ok (.if_icmp .ge 20, 3) := dk_162 0 20 (dk_at dksX4_digest_6 0 rfl rfl)
theorem dX4_digest_145 : decode cX4_digest 145 = .ok (.aload_n 0, 1) := dk_42 (dk_at dksX4_digest_6 3 rfl rfl)
theorem dX4_digest_146 : decode cX4_digest 146 = .ok (.aload_n 0, 1) := dk_42 (dk_at dksX4_digest_6 4 rfl rfl)
theorem dX4_digest_147 : decode cX4_digest 147 = .ok (.getfield 39, 3) := dk_180 0 39 (dk_at dksX4_digest_6 5 rfl rfl)
theorem dX4_digest_150 : decode cX4_digest 150 = .ok (.iload_n 1, 1) := dk_27 (dk_at dksX4_digest_6 8 rfl rfl)
theorem dX4_digest_151 : decode cX4_digest 151 = .ok (.iaload, 1) := dk_46 (dk_at dksX4_digest_6 9 rfl rfl)
theorem dX4_digest_152 : decode cX4_digest 152 = .ok (.i2l, 1) := dk_133 (dk_at dksX4_digest_6 10 rfl rfl)
theorem dX4_digest_153 : decode cX4_digest 153 = .ok (.invokevirtual 280, 3) := dk_182 1 24 (dk_at dksX4_digest_6 11 rfl rfl)
theorem dX4_digest_156 : decode cX4_digest 156 = .ok (.iinc 1 1, 3) := dk_132 1 1 (dk_at dksX4_digest_6 14 rfl rfl)
theorem dX4_digest_159 : decode cX4_digest 159 = .ok (.goto (-22), 3) := dk_167 255 234 (dk_at dksX4_digest_6 17 rfl rfl)
theorem dX4_digest_162 : decode cX4_digest 162 = .ok (.aload_n 0, 1) := dk_42 (dk_at dksX4_digest_6 20 rfl rfl)
theorem dX4_digest_163 : decode cX4_digest 163 = .ok (.getfield 274, 3) := dk_180 1 18 (dk_at dksX4_digest_6 21 rfl rfl)
theorem dX4_digest_166 : decode cX4_digest 166 = .ok (.lreturn, 1) := dk_173 (dk_at dksX4_digest_7 0 rfl rfl)
abbrev cX4_mixes : ByteArray := prog_17_method_68_code
def yX4_mixes : MethodName := ⟨RX4, "mixes", "(J)V"⟩
def dkwX4_mixes_0 : List UInt8 := [42, 20, 1, 16, 42, 180, 1, 18, 105, 31, 97, 181, 1, 18, 177]
abbrev dktX4_mixes_0 : List UInt8 := dkwX4_mixes_0 ++ []
theorem dksX4_mixes_0 : cX4_mixes.data.toList.drop 0 = dktX4_mixes_0 := by decide +kernel
theorem dX4_mixes_0 : decode cX4_mixes 0 = .ok (.aload_n 0, 1) := dk_42 (dk_at dksX4_mixes_0 0 rfl rfl)
theorem dX4_mixes_1 : decode cX4_mixes 1 = .ok (.ldc2_w 272, 3) := dk_20 1 16 (dk_at dksX4_mixes_0 1 rfl rfl)
theorem dX4_mixes_4 : decode cX4_mixes 4 = .ok (.aload_n 0, 1) := dk_42 (dk_at dksX4_mixes_0 4 rfl rfl)
theorem dX4_mixes_5 : decode cX4_mixes 5 = .ok (.getfield 274, 3) := dk_180 1 18 (dk_at dksX4_mixes_0 5 rfl rfl)
theorem dX4_mixes_8 : decode cX4_mixes 8 = .ok (.lmul, 1) := dk_105 (dk_at dksX4_mixes_0 8 rfl rfl)
theorem dX4_mixes_9 : decode cX4_mixes 9 = .ok (.lload_n 1, 1) := dk_31 (dk_at dksX4_mixes_0 9 rfl rfl)
theorem dX4_mixes_10 : decode cX4_mixes 10 = .ok (.ladd, 1) := dk_97 (dk_at dksX4_mixes_0 10 rfl rfl)
theorem dX4_mixes_11 : decode cX4_mixes 11 = .ok (.putfield 274, 3) := dk_181 1 18 (dk_at dksX4_mixes_0 11 rfl rfl)
theorem dX4_mixes_14 : decode cX4_mixes 14 = .ok (.return_, 1) := dk_177 (dk_at dksX4_mixes_0 14 rfl rfl)
theorem q97 : (Jvm.Cond.initialized "LabelPlacerModel") ∈ lw_all := lw_g (lw_at lw_m1 8 rfl) rfl
theorem q372 : (Jvm.Cond.selects "LabelPlacerModel" ({ cls := "java/lang/Object", name := "getClass", desc := "()Ljava/lang/Class;" } : Jvm.MethodName) ({ cls := "java/lang/Object", name := "getClass", desc := "()Ljava/lang/Class;" } : Jvm.MethodName)) ∈ lw_all := lw_g (lw_at lw_m2 43 rfl) rfl
theorem q535 : (Jvm.Cond.selects "LabelPlacerModel" ({ cls := "java/lang/Object", name := "hashCode", desc := "()I" } : Jvm.MethodName) ({ cls := "java/lang/Object", name := "hashCode", desc := "()I" } : Jvm.MethodName)) ∈ lw_all := lw_g (lw_at lw_m2 206 rfl) rfl
theorem q970 : (Jvm.Cond.selects "LabelPlacerModel" ({ cls := "java/lang/Object", name := "equals", desc := "(Ljava/lang/Object;)Z" } : Jvm.MethodName) ({ cls := "java/lang/Object", name := "equals", desc := "(Ljava/lang/Object;)Z" } : Jvm.MethodName)) ∈ lw_all := lw_g (lw_at lw_m4 161 rfl) rfl
theorem q2075 : (Jvm.Cond.instantiable "LabelPlacerModel" (21 : Nat)) ∈ lw_all := lw_g (lw_at lw_m9 66 rfl) rfl
theorem q2077 : (Jvm.Cond.instanceMethod ({ cls := "LabelPlacerModel", name := "<init>", desc := "()V" } : Jvm.MethodName)) ∈ lw_all := lw_g (lw_at lw_m9 68 rfl) rfl
theorem q2078 : (Jvm.Cond.code ({ cls := "LabelPlacerModel", name := "<init>", desc := "()V" } : Jvm.MethodName) prog_17_method_1_code (1 : Nat) (Option.none : Option Jvm.ClassFile.FieldType)) ∈ lw_all := lw_g (lw_at lw_m9 69 rfl) rfl
theorem q2079 : (Jvm.Cond.methodLink "LabelPlacerModel" (1 : Nat) ({ cls := "java/lang/Object", name := "<init>", desc := "()V" } : Jvm.MethodName)) ∈ lw_all := lw_g (lw_at lw_m9 70 rfl) rfl
theorem q2080 : (Jvm.Cond.fieldLink "LabelPlacerModel" (7 : Nat) "LabelPlacerModel" "m" "[I") ∈ lw_all := lw_g (lw_at lw_m9 71 rfl) rfl
theorem q2081 : (Jvm.Cond.fieldLink "LabelPlacerModel" (48 : Nat) "LabelPlacerModel" "many" "I") ∈ lw_all := lw_g (lw_at lw_m9 72 rfl) rfl
theorem q2082 : (Jvm.Cond.fieldLink "LabelPlacerModel" (55 : Nat) "LabelPlacerModel" "wx" "I") ∈ lw_all := lw_g (lw_at lw_m9 73 rfl) rfl
theorem q2083 : (Jvm.Cond.fieldLink "LabelPlacerModel" (58 : Nat) "LabelPlacerModel" "wy" "I") ∈ lw_all := lw_g (lw_at lw_m9 74 rfl) rfl
theorem q2084 : (Jvm.Cond.fieldLink "LabelPlacerModel" (13 : Nat) "LabelPlacerModel" "ww" "I") ∈ lw_all := lw_g (lw_at lw_m9 75 rfl) rfl
theorem q2085 : (Jvm.Cond.fieldLink "LabelPlacerModel" (17 : Nat) "LabelPlacerModel" "wh" "I") ∈ lw_all := lw_g (lw_at lw_m9 76 rfl) rfl
theorem q2086 : (Jvm.Cond.fieldLink "LabelPlacerModel" (20 : Nat) "LabelPlacerModel" "place" "[Z") ∈ lw_all := lw_g (lw_at lw_m9 77 rfl) rfl
theorem q2087 : (Jvm.Cond.fieldLink "LabelPlacerModel" (24 : Nat) "LabelPlacerModel" "order" "[I") ∈ lw_all := lw_g (lw_at lw_m9 78 rfl) rfl
theorem q2088 : (Jvm.Cond.fieldLink "LabelPlacerModel" (27 : Nat) "LabelPlacerModel" "tried" "[I") ∈ lw_all := lw_g (lw_at lw_m9 79 rfl) rfl
theorem q2089 : (Jvm.Cond.fieldLink "LabelPlacerModel" (30 : Nat) "LabelPlacerModel" "those" "[I") ∈ lw_all := lw_g (lw_at lw_m9 80 rfl) rfl
theorem q2090 : (Jvm.Cond.fieldLink "LabelPlacerModel" (33 : Nat) "LabelPlacerModel" "leader" "[I") ∈ lw_all := lw_g (lw_at lw_m9 81 rfl) rfl
theorem q2091 : (Jvm.Cond.fieldLink "LabelPlacerModel" (182 : Nat) "LabelPlacerModel" "leaders" "I") ∈ lw_all := lw_g (lw_at lw_m9 82 rfl) rfl
theorem q2092 : (Jvm.Cond.fieldLink "LabelPlacerModel" (36 : Nat) "LabelPlacerModel" "queue" "[I") ∈ lw_all := lw_g (lw_at lw_m9 83 rfl) rfl
theorem q2093 : (Jvm.Cond.fieldLink "LabelPlacerModel" (39 : Nat) "LabelPlacerModel" "text" "[I") ∈ lw_all := lw_g (lw_at lw_m9 84 rfl) rfl
theorem q2094 : (Jvm.Cond.fieldLink "LabelPlacerModel" (189 : Nat) "LabelPlacerModel" "textLength" "I") ∈ lw_all := lw_g (lw_at lw_m9 85 rfl) rfl
theorem q2095 : (Jvm.Cond.fieldLink "LabelPlacerModel" (192 : Nat) "LabelPlacerModel" "at" "I") ∈ lw_all := lw_g (lw_at lw_m9 86 rfl) rfl
theorem q2096 : (Jvm.Cond.fieldLink "LabelPlacerModel" (198 : Nat) "LabelPlacerModel" "fault" "I") ∈ lw_all := lw_g (lw_at lw_m9 87 rfl) rfl
theorem q2097 : (Jvm.Cond.fieldLink "LabelPlacerModel" (42 : Nat) "LabelPlacerModel" "word" "[I") ∈ lw_all := lw_g (lw_at lw_m9 88 rfl) rfl
theorem q2098 : (Jvm.Cond.fieldLink "LabelPlacerModel" (201 : Nat) "LabelPlacerModel" "letters" "I") ∈ lw_all := lw_g (lw_at lw_m9 89 rfl) rfl
theorem q2099 : (Jvm.Cond.fieldLink "LabelPlacerModel" (45 : Nat) "LabelPlacerModel" "read" "[I") ∈ lw_all := lw_g (lw_at lw_m9 90 rfl) rfl
theorem q2100 : (Jvm.Cond.fieldLink "LabelPlacerModel" (274 : Nat) "LabelPlacerModel" "hash" "J") ∈ lw_all := lw_g (lw_at lw_m9 91 rfl) rfl
theorem q2101 : (Jvm.Cond.laysFinal "LabelPlacerModel" "LabelPlacerModel" "m" "[I") ∈ lw_all := lw_g (lw_at lw_m9 92 rfl) rfl
theorem q2102 : (Jvm.Cond.soleField "LabelPlacerModel" "m") ∈ lw_all := lw_g (lw_at lw_m9 93 rfl) rfl
theorem q2103 : (Jvm.Cond.lays "LabelPlacerModel" "LabelPlacerModel" "many" "I") ∈ lw_all := lw_g (lw_at lw_m9 94 rfl) rfl
theorem q2104 : (Jvm.Cond.soleField "LabelPlacerModel" "many") ∈ lw_all := lw_g (lw_at lw_m9 95 rfl) rfl
theorem q2105 : (Jvm.Cond.lays "LabelPlacerModel" "LabelPlacerModel" "wx" "I") ∈ lw_all := lw_g (lw_at lw_m9 96 rfl) rfl
theorem q2106 : (Jvm.Cond.soleField "LabelPlacerModel" "wx") ∈ lw_all := lw_g (lw_at lw_m9 97 rfl) rfl
theorem q2107 : (Jvm.Cond.lays "LabelPlacerModel" "LabelPlacerModel" "wy" "I") ∈ lw_all := lw_g (lw_at lw_m9 98 rfl) rfl
theorem q2108 : (Jvm.Cond.soleField "LabelPlacerModel" "wy") ∈ lw_all := lw_g (lw_at lw_m9 99 rfl) rfl
theorem q2109 : (Jvm.Cond.lays "LabelPlacerModel" "LabelPlacerModel" "ww" "I") ∈ lw_all := lw_g (lw_at lw_m9 100 rfl) rfl
theorem q2110 : (Jvm.Cond.soleField "LabelPlacerModel" "ww") ∈ lw_all := lw_g (lw_at lw_m9 101 rfl) rfl
theorem q2111 : (Jvm.Cond.lays "LabelPlacerModel" "LabelPlacerModel" "wh" "I") ∈ lw_all := lw_g (lw_at lw_m9 102 rfl) rfl
theorem q2112 : (Jvm.Cond.soleField "LabelPlacerModel" "wh") ∈ lw_all := lw_g (lw_at lw_m9 103 rfl) rfl
theorem q2113 : (Jvm.Cond.laysFinal "LabelPlacerModel" "LabelPlacerModel" "place" "[Z") ∈ lw_all := lw_g (lw_at lw_m9 104 rfl) rfl
theorem q2114 : (Jvm.Cond.soleField "LabelPlacerModel" "place") ∈ lw_all := lw_g (lw_at lw_m9 105 rfl) rfl
theorem q2115 : (Jvm.Cond.laysFinal "LabelPlacerModel" "LabelPlacerModel" "order" "[I") ∈ lw_all := lw_g (lw_at lw_m9 106 rfl) rfl
theorem q2116 : (Jvm.Cond.soleField "LabelPlacerModel" "order") ∈ lw_all := lw_g (lw_at lw_m9 107 rfl) rfl
theorem q2117 : (Jvm.Cond.laysFinal "LabelPlacerModel" "LabelPlacerModel" "tried" "[I") ∈ lw_all := lw_g (lw_at lw_m9 108 rfl) rfl
theorem q2118 : (Jvm.Cond.soleField "LabelPlacerModel" "tried") ∈ lw_all := lw_g (lw_at lw_m9 109 rfl) rfl
theorem q2119 : (Jvm.Cond.laysFinal "LabelPlacerModel" "LabelPlacerModel" "those" "[I") ∈ lw_all := lw_g (lw_at lw_m9 110 rfl) rfl
theorem q2120 : (Jvm.Cond.soleField "LabelPlacerModel" "those") ∈ lw_all := lw_g (lw_at lw_m9 111 rfl) rfl
theorem q2121 : (Jvm.Cond.laysFinal "LabelPlacerModel" "LabelPlacerModel" "leader" "[I") ∈ lw_all := lw_g (lw_at lw_m9 112 rfl) rfl
theorem q2122 : (Jvm.Cond.soleField "LabelPlacerModel" "leader") ∈ lw_all := lw_g (lw_at lw_m9 113 rfl) rfl
theorem q2123 : (Jvm.Cond.lays "LabelPlacerModel" "LabelPlacerModel" "leaders" "I") ∈ lw_all := lw_g (lw_at lw_m9 114 rfl) rfl
theorem q2124 : (Jvm.Cond.soleField "LabelPlacerModel" "leaders") ∈ lw_all := lw_g (lw_at lw_m9 115 rfl) rfl
theorem q2125 : (Jvm.Cond.laysFinal "LabelPlacerModel" "LabelPlacerModel" "queue" "[I") ∈ lw_all := lw_g (lw_at lw_m9 116 rfl) rfl
theorem q2126 : (Jvm.Cond.soleField "LabelPlacerModel" "queue") ∈ lw_all := lw_g (lw_at lw_m9 117 rfl) rfl
theorem q2127 : (Jvm.Cond.laysFinal "LabelPlacerModel" "LabelPlacerModel" "text" "[I") ∈ lw_all := lw_g (lw_at lw_m9 118 rfl) rfl
theorem q2128 : (Jvm.Cond.soleField "LabelPlacerModel" "text") ∈ lw_all := lw_g (lw_at lw_m9 119 rfl) rfl
theorem q2129 : (Jvm.Cond.lays "LabelPlacerModel" "LabelPlacerModel" "textLength" "I") ∈ lw_all := lw_g (lw_at lw_m9 120 rfl) rfl
theorem q2130 : (Jvm.Cond.soleField "LabelPlacerModel" "textLength") ∈ lw_all := lw_g (lw_at lw_m9 121 rfl) rfl
theorem q2131 : (Jvm.Cond.lays "LabelPlacerModel" "LabelPlacerModel" "at" "I") ∈ lw_all := lw_g (lw_at lw_m9 122 rfl) rfl
theorem q2132 : (Jvm.Cond.soleField "LabelPlacerModel" "at") ∈ lw_all := lw_g (lw_at lw_m9 123 rfl) rfl
theorem q2133 : (Jvm.Cond.lays "LabelPlacerModel" "LabelPlacerModel" "fault" "I") ∈ lw_all := lw_g (lw_at lw_m9 124 rfl) rfl
theorem q2134 : (Jvm.Cond.soleField "LabelPlacerModel" "fault") ∈ lw_all := lw_g (lw_at lw_m9 125 rfl) rfl
theorem q2135 : (Jvm.Cond.laysFinal "LabelPlacerModel" "LabelPlacerModel" "word" "[I") ∈ lw_all := lw_g (lw_at lw_m9 126 rfl) rfl
theorem q2136 : (Jvm.Cond.soleField "LabelPlacerModel" "word") ∈ lw_all := lw_g (lw_at lw_m9 127 rfl) rfl
theorem q2137 : (Jvm.Cond.lays "LabelPlacerModel" "LabelPlacerModel" "letters" "I") ∈ lw_all := lw_g (lw_at lw_m9 128 rfl) rfl
theorem q2138 : (Jvm.Cond.soleField "LabelPlacerModel" "letters") ∈ lw_all := lw_g (lw_at lw_m9 129 rfl) rfl
theorem q2139 : (Jvm.Cond.laysFinal "LabelPlacerModel" "LabelPlacerModel" "read" "[I") ∈ lw_all := lw_g (lw_at lw_m9 130 rfl) rfl
theorem q2140 : (Jvm.Cond.soleField "LabelPlacerModel" "read") ∈ lw_all := lw_g (lw_at lw_m9 131 rfl) rfl
theorem q2141 : (Jvm.Cond.lays "LabelPlacerModel" "LabelPlacerModel" "hash" "J") ∈ lw_all := lw_g (lw_at lw_m9 132 rfl) rfl
theorem q2142 : (Jvm.Cond.soleField "LabelPlacerModel" "hash") ∈ lw_all := lw_g (lw_at lw_m9 133 rfl) rfl
theorem q2143 : (Jvm.Cond.superclass "LabelPlacerModel" "java/lang/Object") ∈ lw_all := lw_g (lw_at lw_m9 134 rfl) rfl
theorem q2146 : (Jvm.Cond.instanceMethod ({ cls := "LabelPlacerModel", name := "addPoint", desc := "(IIIIII)I" } : Jvm.MethodName)) ∈ lw_all := lw_g (lw_at lw_m9 137 rfl) rfl
theorem q2147 : (Jvm.Cond.selects "LabelPlacerModel" ({ cls := "LabelPlacerModel", name := "addPoint", desc := "(IIIIII)I" } : Jvm.MethodName) ({ cls := "LabelPlacerModel", name := "addPoint", desc := "(IIIIII)I" } : Jvm.MethodName)) ∈ lw_all := lw_g (lw_at lw_m9 138 rfl) rfl
theorem q2148 : (Jvm.Cond.code ({ cls := "LabelPlacerModel", name := "addPoint", desc := "(IIIIII)I" } : Jvm.MethodName) prog_17_method_18_code (8 : Nat) (Option.some Jvm.ClassFile.FieldType.int)) ∈ lw_all := lw_g (lw_at lw_m9 139 rfl) rfl
theorem q2149 : (Jvm.Cond.constantLong "LabelPlacerModel" (94 : Nat) (199 : Int64)) ∈ lw_all := lw_g (lw_at lw_m9 140 rfl) rfl
theorem q2150 : (Jvm.Cond.methodLink "LabelPlacerModel" (51 : Nat) ({ cls := "LabelPlacerModel", name := "in", desc := "(JJJ)Z" } : Jvm.MethodName)) ∈ lw_all := lw_g (lw_at lw_m9 141 rfl) rfl
theorem q2151 : (Jvm.Cond.static ({ cls := "LabelPlacerModel", name := "in", desc := "(JJJ)Z" } : Jvm.MethodName)) ∈ lw_all := lw_g (lw_at lw_m9 142 rfl) rfl
theorem q2152 : (Jvm.Cond.code ({ cls := "LabelPlacerModel", name := "in", desc := "(JJJ)Z" } : Jvm.MethodName) prog_17_method_2_code (6 : Nat) (Option.some Jvm.ClassFile.FieldType.boolean)) ∈ lw_all := lw_g (lw_at lw_m9 143 rfl) rfl
theorem q2153 : (Jvm.Cond.methodLink "LabelPlacerModel" (96 : Nat) ({ cls := "LabelPlacerModel", name := "isProperty", desc := "(II)Z" } : Jvm.MethodName)) ∈ lw_all := lw_g (lw_at lw_m9 144 rfl) rfl
theorem q2154 : (Jvm.Cond.static ({ cls := "LabelPlacerModel", name := "isProperty", desc := "(II)Z" } : Jvm.MethodName)) ∈ lw_all := lw_g (lw_at lw_m9 145 rfl) rfl
theorem q2155 : (Jvm.Cond.code ({ cls := "LabelPlacerModel", name := "isProperty", desc := "(II)Z" } : Jvm.MethodName) prog_17_method_16_code (2 : Nat) (Option.some Jvm.ClassFile.FieldType.boolean)) ∈ lw_all := lw_g (lw_at lw_m9 146 rfl) rfl
theorem q2156 : (Jvm.Cond.constantLong "LabelPlacerModel" (86 : Nat) (20 : Int64)) ∈ lw_all := lw_g (lw_at lw_m9 147 rfl) rfl
theorem q2157 : (Jvm.Cond.constantLong "LabelPlacerModel" (88 : Nat) (6 : Int64)) ∈ lw_all := lw_g (lw_at lw_m9 148 rfl) rfl
theorem q2158 : (Jvm.Cond.constantLong "LabelPlacerModel" (90 : Nat) (9 : Int64)) ∈ lw_all := lw_g (lw_at lw_m9 149 rfl) rfl
theorem q2159 : (Jvm.Cond.constantLong "LabelPlacerModel" (92 : Nat) (255 : Int64)) ∈ lw_all := lw_g (lw_at lw_m9 150 rfl) rfl
theorem q2160 : (Jvm.Cond.methodLink "LabelPlacerModel" (99 : Nat) ({ cls := "LabelPlacerModel", name := "pointAt", desc := "(II)I" } : Jvm.MethodName)) ∈ lw_all := lw_g (lw_at lw_m9 151 rfl) rfl
theorem q2161 : (Jvm.Cond.privateMethod ({ cls := "LabelPlacerModel", name := "pointAt", desc := "(II)I" } : Jvm.MethodName)) ∈ lw_tbl := lw_at lw_m9 152 rfl
theorem q2162 : (Jvm.Cond.instanceMethod ({ cls := "LabelPlacerModel", name := "pointAt", desc := "(II)I" } : Jvm.MethodName)) ∈ lw_all := lw_g (lw_at lw_m9 153 rfl) rfl
theorem q2163 : (Jvm.Cond.code ({ cls := "LabelPlacerModel", name := "pointAt", desc := "(II)I" } : Jvm.MethodName) prog_17_method_17_code (4 : Nat) (Option.some Jvm.ClassFile.FieldType.int)) ∈ lw_all := lw_g (lw_at lw_m9 154 rfl) rfl
theorem q2164 : (Jvm.Cond.methodLink "LabelPlacerModel" (102 : Nat) ({ cls := "LabelPlacerModel", name := "settles", desc := "()V" } : Jvm.MethodName)) ∈ lw_all := lw_g (lw_at lw_m9 155 rfl) rfl
theorem q2165 : (Jvm.Cond.privateMethod ({ cls := "LabelPlacerModel", name := "settles", desc := "()V" } : Jvm.MethodName)) ∈ lw_tbl := lw_at lw_m9 156 rfl
theorem q2166 : (Jvm.Cond.instanceMethod ({ cls := "LabelPlacerModel", name := "settles", desc := "()V" } : Jvm.MethodName)) ∈ lw_all := lw_g (lw_at lw_m9 157 rfl) rfl
theorem q2167 : (Jvm.Cond.code ({ cls := "LabelPlacerModel", name := "settles", desc := "()V" } : Jvm.MethodName) prog_17_method_13_code (3 : Nat) (Option.none : Option Jvm.ClassFile.FieldType)) ∈ lw_all := lw_g (lw_at lw_m9 158 rfl) rfl
theorem q2168 : (Jvm.Cond.methodLink "LabelPlacerModel" (83 : Nat) ({ cls := "LabelPlacerModel", name := "findsAll", desc := "()V" } : Jvm.MethodName)) ∈ lw_all := lw_g (lw_at lw_m9 159 rfl) rfl
theorem q2169 : (Jvm.Cond.privateMethod ({ cls := "LabelPlacerModel", name := "findsAll", desc := "()V" } : Jvm.MethodName)) ∈ lw_tbl := lw_at lw_m9 160 rfl
theorem q2170 : (Jvm.Cond.instanceMethod ({ cls := "LabelPlacerModel", name := "findsAll", desc := "()V" } : Jvm.MethodName)) ∈ lw_all := lw_g (lw_at lw_m9 161 rfl) rfl
theorem q2171 : (Jvm.Cond.code ({ cls := "LabelPlacerModel", name := "findsAll", desc := "()V" } : Jvm.MethodName) prog_17_method_9_code (2 : Nat) (Option.none : Option Jvm.ClassFile.FieldType)) ∈ lw_all := lw_g (lw_at lw_m9 162 rfl) rfl
theorem q2172 : (Jvm.Cond.methodLink "LabelPlacerModel" (76 : Nat) ({ cls := "LabelPlacerModel", name := "finds", desc := "(II)Z" } : Jvm.MethodName)) ∈ lw_all := lw_g (lw_at lw_m9 163 rfl) rfl
theorem q2173 : (Jvm.Cond.privateMethod ({ cls := "LabelPlacerModel", name := "finds", desc := "(II)Z" } : Jvm.MethodName)) ∈ lw_tbl := lw_at lw_m9 164 rfl
theorem q2174 : (Jvm.Cond.instanceMethod ({ cls := "LabelPlacerModel", name := "finds", desc := "(II)Z" } : Jvm.MethodName)) ∈ lw_all := lw_g (lw_at lw_m9 165 rfl) rfl
theorem q2175 : (Jvm.Cond.code ({ cls := "LabelPlacerModel", name := "finds", desc := "(II)Z" } : Jvm.MethodName) prog_17_method_8_code (7 : Nat) (Option.some Jvm.ClassFile.FieldType.boolean)) ∈ lw_all := lw_g (lw_at lw_m9 166 rfl) rfl
theorem q2176 : (Jvm.Cond.methodLink "LabelPlacerModel" (61 : Nat) ({ cls := "LabelPlacerModel", name := "left", desc := "(II)I" } : Jvm.MethodName)) ∈ lw_all := lw_g (lw_at lw_m9 167 rfl) rfl
theorem q2177 : (Jvm.Cond.privateMethod ({ cls := "LabelPlacerModel", name := "left", desc := "(II)I" } : Jvm.MethodName)) ∈ lw_tbl := lw_at lw_m9 168 rfl
theorem q2178 : (Jvm.Cond.instanceMethod ({ cls := "LabelPlacerModel", name := "left", desc := "(II)I" } : Jvm.MethodName)) ∈ lw_all := lw_g (lw_at lw_m9 169 rfl) rfl
theorem q2179 : (Jvm.Cond.code ({ cls := "LabelPlacerModel", name := "left", desc := "(II)I" } : Jvm.MethodName) prog_17_method_5_code (4 : Nat) (Option.some Jvm.ClassFile.FieldType.int)) ∈ lw_all := lw_g (lw_at lw_m9 170 rfl) rfl
theorem q2180 : (Jvm.Cond.methodLink "LabelPlacerModel" (65 : Nat) ({ cls := "LabelPlacerModel", name := "bottom", desc := "(II)I" } : Jvm.MethodName)) ∈ lw_all := lw_g (lw_at lw_m9 171 rfl) rfl
theorem q2181 : (Jvm.Cond.privateMethod ({ cls := "LabelPlacerModel", name := "bottom", desc := "(II)I" } : Jvm.MethodName)) ∈ lw_tbl := lw_at lw_m9 172 rfl
theorem q2182 : (Jvm.Cond.instanceMethod ({ cls := "LabelPlacerModel", name := "bottom", desc := "(II)I" } : Jvm.MethodName)) ∈ lw_all := lw_g (lw_at lw_m9 173 rfl) rfl
theorem q2183 : (Jvm.Cond.code ({ cls := "LabelPlacerModel", name := "bottom", desc := "(II)I" } : Jvm.MethodName) prog_17_method_6_code (4 : Nat) (Option.some Jvm.ClassFile.FieldType.int)) ∈ lw_all := lw_g (lw_at lw_m9 174 rfl) rfl
theorem q2184 : (Jvm.Cond.methodLink "LabelPlacerModel" (68 : Nat) ({ cls := "LabelPlacerModel", name := "isVisible", desc := "(I)Z" } : Jvm.MethodName)) ∈ lw_all := lw_g (lw_at lw_m9 175 rfl) rfl
theorem q2185 : (Jvm.Cond.privateMethod ({ cls := "LabelPlacerModel", name := "isVisible", desc := "(I)Z" } : Jvm.MethodName)) ∈ lw_tbl := lw_at lw_m9 176 rfl
theorem q2186 : (Jvm.Cond.instanceMethod ({ cls := "LabelPlacerModel", name := "isVisible", desc := "(I)Z" } : Jvm.MethodName)) ∈ lw_all := lw_g (lw_at lw_m9 177 rfl) rfl
theorem q2187 : (Jvm.Cond.code ({ cls := "LabelPlacerModel", name := "isVisible", desc := "(I)Z" } : Jvm.MethodName) prog_17_method_4_code (2 : Nat) (Option.some Jvm.ClassFile.FieldType.boolean)) ∈ lw_all := lw_g (lw_at lw_m9 178 rfl) rfl
theorem q2188 : (Jvm.Cond.methodLink "LabelPlacerModel" (72 : Nat) ({ cls := "LabelPlacerModel", name := "covers", desc := "(IIII)Z" } : Jvm.MethodName)) ∈ lw_all := lw_g (lw_at lw_m9 179 rfl) rfl
theorem q2189 : (Jvm.Cond.privateMethod ({ cls := "LabelPlacerModel", name := "covers", desc := "(IIII)Z" } : Jvm.MethodName)) ∈ lw_tbl := lw_at lw_m9 180 rfl
theorem q2190 : (Jvm.Cond.instanceMethod ({ cls := "LabelPlacerModel", name := "covers", desc := "(IIII)Z" } : Jvm.MethodName)) ∈ lw_all := lw_g (lw_at lw_m9 181 rfl) rfl
theorem q2191 : (Jvm.Cond.code ({ cls := "LabelPlacerModel", name := "covers", desc := "(IIII)Z" } : Jvm.MethodName) prog_17_method_7_code (7 : Nat) (Option.some Jvm.ClassFile.FieldType.boolean)) ∈ lw_all := lw_g (lw_at lw_m9 182 rfl) rfl
theorem q2193 : (Jvm.Cond.instanceMethod ({ cls := "LabelPlacerModel", name := "removePoint", desc := "(I)I" } : Jvm.MethodName)) ∈ lw_all := lw_g (lw_at lw_m9 184 rfl) rfl
theorem q2194 : (Jvm.Cond.selects "LabelPlacerModel" ({ cls := "LabelPlacerModel", name := "removePoint", desc := "(I)I" } : Jvm.MethodName) ({ cls := "LabelPlacerModel", name := "removePoint", desc := "(I)I" } : Jvm.MethodName)) ∈ lw_all := lw_g (lw_at lw_m9 185 rfl) rfl
theorem q2195 : (Jvm.Cond.code ({ cls := "LabelPlacerModel", name := "removePoint", desc := "(I)I" } : Jvm.MethodName) prog_17_method_19_code (4 : Nat) (Option.some Jvm.ClassFile.FieldType.int)) ∈ lw_all := lw_g (lw_at lw_m9 186 rfl) rfl
theorem q2196 : (Jvm.Cond.methodLink "LabelPlacerModel" (105 : Nat) ({ cls := "LabelPlacerModel", name := "isPoint", desc := "(I)Z" } : Jvm.MethodName)) ∈ lw_all := lw_g (lw_at lw_m9 187 rfl) rfl
theorem q2197 : (Jvm.Cond.privateMethod ({ cls := "LabelPlacerModel", name := "isPoint", desc := "(I)Z" } : Jvm.MethodName)) ∈ lw_tbl := lw_at lw_m9 188 rfl
theorem q2198 : (Jvm.Cond.instanceMethod ({ cls := "LabelPlacerModel", name := "isPoint", desc := "(I)Z" } : Jvm.MethodName)) ∈ lw_all := lw_g (lw_at lw_m9 189 rfl) rfl
theorem q2199 : (Jvm.Cond.code ({ cls := "LabelPlacerModel", name := "isPoint", desc := "(I)Z" } : Jvm.MethodName) prog_17_method_3_code (2 : Nat) (Option.some Jvm.ClassFile.FieldType.boolean)) ∈ lw_all := lw_g (lw_at lw_m9 190 rfl) rfl
theorem q2201 : (Jvm.Cond.instanceMethod ({ cls := "LabelPlacerModel", name := "setPoint", desc := "(III)I" } : Jvm.MethodName)) ∈ lw_all := lw_g (lw_at lw_m9 192 rfl) rfl
theorem q2202 : (Jvm.Cond.selects "LabelPlacerModel" ({ cls := "LabelPlacerModel", name := "setPoint", desc := "(III)I" } : Jvm.MethodName) ({ cls := "LabelPlacerModel", name := "setPoint", desc := "(III)I" } : Jvm.MethodName)) ∈ lw_all := lw_g (lw_at lw_m9 193 rfl) rfl
theorem q2203 : (Jvm.Cond.code ({ cls := "LabelPlacerModel", name := "setPoint", desc := "(III)I" } : Jvm.MethodName) prog_17_method_20_code (5 : Nat) (Option.some Jvm.ClassFile.FieldType.int)) ∈ lw_all := lw_g (lw_at lw_m9 194 rfl) rfl
theorem q2204 : (Jvm.Cond.methodLink "LabelPlacerModel" (108 : Nat) ({ cls := "LabelPlacerModel", name := "clashes", desc := "(III)I" } : Jvm.MethodName)) ∈ lw_all := lw_g (lw_at lw_m9 195 rfl) rfl
theorem q2205 : (Jvm.Cond.privateMethod ({ cls := "LabelPlacerModel", name := "clashes", desc := "(III)I" } : Jvm.MethodName)) ∈ lw_tbl := lw_at lw_m9 196 rfl
theorem q2206 : (Jvm.Cond.instanceMethod ({ cls := "LabelPlacerModel", name := "clashes", desc := "(III)I" } : Jvm.MethodName)) ∈ lw_all := lw_g (lw_at lw_m9 197 rfl) rfl
theorem q2207 : (Jvm.Cond.code ({ cls := "LabelPlacerModel", name := "clashes", desc := "(III)I" } : Jvm.MethodName) prog_17_method_11_code (6 : Nat) (Option.some Jvm.ClassFile.FieldType.int)) ∈ lw_all := lw_g (lw_at lw_m9 198 rfl) rfl
theorem q2208 : (Jvm.Cond.methodLink "LabelPlacerModel" (80 : Nat) ({ cls := "LabelPlacerModel", name := "meet", desc := "(IIII)Z" } : Jvm.MethodName)) ∈ lw_all := lw_g (lw_at lw_m9 199 rfl) rfl
theorem q2209 : (Jvm.Cond.privateMethod ({ cls := "LabelPlacerModel", name := "meet", desc := "(IIII)Z" } : Jvm.MethodName)) ∈ lw_tbl := lw_at lw_m9 200 rfl
theorem q2210 : (Jvm.Cond.instanceMethod ({ cls := "LabelPlacerModel", name := "meet", desc := "(IIII)Z" } : Jvm.MethodName)) ∈ lw_all := lw_g (lw_at lw_m9 201 rfl) rfl
theorem q2211 : (Jvm.Cond.code ({ cls := "LabelPlacerModel", name := "meet", desc := "(IIII)Z" } : Jvm.MethodName) prog_17_method_10_code (6 : Nat) (Option.some Jvm.ClassFile.FieldType.boolean)) ∈ lw_all := lw_g (lw_at lw_m9 202 rfl) rfl
theorem q2213 : (Jvm.Cond.instanceMethod ({ cls := "LabelPlacerModel", name := "point", desc := "(II)I" } : Jvm.MethodName)) ∈ lw_all := lw_g (lw_at lw_m9 204 rfl) rfl
theorem q2214 : (Jvm.Cond.selects "LabelPlacerModel" ({ cls := "LabelPlacerModel", name := "point", desc := "(II)I" } : Jvm.MethodName) ({ cls := "LabelPlacerModel", name := "point", desc := "(II)I" } : Jvm.MethodName)) ∈ lw_all := lw_g (lw_at lw_m9 205 rfl) rfl
theorem q2215 : (Jvm.Cond.code ({ cls := "LabelPlacerModel", name := "point", desc := "(II)I" } : Jvm.MethodName) prog_17_method_23_code (3 : Nat) (Option.some Jvm.ClassFile.FieldType.int)) ∈ lw_all := lw_g (lw_at lw_m9 206 rfl) rfl
theorem q2216 : (Jvm.Cond.constantLong "LabelPlacerModel" (116 : Nat) (8 : Int64)) ∈ lw_all := lw_g (lw_at lw_m9 207 rfl) rfl
theorem q2217 : (Jvm.Cond.methodLink "LabelPlacerModel" (118 : Nat) ({ cls := "LabelPlacerModel", name := "part", desc := "(II)I" } : Jvm.MethodName)) ∈ lw_all := lw_g (lw_at lw_m9 208 rfl) rfl
theorem q2218 : (Jvm.Cond.privateMethod ({ cls := "LabelPlacerModel", name := "part", desc := "(II)I" } : Jvm.MethodName)) ∈ lw_tbl := lw_at lw_m9 209 rfl
theorem q2219 : (Jvm.Cond.instanceMethod ({ cls := "LabelPlacerModel", name := "part", desc := "(II)I" } : Jvm.MethodName)) ∈ lw_all := lw_g (lw_at lw_m9 210 rfl) rfl
theorem q2220 : (Jvm.Cond.code ({ cls := "LabelPlacerModel", name := "part", desc := "(II)I" } : Jvm.MethodName) prog_17_method_22_code (3 : Nat) (Option.some Jvm.ClassFile.FieldType.int)) ∈ lw_all := lw_g (lw_at lw_m9 211 rfl) rfl
theorem q2221 : (Jvm.Cond.methodLink "LabelPlacerModel" (112 : Nat) ({ cls := "LabelPlacerModel", name := "placesOf", desc := "(I)I" } : Jvm.MethodName)) ∈ lw_all := lw_g (lw_at lw_m9 212 rfl) rfl
theorem q2222 : (Jvm.Cond.privateMethod ({ cls := "LabelPlacerModel", name := "placesOf", desc := "(I)I" } : Jvm.MethodName)) ∈ lw_tbl := lw_at lw_m9 213 rfl
theorem q2223 : (Jvm.Cond.instanceMethod ({ cls := "LabelPlacerModel", name := "placesOf", desc := "(I)I" } : Jvm.MethodName)) ∈ lw_all := lw_g (lw_at lw_m9 214 rfl) rfl
theorem q2224 : (Jvm.Cond.code ({ cls := "LabelPlacerModel", name := "placesOf", desc := "(I)I" } : Jvm.MethodName) prog_17_method_21_code (4 : Nat) (Option.some Jvm.ClassFile.FieldType.int)) ∈ lw_all := lw_g (lw_at lw_m9 215 rfl) rfl
theorem q2226 : (Jvm.Cond.instanceMethod ({ cls := "LabelPlacerModel", name := "setWindow", desc := "(IIII)I" } : Jvm.MethodName)) ∈ lw_all := lw_g (lw_at lw_m9 217 rfl) rfl
theorem q2227 : (Jvm.Cond.selects "LabelPlacerModel" ({ cls := "LabelPlacerModel", name := "setWindow", desc := "(IIII)I" } : Jvm.MethodName) ({ cls := "LabelPlacerModel", name := "setWindow", desc := "(IIII)I" } : Jvm.MethodName)) ∈ lw_all := lw_g (lw_at lw_m9 218 rfl) rfl
theorem q2228 : (Jvm.Cond.code ({ cls := "LabelPlacerModel", name := "setWindow", desc := "(IIII)I" } : Jvm.MethodName) prog_17_method_25_code (6 : Nat) (Option.some Jvm.ClassFile.FieldType.int)) ∈ lw_all := lw_g (lw_at lw_m9 219 rfl) rfl
theorem q2229 : (Jvm.Cond.constantLong "LabelPlacerModel" (121 : Nat) (10 : Int64)) ∈ lw_all := lw_g (lw_at lw_m9 220 rfl) rfl
theorem q2230 : (Jvm.Cond.constantLong "LabelPlacerModel" (123 : Nat) (100 : Int64)) ∈ lw_all := lw_g (lw_at lw_m9 221 rfl) rfl
theorem q2231 : (Jvm.Cond.methodLink "LabelPlacerModel" (125 : Nat) ({ cls := "LabelPlacerModel", name := "visible", desc := "()I" } : Jvm.MethodName)) ∈ lw_all := lw_g (lw_at lw_m9 222 rfl) rfl
theorem q2232 : (Jvm.Cond.privateMethod ({ cls := "LabelPlacerModel", name := "visible", desc := "()I" } : Jvm.MethodName)) ∈ lw_tbl := lw_at lw_m9 223 rfl
theorem q2233 : (Jvm.Cond.instanceMethod ({ cls := "LabelPlacerModel", name := "visible", desc := "()I" } : Jvm.MethodName)) ∈ lw_all := lw_g (lw_at lw_m9 224 rfl) rfl
theorem q2234 : (Jvm.Cond.code ({ cls := "LabelPlacerModel", name := "visible", desc := "()I" } : Jvm.MethodName) prog_17_method_24_code (3 : Nat) (Option.some Jvm.ClassFile.FieldType.int)) ∈ lw_all := lw_g (lw_at lw_m9 225 rfl) rfl
theorem q2236 : (Jvm.Cond.instanceMethod ({ cls := "LabelPlacerModel", name := "pan", desc := "(II)I" } : Jvm.MethodName)) ∈ lw_all := lw_g (lw_at lw_m9 227 rfl) rfl
theorem q2237 : (Jvm.Cond.selects "LabelPlacerModel" ({ cls := "LabelPlacerModel", name := "pan", desc := "(II)I" } : Jvm.MethodName) ({ cls := "LabelPlacerModel", name := "pan", desc := "(II)I" } : Jvm.MethodName)) ∈ lw_all := lw_g (lw_at lw_m9 228 rfl) rfl
theorem q2238 : (Jvm.Cond.code ({ cls := "LabelPlacerModel", name := "pan", desc := "(II)I" } : Jvm.MethodName) prog_17_method_26_code (5 : Nat) (Option.some Jvm.ClassFile.FieldType.int)) ∈ lw_all := lw_g (lw_at lw_m9 229 rfl) rfl
theorem q2239 : (Jvm.Cond.methodLink "LabelPlacerModel" (129 : Nat) ({ cls := "LabelPlacerModel", name := "shown", desc := "()I" } : Jvm.MethodName)) ∈ lw_all := lw_g (lw_at lw_m9 230 rfl) rfl
theorem q2240 : (Jvm.Cond.privateMethod ({ cls := "LabelPlacerModel", name := "shown", desc := "()I" } : Jvm.MethodName)) ∈ lw_tbl := lw_at lw_m9 231 rfl
theorem q2241 : (Jvm.Cond.instanceMethod ({ cls := "LabelPlacerModel", name := "shown", desc := "()I" } : Jvm.MethodName)) ∈ lw_all := lw_g (lw_at lw_m9 232 rfl) rfl
theorem q2242 : (Jvm.Cond.code ({ cls := "LabelPlacerModel", name := "shown", desc := "()I" } : Jvm.MethodName) prog_17_method_14_code (3 : Nat) (Option.some Jvm.ClassFile.FieldType.int)) ∈ lw_all := lw_g (lw_at lw_m9 233 rfl) rfl
theorem q2243 : (Jvm.Cond.methodLink "LabelPlacerModel" (132 : Nat) ({ cls := "LabelPlacerModel", name := "fill", desc := "()I" } : Jvm.MethodName)) ∈ lw_all := lw_g (lw_at lw_m9 234 rfl) rfl
theorem q2244 : (Jvm.Cond.instanceMethod ({ cls := "LabelPlacerModel", name := "fill", desc := "()I" } : Jvm.MethodName)) ∈ lw_all := lw_g (lw_at lw_m9 235 rfl) rfl
theorem q2245 : (Jvm.Cond.selects "LabelPlacerModel" ({ cls := "LabelPlacerModel", name := "fill", desc := "()I" } : Jvm.MethodName) ({ cls := "LabelPlacerModel", name := "fill", desc := "()I" } : Jvm.MethodName)) ∈ lw_all := lw_g (lw_at lw_m9 236 rfl) rfl
theorem q2246 : (Jvm.Cond.code ({ cls := "LabelPlacerModel", name := "fill", desc := "()I" } : Jvm.MethodName) prog_17_method_34_code (5 : Nat) (Option.some Jvm.ClassFile.FieldType.int)) ∈ lw_all := lw_g (lw_at lw_m9 237 rfl) rfl
theorem q2247 : (Jvm.Cond.methodLink "LabelPlacerModel" (148 : Nat) ({ cls := "LabelPlacerModel", name := "orders", desc := "()V" } : Jvm.MethodName)) ∈ lw_all := lw_g (lw_at lw_m9 238 rfl) rfl
theorem q2248 : (Jvm.Cond.privateMethod ({ cls := "LabelPlacerModel", name := "orders", desc := "()V" } : Jvm.MethodName)) ∈ lw_tbl := lw_at lw_m9 239 rfl
theorem q2249 : (Jvm.Cond.instanceMethod ({ cls := "LabelPlacerModel", name := "orders", desc := "()V" } : Jvm.MethodName)) ∈ lw_all := lw_g (lw_at lw_m10 0 rfl) rfl
theorem q2250 : (Jvm.Cond.code ({ cls := "LabelPlacerModel", name := "orders", desc := "()V" } : Jvm.MethodName) prog_17_method_15_code (4 : Nat) (Option.none : Option Jvm.ClassFile.FieldType)) ∈ lw_all := lw_g (lw_at lw_m10 1 rfl) rfl
theorem q2251 : (Jvm.Cond.methodLink "LabelPlacerModel" (151 : Nat) ({ cls := "LabelPlacerModel", name := "wants", desc := "(I)Z" } : Jvm.MethodName)) ∈ lw_all := lw_g (lw_at lw_m10 2 rfl) rfl
theorem q2252 : (Jvm.Cond.privateMethod ({ cls := "LabelPlacerModel", name := "wants", desc := "(I)Z" } : Jvm.MethodName)) ∈ lw_tbl := lw_at lw_m10 3 rfl
theorem q2253 : (Jvm.Cond.instanceMethod ({ cls := "LabelPlacerModel", name := "wants", desc := "(I)Z" } : Jvm.MethodName)) ∈ lw_all := lw_g (lw_at lw_m10 4 rfl) rfl
theorem q2254 : (Jvm.Cond.code ({ cls := "LabelPlacerModel", name := "wants", desc := "(I)Z" } : Jvm.MethodName) prog_17_method_33_code (2 : Nat) (Option.some Jvm.ClassFile.FieldType.boolean)) ∈ lw_all := lw_g (lw_at lw_m10 5 rfl) rfl
theorem q2256 : (Jvm.Cond.instanceMethod ({ cls := "LabelPlacerModel", name := "place", desc := "(III)I" } : Jvm.MethodName)) ∈ lw_all := lw_g (lw_at lw_m10 7 rfl) rfl
theorem q2257 : (Jvm.Cond.selects "LabelPlacerModel" ({ cls := "LabelPlacerModel", name := "place", desc := "(III)I" } : Jvm.MethodName) ({ cls := "LabelPlacerModel", name := "place", desc := "(III)I" } : Jvm.MethodName)) ∈ lw_all := lw_g (lw_at lw_m10 8 rfl) rfl
theorem q2258 : (Jvm.Cond.code ({ cls := "LabelPlacerModel", name := "place", desc := "(III)I" } : Jvm.MethodName) prog_17_method_30_code (4 : Nat) (Option.some Jvm.ClassFile.FieldType.int)) ∈ lw_all := lw_g (lw_at lw_m10 9 rfl) rfl
theorem q2259 : (Jvm.Cond.methodLink "LabelPlacerModel" (140 : Nat) ({ cls := "LabelPlacerModel", name := "isSide", desc := "(I)Z" } : Jvm.MethodName)) ∈ lw_all := lw_g (lw_at lw_m10 10 rfl) rfl
theorem q2260 : (Jvm.Cond.static ({ cls := "LabelPlacerModel", name := "isSide", desc := "(I)Z" } : Jvm.MethodName)) ∈ lw_all := lw_g (lw_at lw_m10 11 rfl) rfl
theorem q2261 : (Jvm.Cond.code ({ cls := "LabelPlacerModel", name := "isSide", desc := "(I)Z" } : Jvm.MethodName) prog_17_method_29_code (1 : Nat) (Option.some Jvm.ClassFile.FieldType.boolean)) ∈ lw_all := lw_g (lw_at lw_m10 12 rfl) rfl
theorem q2262 : (Jvm.Cond.constantLong "LabelPlacerModel" (138 : Nat) (7 : Int64)) ∈ lw_all := lw_g (lw_at lw_m10 13 rfl) rfl
theorem q2263 : (Jvm.Cond.constantLong "LabelPlacerModel" (143 : Nat) (4 : Int64)) ∈ lw_all := lw_g (lw_at lw_m10 14 rfl) rfl
theorem q2264 : (Jvm.Cond.methodLink "LabelPlacerModel" (145 : Nat) ({ cls := "LabelPlacerModel", name := "placePart", desc := "(III)I" } : Jvm.MethodName)) ∈ lw_all := lw_g (lw_at lw_m10 15 rfl) rfl
theorem q2265 : (Jvm.Cond.privateMethod ({ cls := "LabelPlacerModel", name := "placePart", desc := "(III)I" } : Jvm.MethodName)) ∈ lw_tbl := lw_at lw_m10 16 rfl
theorem q2266 : (Jvm.Cond.instanceMethod ({ cls := "LabelPlacerModel", name := "placePart", desc := "(III)I" } : Jvm.MethodName)) ∈ lw_all := lw_g (lw_at lw_m10 17 rfl) rfl
theorem q2267 : (Jvm.Cond.code ({ cls := "LabelPlacerModel", name := "placePart", desc := "(III)I" } : Jvm.MethodName) prog_17_method_28_code (5 : Nat) (Option.some Jvm.ClassFile.FieldType.int)) ∈ lw_all := lw_g (lw_at lw_m10 18 rfl) rfl
theorem q2268 : (Jvm.Cond.methodLink "LabelPlacerModel" (135 : Nat) ({ cls := "LabelPlacerModel", name := "meets", desc := "(II)I" } : Jvm.MethodName)) ∈ lw_all := lw_g (lw_at lw_m10 19 rfl) rfl
theorem q2269 : (Jvm.Cond.privateMethod ({ cls := "LabelPlacerModel", name := "meets", desc := "(II)I" } : Jvm.MethodName)) ∈ lw_tbl := lw_at lw_m10 20 rfl
theorem q2270 : (Jvm.Cond.instanceMethod ({ cls := "LabelPlacerModel", name := "meets", desc := "(II)I" } : Jvm.MethodName)) ∈ lw_all := lw_g (lw_at lw_m10 21 rfl) rfl
theorem q2271 : (Jvm.Cond.code ({ cls := "LabelPlacerModel", name := "meets", desc := "(II)I" } : Jvm.MethodName) prog_17_method_27_code (5 : Nat) (Option.some Jvm.ClassFile.FieldType.int)) ∈ lw_all := lw_g (lw_at lw_m10 22 rfl) rfl
theorem q2273 : (Jvm.Cond.instanceMethod ({ cls := "LabelPlacerModel", name := "clash", desc := "(IIII)I" } : Jvm.MethodName)) ∈ lw_all := lw_g (lw_at lw_m10 24 rfl) rfl
theorem q2274 : (Jvm.Cond.selects "LabelPlacerModel" ({ cls := "LabelPlacerModel", name := "clash", desc := "(IIII)I" } : Jvm.MethodName) ({ cls := "LabelPlacerModel", name := "clash", desc := "(IIII)I" } : Jvm.MethodName)) ∈ lw_all := lw_g (lw_at lw_m10 25 rfl) rfl
theorem q2275 : (Jvm.Cond.code ({ cls := "LabelPlacerModel", name := "clash", desc := "(IIII)I" } : Jvm.MethodName) prog_17_method_31_code (5 : Nat) (Option.some Jvm.ClassFile.FieldType.int)) ∈ lw_all := lw_g (lw_at lw_m10 26 rfl) rfl
theorem q2277 : (Jvm.Cond.instanceMethod ({ cls := "LabelPlacerModel", name := "labelAt", desc := "(II)I" } : Jvm.MethodName)) ∈ lw_all := lw_g (lw_at lw_m10 28 rfl) rfl
theorem q2278 : (Jvm.Cond.selects "LabelPlacerModel" ({ cls := "LabelPlacerModel", name := "labelAt", desc := "(II)I" } : Jvm.MethodName) ({ cls := "LabelPlacerModel", name := "labelAt", desc := "(II)I" } : Jvm.MethodName)) ∈ lw_all := lw_g (lw_at lw_m10 29 rfl) rfl
theorem q2279 : (Jvm.Cond.code ({ cls := "LabelPlacerModel", name := "labelAt", desc := "(II)I" } : Jvm.MethodName) prog_17_method_32_code (4 : Nat) (Option.some Jvm.ClassFile.FieldType.int)) ∈ lw_all := lw_g (lw_at lw_m10 30 rfl) rfl
theorem q2282 : (Jvm.Cond.instanceMethod ({ cls := "LabelPlacerModel", name := "improve", desc := "()I" } : Jvm.MethodName)) ∈ lw_all := lw_g (lw_at lw_m10 33 rfl) rfl
theorem q2283 : (Jvm.Cond.selects "LabelPlacerModel" ({ cls := "LabelPlacerModel", name := "improve", desc := "()I" } : Jvm.MethodName) ({ cls := "LabelPlacerModel", name := "improve", desc := "()I" } : Jvm.MethodName)) ∈ lw_all := lw_g (lw_at lw_m10 34 rfl) rfl
theorem q2284 : (Jvm.Cond.code ({ cls := "LabelPlacerModel", name := "improve", desc := "()I" } : Jvm.MethodName) prog_17_method_37_code (5 : Nat) (Option.some Jvm.ClassFile.FieldType.int)) ∈ lw_all := lw_g (lw_at lw_m10 35 rfl) rfl
theorem q2285 : (Jvm.Cond.methodLink "LabelPlacerModel" (160 : Nat) ({ cls := "LabelPlacerModel", name := "makesRoom", desc := "(II)Z" } : Jvm.MethodName)) ∈ lw_all := lw_g (lw_at lw_m10 36 rfl) rfl
theorem q2286 : (Jvm.Cond.privateMethod ({ cls := "LabelPlacerModel", name := "makesRoom", desc := "(II)Z" } : Jvm.MethodName)) ∈ lw_tbl := lw_at lw_m10 37 rfl
theorem q2287 : (Jvm.Cond.instanceMethod ({ cls := "LabelPlacerModel", name := "makesRoom", desc := "(II)Z" } : Jvm.MethodName)) ∈ lw_all := lw_g (lw_at lw_m10 38 rfl) rfl
theorem q2288 : (Jvm.Cond.code ({ cls := "LabelPlacerModel", name := "makesRoom", desc := "(II)Z" } : Jvm.MethodName) prog_17_method_36_code (6 : Nat) (Option.some Jvm.ClassFile.FieldType.boolean)) ∈ lw_all := lw_g (lw_at lw_m10 39 rfl) rfl
theorem q2289 : (Jvm.Cond.methodLink "LabelPlacerModel" (154 : Nat) ({ cls := "LabelPlacerModel", name := "clashing", desc := "(II)I" } : Jvm.MethodName)) ∈ lw_all := lw_g (lw_at lw_m10 40 rfl) rfl
theorem q2290 : (Jvm.Cond.privateMethod ({ cls := "LabelPlacerModel", name := "clashing", desc := "(II)I" } : Jvm.MethodName)) ∈ lw_tbl := lw_at lw_m10 41 rfl
theorem q2291 : (Jvm.Cond.instanceMethod ({ cls := "LabelPlacerModel", name := "clashing", desc := "(II)I" } : Jvm.MethodName)) ∈ lw_all := lw_g (lw_at lw_m10 42 rfl) rfl
theorem q2292 : (Jvm.Cond.code ({ cls := "LabelPlacerModel", name := "clashing", desc := "(II)I" } : Jvm.MethodName) prog_17_method_12_code (5 : Nat) (Option.some Jvm.ClassFile.FieldType.int)) ∈ lw_all := lw_g (lw_at lw_m10 43 rfl) rfl
theorem q2293 : (Jvm.Cond.methodLink "LabelPlacerModel" (157 : Nat) ({ cls := "LabelPlacerModel", name := "escapes", desc := "(III)I" } : Jvm.MethodName)) ∈ lw_all := lw_g (lw_at lw_m10 44 rfl) rfl
theorem q2294 : (Jvm.Cond.privateMethod ({ cls := "LabelPlacerModel", name := "escapes", desc := "(III)I" } : Jvm.MethodName)) ∈ lw_tbl := lw_at lw_m10 45 rfl
theorem q2295 : (Jvm.Cond.instanceMethod ({ cls := "LabelPlacerModel", name := "escapes", desc := "(III)I" } : Jvm.MethodName)) ∈ lw_all := lw_g (lw_at lw_m10 46 rfl) rfl
theorem q2296 : (Jvm.Cond.code ({ cls := "LabelPlacerModel", name := "escapes", desc := "(III)I" } : Jvm.MethodName) prog_17_method_35_code (6 : Nat) (Option.some Jvm.ClassFile.FieldType.int)) ∈ lw_all := lw_g (lw_at lw_m10 47 rfl) rfl
theorem q2298 : (Jvm.Cond.instanceMethod ({ cls := "LabelPlacerModel", name := "push", desc := "()I" } : Jvm.MethodName)) ∈ lw_all := lw_g (lw_at lw_m10 49 rfl) rfl
theorem q2299 : (Jvm.Cond.selects "LabelPlacerModel" ({ cls := "LabelPlacerModel", name := "push", desc := "()I" } : Jvm.MethodName) ({ cls := "LabelPlacerModel", name := "push", desc := "()I" } : Jvm.MethodName)) ∈ lw_all := lw_g (lw_at lw_m10 50 rfl) rfl
theorem q2300 : (Jvm.Cond.code ({ cls := "LabelPlacerModel", name := "push", desc := "()I" } : Jvm.MethodName) prog_17_method_41_code (3 : Nat) (Option.some Jvm.ClassFile.FieldType.int)) ∈ lw_all := lw_g (lw_at lw_m10 51 rfl) rfl
theorem q2301 : (Jvm.Cond.methodLink "LabelPlacerModel" (169 : Nat) ({ cls := "LabelPlacerModel", name := "pushes", desc := "()Z" } : Jvm.MethodName)) ∈ lw_all := lw_g (lw_at lw_m10 52 rfl) rfl
theorem q2302 : (Jvm.Cond.privateMethod ({ cls := "LabelPlacerModel", name := "pushes", desc := "()Z" } : Jvm.MethodName)) ∈ lw_tbl := lw_at lw_m10 53 rfl
theorem q2303 : (Jvm.Cond.instanceMethod ({ cls := "LabelPlacerModel", name := "pushes", desc := "()Z" } : Jvm.MethodName)) ∈ lw_all := lw_g (lw_at lw_m10 54 rfl) rfl
theorem q2304 : (Jvm.Cond.code ({ cls := "LabelPlacerModel", name := "pushes", desc := "()Z" } : Jvm.MethodName) prog_17_method_40_code (6 : Nat) (Option.some Jvm.ClassFile.FieldType.boolean)) ∈ lw_all := lw_g (lw_at lw_m10 55 rfl) rfl
theorem q2305 : (Jvm.Cond.methodLink "LabelPlacerModel" (166 : Nat) ({ cls := "LabelPlacerModel", name := "strongest", desc := "(I)I" } : Jvm.MethodName)) ∈ lw_all := lw_g (lw_at lw_m10 56 rfl) rfl
theorem q2306 : (Jvm.Cond.privateMethod ({ cls := "LabelPlacerModel", name := "strongest", desc := "(I)I" } : Jvm.MethodName)) ∈ lw_tbl := lw_at lw_m10 57 rfl
theorem q2307 : (Jvm.Cond.instanceMethod ({ cls := "LabelPlacerModel", name := "strongest", desc := "(I)I" } : Jvm.MethodName)) ∈ lw_all := lw_g (lw_at lw_m10 58 rfl) rfl
theorem q2308 : (Jvm.Cond.code ({ cls := "LabelPlacerModel", name := "strongest", desc := "(I)I" } : Jvm.MethodName) prog_17_method_39_code (3 : Nat) (Option.some Jvm.ClassFile.FieldType.int)) ∈ lw_all := lw_g (lw_at lw_m10 59 rfl) rfl
theorem q2309 : (Jvm.Cond.methodLink "LabelPlacerModel" (163 : Nat) ({ cls := "LabelPlacerModel", name := "isStronger", desc := "(II)Z" } : Jvm.MethodName)) ∈ lw_all := lw_g (lw_at lw_m10 60 rfl) rfl
theorem q2310 : (Jvm.Cond.privateMethod ({ cls := "LabelPlacerModel", name := "isStronger", desc := "(II)Z" } : Jvm.MethodName)) ∈ lw_tbl := lw_at lw_m10 61 rfl
theorem q2311 : (Jvm.Cond.instanceMethod ({ cls := "LabelPlacerModel", name := "isStronger", desc := "(II)Z" } : Jvm.MethodName)) ∈ lw_all := lw_g (lw_at lw_m10 62 rfl) rfl
theorem q2312 : (Jvm.Cond.code ({ cls := "LabelPlacerModel", name := "isStronger", desc := "(II)Z" } : Jvm.MethodName) prog_17_method_38_code (6 : Nat) (Option.some Jvm.ClassFile.FieldType.boolean)) ∈ lw_all := lw_g (lw_at lw_m10 63 rfl) rfl
theorem q2314 : (Jvm.Cond.instanceMethod ({ cls := "LabelPlacerModel", name := "show", desc := "(II)I" } : Jvm.MethodName)) ∈ lw_all := lw_g (lw_at lw_m10 65 rfl) rfl
theorem q2315 : (Jvm.Cond.selects "LabelPlacerModel" ({ cls := "LabelPlacerModel", name := "show", desc := "(II)I" } : Jvm.MethodName) ({ cls := "LabelPlacerModel", name := "show", desc := "(II)I" } : Jvm.MethodName)) ∈ lw_all := lw_g (lw_at lw_m10 66 rfl) rfl
theorem q2316 : (Jvm.Cond.code ({ cls := "LabelPlacerModel", name := "show", desc := "(II)I" } : Jvm.MethodName) prog_17_method_42_code (4 : Nat) (Option.some Jvm.ClassFile.FieldType.int)) ∈ lw_all := lw_g (lw_at lw_m10 67 rfl) rfl
theorem q2318 : (Jvm.Cond.instanceMethod ({ cls := "LabelPlacerModel", name := "hideAll", desc := "()I" } : Jvm.MethodName)) ∈ lw_all := lw_g (lw_at lw_m10 69 rfl) rfl
theorem q2319 : (Jvm.Cond.selects "LabelPlacerModel" ({ cls := "LabelPlacerModel", name := "hideAll", desc := "()I" } : Jvm.MethodName) ({ cls := "LabelPlacerModel", name := "hideAll", desc := "()I" } : Jvm.MethodName)) ∈ lw_all := lw_g (lw_at lw_m10 70 rfl) rfl
theorem q2320 : (Jvm.Cond.code ({ cls := "LabelPlacerModel", name := "hideAll", desc := "()I" } : Jvm.MethodName) prog_17_method_43_code (3 : Nat) (Option.some Jvm.ClassFile.FieldType.int)) ∈ lw_all := lw_g (lw_at lw_m10 71 rfl) rfl
theorem q2322 : (Jvm.Cond.instanceMethod ({ cls := "LabelPlacerModel", name := "greatest", desc := "()I" } : Jvm.MethodName)) ∈ lw_all := lw_g (lw_at lw_m10 73 rfl) rfl
theorem q2323 : (Jvm.Cond.selects "LabelPlacerModel" ({ cls := "LabelPlacerModel", name := "greatest", desc := "()I" } : Jvm.MethodName) ({ cls := "LabelPlacerModel", name := "greatest", desc := "()I" } : Jvm.MethodName)) ∈ lw_all := lw_g (lw_at lw_m10 74 rfl) rfl
theorem q2324 : (Jvm.Cond.code ({ cls := "LabelPlacerModel", name := "greatest", desc := "()I" } : Jvm.MethodName) prog_17_method_45_code (5 : Nat) (Option.some Jvm.ClassFile.FieldType.int)) ∈ lw_all := lw_g (lw_at lw_m10 75 rfl) rfl
theorem q2325 : (Jvm.Cond.methodLink "LabelPlacerModel" (173 : Nat) ({ cls := "LabelPlacerModel", name := "fitsWith", desc := "(I)Z" } : Jvm.MethodName)) ∈ lw_all := lw_g (lw_at lw_m10 76 rfl) rfl
theorem q2326 : (Jvm.Cond.privateMethod ({ cls := "LabelPlacerModel", name := "fitsWith", desc := "(I)Z" } : Jvm.MethodName)) ∈ lw_tbl := lw_at lw_m10 77 rfl
theorem q2327 : (Jvm.Cond.instanceMethod ({ cls := "LabelPlacerModel", name := "fitsWith", desc := "(I)Z" } : Jvm.MethodName)) ∈ lw_all := lw_g (lw_at lw_m10 78 rfl) rfl
theorem q2328 : (Jvm.Cond.code ({ cls := "LabelPlacerModel", name := "fitsWith", desc := "(I)Z" } : Jvm.MethodName) prog_17_method_44_code (4 : Nat) (Option.some Jvm.ClassFile.FieldType.boolean)) ∈ lw_all := lw_g (lw_at lw_m10 79 rfl) rfl
theorem q2329 : (Jvm.Cond.methodLink "LabelPlacerModel" (176 : Nat) ({ cls := "LabelPlacerModel", name := "sum", desc := "(I)I" } : Jvm.MethodName)) ∈ lw_all := lw_g (lw_at lw_m10 80 rfl) rfl
theorem q2330 : (Jvm.Cond.privateMethod ({ cls := "LabelPlacerModel", name := "sum", desc := "(I)I" } : Jvm.MethodName)) ∈ lw_tbl := lw_at lw_m10 81 rfl
theorem q2331 : (Jvm.Cond.instanceMethod ({ cls := "LabelPlacerModel", name := "sum", desc := "(I)I" } : Jvm.MethodName)) ∈ lw_all := lw_g (lw_at lw_m10 82 rfl) rfl
theorem q2332 : (Jvm.Cond.code ({ cls := "LabelPlacerModel", name := "sum", desc := "(I)I" } : Jvm.MethodName) prog_17_method_46_code (4 : Nat) (Option.some Jvm.ClassFile.FieldType.int)) ∈ lw_all := lw_g (lw_at lw_m10 83 rfl) rfl
theorem q2334 : (Jvm.Cond.instanceMethod ({ cls := "LabelPlacerModel", name := "leaders", desc := "()I" } : Jvm.MethodName)) ∈ lw_all := lw_g (lw_at lw_m10 85 rfl) rfl
theorem q2335 : (Jvm.Cond.selects "LabelPlacerModel" ({ cls := "LabelPlacerModel", name := "leaders", desc := "()I" } : Jvm.MethodName) ({ cls := "LabelPlacerModel", name := "leaders", desc := "()I" } : Jvm.MethodName)) ∈ lw_all := lw_g (lw_at lw_m10 86 rfl) rfl
theorem q2336 : (Jvm.Cond.code ({ cls := "LabelPlacerModel", name := "leaders", desc := "()I" } : Jvm.MethodName) prog_17_method_48_code (7 : Nat) (Option.some Jvm.ClassFile.FieldType.int)) ∈ lw_all := lw_g (lw_at lw_m10 87 rfl) rfl
theorem q2337 : (Jvm.Cond.methodLink "LabelPlacerModel" (179 : Nat) ({ cls := "LabelPlacerModel", name := "isAhead", desc := "(II)Z" } : Jvm.MethodName)) ∈ lw_all := lw_g (lw_at lw_m10 88 rfl) rfl
theorem q2338 : (Jvm.Cond.privateMethod ({ cls := "LabelPlacerModel", name := "isAhead", desc := "(II)Z" } : Jvm.MethodName)) ∈ lw_tbl := lw_at lw_m10 89 rfl
theorem q2339 : (Jvm.Cond.instanceMethod ({ cls := "LabelPlacerModel", name := "isAhead", desc := "(II)Z" } : Jvm.MethodName)) ∈ lw_all := lw_g (lw_at lw_m10 90 rfl) rfl
theorem q2340 : (Jvm.Cond.code ({ cls := "LabelPlacerModel", name := "isAhead", desc := "(II)Z" } : Jvm.MethodName) prog_17_method_47_code (3 : Nat) (Option.some Jvm.ClassFile.FieldType.boolean)) ∈ lw_all := lw_g (lw_at lw_m10 91 rfl) rfl
theorem q2342 : (Jvm.Cond.instanceMethod ({ cls := "LabelPlacerModel", name := "leader", desc := "(II)I" } : Jvm.MethodName)) ∈ lw_all := lw_g (lw_at lw_m10 93 rfl) rfl
theorem q2343 : (Jvm.Cond.selects "LabelPlacerModel" ({ cls := "LabelPlacerModel", name := "leader", desc := "(II)I" } : Jvm.MethodName) ({ cls := "LabelPlacerModel", name := "leader", desc := "(II)I" } : Jvm.MethodName)) ∈ lw_all := lw_g (lw_at lw_m10 94 rfl) rfl
theorem q2344 : (Jvm.Cond.code ({ cls := "LabelPlacerModel", name := "leader", desc := "(II)I" } : Jvm.MethodName) prog_17_method_49_code (3 : Nat) (Option.some Jvm.ClassFile.FieldType.int)) ∈ lw_all := lw_g (lw_at lw_m10 95 rfl) rfl
theorem q2345 : (Jvm.Cond.constantLong "LabelPlacerModel" (185 : Nat) (3 : Int64)) ∈ lw_all := lw_g (lw_at lw_m10 96 rfl) rfl
theorem q2347 : (Jvm.Cond.instanceMethod ({ cls := "LabelPlacerModel", name := "type", desc := "(I)I" } : Jvm.MethodName)) ∈ lw_all := lw_g (lw_at lw_m10 98 rfl) rfl
theorem q2348 : (Jvm.Cond.selects "LabelPlacerModel" ({ cls := "LabelPlacerModel", name := "type", desc := "(I)I" } : Jvm.MethodName) ({ cls := "LabelPlacerModel", name := "type", desc := "(I)I" } : Jvm.MethodName)) ∈ lw_all := lw_g (lw_at lw_m10 99 rfl) rfl
theorem q2349 : (Jvm.Cond.code ({ cls := "LabelPlacerModel", name := "type", desc := "(I)I" } : Jvm.MethodName) prog_17_method_50_code (2 : Nat) (Option.some Jvm.ClassFile.FieldType.int)) ∈ lw_all := lw_g (lw_at lw_m10 100 rfl) rfl
theorem q2350 : (Jvm.Cond.constantLong "LabelPlacerModel" (187 : Nat) (127 : Int64)) ∈ lw_all := lw_g (lw_at lw_m10 101 rfl) rfl
theorem q2352 : (Jvm.Cond.instanceMethod ({ cls := "LabelPlacerModel", name := "clear", desc := "()I" } : Jvm.MethodName)) ∈ lw_all := lw_g (lw_at lw_m10 103 rfl) rfl
theorem q2353 : (Jvm.Cond.selects "LabelPlacerModel" ({ cls := "LabelPlacerModel", name := "clear", desc := "()I" } : Jvm.MethodName) ({ cls := "LabelPlacerModel", name := "clear", desc := "()I" } : Jvm.MethodName)) ∈ lw_all := lw_g (lw_at lw_m10 104 rfl) rfl
theorem q2354 : (Jvm.Cond.code ({ cls := "LabelPlacerModel", name := "clear", desc := "()I" } : Jvm.MethodName) prog_17_method_51_code (2 : Nat) (Option.some Jvm.ClassFile.FieldType.int)) ∈ lw_all := lw_g (lw_at lw_m10 105 rfl) rfl
theorem q2356 : (Jvm.Cond.instanceMethod ({ cls := "LabelPlacerModel", name := "run", desc := "()I" } : Jvm.MethodName)) ∈ lw_all := lw_g (lw_at lw_m10 107 rfl) rfl
theorem q2357 : (Jvm.Cond.selects "LabelPlacerModel" ({ cls := "LabelPlacerModel", name := "run", desc := "()I" } : Jvm.MethodName) ({ cls := "LabelPlacerModel", name := "run", desc := "()I" } : Jvm.MethodName)) ∈ lw_all := lw_g (lw_at lw_m10 108 rfl) rfl
theorem q2358 : (Jvm.Cond.code ({ cls := "LabelPlacerModel", name := "run", desc := "()I" } : Jvm.MethodName) prog_17_method_61_code (2 : Nat) (Option.some Jvm.ClassFile.FieldType.int)) ∈ lw_all := lw_g (lw_at lw_m10 109 rfl) rfl
theorem q2359 : (Jvm.Cond.methodLink "LabelPlacerModel" (235 : Nat) ({ cls := "LabelPlacerModel", name := "reads", desc := "()I" } : Jvm.MethodName)) ∈ lw_all := lw_g (lw_at lw_m10 110 rfl) rfl
theorem q2360 : (Jvm.Cond.privateMethod ({ cls := "LabelPlacerModel", name := "reads", desc := "()I" } : Jvm.MethodName)) ∈ lw_tbl := lw_at lw_m10 111 rfl
theorem q2361 : (Jvm.Cond.instanceMethod ({ cls := "LabelPlacerModel", name := "reads", desc := "()I" } : Jvm.MethodName)) ∈ lw_all := lw_g (lw_at lw_m10 112 rfl) rfl
theorem q2362 : (Jvm.Cond.code ({ cls := "LabelPlacerModel", name := "reads", desc := "()I" } : Jvm.MethodName) prog_17_method_60_code (5 : Nat) (Option.some Jvm.ClassFile.FieldType.int)) ∈ lw_all := lw_g (lw_at lw_m10 113 rfl) rfl
theorem q2363 : (Jvm.Cond.methodLink "LabelPlacerModel" (220 : Nat) ({ cls := "LabelPlacerModel", name := "skips", desc := "()V" } : Jvm.MethodName)) ∈ lw_all := lw_g (lw_at lw_m10 114 rfl) rfl
theorem q2364 : (Jvm.Cond.privateMethod ({ cls := "LabelPlacerModel", name := "skips", desc := "()V" } : Jvm.MethodName)) ∈ lw_tbl := lw_at lw_m10 115 rfl
theorem q2365 : (Jvm.Cond.instanceMethod ({ cls := "LabelPlacerModel", name := "skips", desc := "()V" } : Jvm.MethodName)) ∈ lw_all := lw_g (lw_at lw_m10 116 rfl) rfl
theorem q2366 : (Jvm.Cond.code ({ cls := "LabelPlacerModel", name := "skips", desc := "()V" } : Jvm.MethodName) prog_17_method_53_code (1 : Nat) (Option.none : Option Jvm.ClassFile.FieldType)) ∈ lw_all := lw_g (lw_at lw_m10 117 rfl) rfl
theorem q2367 : (Jvm.Cond.methodLink "LabelPlacerModel" (195 : Nat) ({ cls := "LabelPlacerModel", name := "next", desc := "()I" } : Jvm.MethodName)) ∈ lw_all := lw_g (lw_at lw_m10 118 rfl) rfl
theorem q2368 : (Jvm.Cond.privateMethod ({ cls := "LabelPlacerModel", name := "next", desc := "()I" } : Jvm.MethodName)) ∈ lw_tbl := lw_at lw_m10 119 rfl
theorem q2369 : (Jvm.Cond.instanceMethod ({ cls := "LabelPlacerModel", name := "next", desc := "()I" } : Jvm.MethodName)) ∈ lw_all := lw_g (lw_at lw_m10 120 rfl) rfl
theorem q2370 : (Jvm.Cond.code ({ cls := "LabelPlacerModel", name := "next", desc := "()I" } : Jvm.MethodName) prog_17_method_52_code (1 : Nat) (Option.some Jvm.ClassFile.FieldType.int)) ∈ lw_all := lw_g (lw_at lw_m10 121 rfl) rfl
theorem q2371 : (Jvm.Cond.methodLink "LabelPlacerModel" (226 : Nat) ({ cls := "LabelPlacerModel", name := "readsWord", desc := "()V" } : Jvm.MethodName)) ∈ lw_all := lw_g (lw_at lw_m10 122 rfl) rfl
theorem q2372 : (Jvm.Cond.privateMethod ({ cls := "LabelPlacerModel", name := "readsWord", desc := "()V" } : Jvm.MethodName)) ∈ lw_tbl := lw_at lw_m10 123 rfl
theorem q2373 : (Jvm.Cond.instanceMethod ({ cls := "LabelPlacerModel", name := "readsWord", desc := "()V" } : Jvm.MethodName)) ∈ lw_all := lw_g (lw_at lw_m10 124 rfl) rfl
theorem q2374 : (Jvm.Cond.code ({ cls := "LabelPlacerModel", name := "readsWord", desc := "()V" } : Jvm.MethodName) prog_17_method_55_code (1 : Nat) (Option.none : Option Jvm.ClassFile.FieldType)) ∈ lw_all := lw_g (lw_at lw_m10 125 rfl) rfl
theorem q2375 : (Jvm.Cond.constantLong "LabelPlacerModel" (204 : Nat) (97 : Int64)) ∈ lw_all := lw_g (lw_at lw_m10 126 rfl) rfl
theorem q2376 : (Jvm.Cond.constantLong "LabelPlacerModel" (206 : Nat) (122 : Int64)) ∈ lw_all := lw_g (lw_at lw_m10 127 rfl) rfl
theorem q2377 : (Jvm.Cond.methodLink "LabelPlacerModel" (229 : Nat) ({ cls := "LabelPlacerModel", name := "command", desc := "()I" } : Jvm.MethodName)) ∈ lw_all := lw_g (lw_at lw_m10 128 rfl) rfl
theorem q2378 : (Jvm.Cond.privateMethod ({ cls := "LabelPlacerModel", name := "command", desc := "()I" } : Jvm.MethodName)) ∈ lw_tbl := lw_at lw_m10 129 rfl
theorem q2379 : (Jvm.Cond.instanceMethod ({ cls := "LabelPlacerModel", name := "command", desc := "()I" } : Jvm.MethodName)) ∈ lw_all := lw_g (lw_at lw_m10 130 rfl) rfl
theorem q2380 : (Jvm.Cond.code ({ cls := "LabelPlacerModel", name := "command", desc := "()I" } : Jvm.MethodName) prog_17_method_57_code (2 : Nat) (Option.some Jvm.ClassFile.FieldType.int)) ∈ lw_all := lw_g (lw_at lw_m10 131 rfl) rfl
theorem q2381 : (Jvm.Cond.methodLink "LabelPlacerModel" (208 : Nat) ({ cls := "LabelPlacerModel", name := "isWord", desc := "(IIIIIII)Z" } : Jvm.MethodName)) ∈ lw_all := lw_g (lw_at lw_m10 132 rfl) rfl
theorem q2382 : (Jvm.Cond.privateMethod ({ cls := "LabelPlacerModel", name := "isWord", desc := "(IIIIIII)Z" } : Jvm.MethodName)) ∈ lw_tbl := lw_at lw_m10 133 rfl
theorem q2383 : (Jvm.Cond.instanceMethod ({ cls := "LabelPlacerModel", name := "isWord", desc := "(IIIIIII)Z" } : Jvm.MethodName)) ∈ lw_all := lw_g (lw_at lw_m10 134 rfl) rfl
theorem q2384 : (Jvm.Cond.code ({ cls := "LabelPlacerModel", name := "isWord", desc := "(IIIIIII)Z" } : Jvm.MethodName) prog_17_method_56_code (10 : Nat) (Option.some Jvm.ClassFile.FieldType.boolean)) ∈ lw_all := lw_g (lw_at lw_m10 135 rfl) rfl
theorem q2385 : (Jvm.Cond.methodLink "LabelPlacerModel" (216 : Nat) ({ cls := "LabelPlacerModel", name := "fails", desc := "(I)V" } : Jvm.MethodName)) ∈ lw_all := lw_g (lw_at lw_m10 136 rfl) rfl
theorem q2386 : (Jvm.Cond.privateMethod ({ cls := "LabelPlacerModel", name := "fails", desc := "(I)V" } : Jvm.MethodName)) ∈ lw_tbl := lw_at lw_m10 137 rfl
theorem q2387 : (Jvm.Cond.instanceMethod ({ cls := "LabelPlacerModel", name := "fails", desc := "(I)V" } : Jvm.MethodName)) ∈ lw_all := lw_g (lw_at lw_m10 138 rfl) rfl
theorem q2388 : (Jvm.Cond.code ({ cls := "LabelPlacerModel", name := "fails", desc := "(I)V" } : Jvm.MethodName) prog_17_method_54_code (2 : Nat) (Option.none : Option Jvm.ClassFile.FieldType)) ∈ lw_all := lw_g (lw_at lw_m10 139 rfl) rfl
theorem q2389 : (Jvm.Cond.methodLink "LabelPlacerModel" (223 : Nat) ({ cls := "LabelPlacerModel", name := "readsNumber", desc := "()I" } : Jvm.MethodName)) ∈ lw_all := lw_g (lw_at lw_m10 140 rfl) rfl
theorem q2390 : (Jvm.Cond.privateMethod ({ cls := "LabelPlacerModel", name := "readsNumber", desc := "()I" } : Jvm.MethodName)) ∈ lw_tbl := lw_at lw_m10 141 rfl
theorem q2391 : (Jvm.Cond.instanceMethod ({ cls := "LabelPlacerModel", name := "readsNumber", desc := "()I" } : Jvm.MethodName)) ∈ lw_all := lw_g (lw_at lw_m10 142 rfl) rfl
theorem q2392 : (Jvm.Cond.code ({ cls := "LabelPlacerModel", name := "readsNumber", desc := "()I" } : Jvm.MethodName) prog_17_method_58_code (3 : Nat) (Option.some Jvm.ClassFile.FieldType.int)) ∈ lw_all := lw_g (lw_at lw_m10 143 rfl) rfl
theorem q2393 : (Jvm.Cond.constantLong "LabelPlacerModel" (212 : Nat) (48 : Int64)) ∈ lw_all := lw_g (lw_at lw_m10 144 rfl) rfl
theorem q2394 : (Jvm.Cond.constantLong "LabelPlacerModel" (214 : Nat) (57 : Int64)) ∈ lw_all := lw_g (lw_at lw_m10 145 rfl) rfl
theorem q2395 : (Jvm.Cond.methodLink "LabelPlacerModel" (232 : Nat) ({ cls := "LabelPlacerModel", name := "readsWhole", desc := "()I" } : Jvm.MethodName)) ∈ lw_all := lw_g (lw_at lw_m10 146 rfl) rfl
theorem q2396 : (Jvm.Cond.privateMethod ({ cls := "LabelPlacerModel", name := "readsWhole", desc := "()I" } : Jvm.MethodName)) ∈ lw_tbl := lw_at lw_m10 147 rfl
theorem q2397 : (Jvm.Cond.instanceMethod ({ cls := "LabelPlacerModel", name := "readsWhole", desc := "()I" } : Jvm.MethodName)) ∈ lw_all := lw_g (lw_at lw_m10 148 rfl) rfl
theorem q2398 : (Jvm.Cond.code ({ cls := "LabelPlacerModel", name := "readsWhole", desc := "()I" } : Jvm.MethodName) prog_17_method_59_code (3 : Nat) (Option.some Jvm.ClassFile.FieldType.int)) ∈ lw_all := lw_g (lw_at lw_m10 149 rfl) rfl
theorem q2399 : (Jvm.Cond.methodLink "LabelPlacerModel" (238 : Nat) ({ cls := "LabelPlacerModel", name := "addPoint", desc := "(IIIIII)I" } : Jvm.MethodName)) ∈ lw_all := lw_g (lw_at lw_m10 150 rfl) rfl
theorem q2400 : (Jvm.Cond.methodLink "LabelPlacerModel" (242 : Nat) ({ cls := "LabelPlacerModel", name := "setWindow", desc := "(IIII)I" } : Jvm.MethodName)) ∈ lw_all := lw_g (lw_at lw_m10 151 rfl) rfl
theorem q2401 : (Jvm.Cond.methodLink "LabelPlacerModel" (246 : Nat) ({ cls := "LabelPlacerModel", name := "pan", desc := "(II)I" } : Jvm.MethodName)) ∈ lw_all := lw_g (lw_at lw_m10 152 rfl) rfl
theorem q2402 : (Jvm.Cond.methodLink "LabelPlacerModel" (249 : Nat) ({ cls := "LabelPlacerModel", name := "improve", desc := "()I" } : Jvm.MethodName)) ∈ lw_all := lw_g (lw_at lw_m10 153 rfl) rfl
theorem q2403 : (Jvm.Cond.methodLink "LabelPlacerModel" (252 : Nat) ({ cls := "LabelPlacerModel", name := "hideAll", desc := "()I" } : Jvm.MethodName)) ∈ lw_all := lw_g (lw_at lw_m10 154 rfl) rfl
theorem q2405 : (Jvm.Cond.instanceMethod ({ cls := "LabelPlacerModel", name := "count", desc := "(I)I" } : Jvm.MethodName)) ∈ lw_all := lw_g (lw_at lw_m10 156 rfl) rfl
theorem q2406 : (Jvm.Cond.selects "LabelPlacerModel" ({ cls := "LabelPlacerModel", name := "count", desc := "(I)I" } : Jvm.MethodName) ({ cls := "LabelPlacerModel", name := "count", desc := "(I)I" } : Jvm.MethodName)) ∈ lw_all := lw_g (lw_at lw_m10 157 rfl) rfl
theorem q2407 : (Jvm.Cond.code ({ cls := "LabelPlacerModel", name := "count", desc := "(I)I" } : Jvm.MethodName) prog_17_method_67_code (2 : Nat) (Option.some Jvm.ClassFile.FieldType.int)) ∈ lw_all := lw_g (lw_at lw_m10 158 rfl) rfl
theorem q2408 : (Jvm.Cond.constantLong "LabelPlacerModel" (267 : Nat) (12 : Int64)) ∈ lw_all := lw_g (lw_at lw_m10 159 rfl) rfl
theorem q2409 : (Jvm.Cond.methodLink "LabelPlacerModel" (269 : Nat) ({ cls := "LabelPlacerModel", name := "number", desc := "(I)I" } : Jvm.MethodName)) ∈ lw_all := lw_g (lw_at lw_m10 160 rfl) rfl
theorem q2410 : (Jvm.Cond.privateMethod ({ cls := "LabelPlacerModel", name := "number", desc := "(I)I" } : Jvm.MethodName)) ∈ lw_tbl := lw_at lw_m10 161 rfl
theorem q2411 : (Jvm.Cond.instanceMethod ({ cls := "LabelPlacerModel", name := "number", desc := "(I)I" } : Jvm.MethodName)) ∈ lw_all := lw_g (lw_at lw_m10 162 rfl) rfl
theorem q2412 : (Jvm.Cond.code ({ cls := "LabelPlacerModel", name := "number", desc := "(I)I" } : Jvm.MethodName) prog_17_method_66_code (2 : Nat) (Option.some Jvm.ClassFile.FieldType.int)) ∈ lw_all := lw_g (lw_at lw_m10 163 rfl) rfl
theorem q2413 : (Jvm.Cond.methodLink "LabelPlacerModel" (255 : Nat) ({ cls := "LabelPlacerModel", name := "places", desc := "()I" } : Jvm.MethodName)) ∈ lw_all := lw_g (lw_at lw_m10 164 rfl) rfl
theorem q2414 : (Jvm.Cond.privateMethod ({ cls := "LabelPlacerModel", name := "places", desc := "()I" } : Jvm.MethodName)) ∈ lw_tbl := lw_at lw_m10 165 rfl
theorem q2415 : (Jvm.Cond.instanceMethod ({ cls := "LabelPlacerModel", name := "places", desc := "()I" } : Jvm.MethodName)) ∈ lw_all := lw_g (lw_at lw_m10 166 rfl) rfl
theorem q2416 : (Jvm.Cond.code ({ cls := "LabelPlacerModel", name := "places", desc := "()I" } : Jvm.MethodName) prog_17_method_62_code (3 : Nat) (Option.some Jvm.ClassFile.FieldType.int)) ∈ lw_all := lw_g (lw_at lw_m10 167 rfl) rfl
theorem q2417 : (Jvm.Cond.methodLink "LabelPlacerModel" (258 : Nat) ({ cls := "LabelPlacerModel", name := "pairs", desc := "()I" } : Jvm.MethodName)) ∈ lw_all := lw_g (lw_at lw_m10 168 rfl) rfl
theorem q2418 : (Jvm.Cond.privateMethod ({ cls := "LabelPlacerModel", name := "pairs", desc := "()I" } : Jvm.MethodName)) ∈ lw_tbl := lw_at lw_m10 169 rfl
theorem q2419 : (Jvm.Cond.instanceMethod ({ cls := "LabelPlacerModel", name := "pairs", desc := "()I" } : Jvm.MethodName)) ∈ lw_all := lw_g (lw_at lw_m10 170 rfl) rfl
theorem q2420 : (Jvm.Cond.code ({ cls := "LabelPlacerModel", name := "pairs", desc := "()I" } : Jvm.MethodName) prog_17_method_63_code (3 : Nat) (Option.some Jvm.ClassFile.FieldType.int)) ∈ lw_all := lw_g (lw_at lw_m10 171 rfl) rfl
theorem q2421 : (Jvm.Cond.methodLink "LabelPlacerModel" (261 : Nat) ({ cls := "LabelPlacerModel", name := "priorities", desc := "()I" } : Jvm.MethodName)) ∈ lw_all := lw_g (lw_at lw_m10 172 rfl) rfl
theorem q2422 : (Jvm.Cond.privateMethod ({ cls := "LabelPlacerModel", name := "priorities", desc := "()I" } : Jvm.MethodName)) ∈ lw_tbl := lw_at lw_m10 173 rfl
theorem q2423 : (Jvm.Cond.instanceMethod ({ cls := "LabelPlacerModel", name := "priorities", desc := "()I" } : Jvm.MethodName)) ∈ lw_all := lw_g (lw_at lw_m10 174 rfl) rfl
theorem q2424 : (Jvm.Cond.code ({ cls := "LabelPlacerModel", name := "priorities", desc := "()I" } : Jvm.MethodName) prog_17_method_64_code (3 : Nat) (Option.some Jvm.ClassFile.FieldType.int)) ∈ lw_all := lw_g (lw_at lw_m10 175 rfl) rfl
theorem q2425 : (Jvm.Cond.methodLink "LabelPlacerModel" (264 : Nat) ({ cls := "LabelPlacerModel", name := "pushing", desc := "()I" } : Jvm.MethodName)) ∈ lw_all := lw_g (lw_at lw_m10 176 rfl) rfl
theorem q2426 : (Jvm.Cond.privateMethod ({ cls := "LabelPlacerModel", name := "pushing", desc := "()I" } : Jvm.MethodName)) ∈ lw_tbl := lw_at lw_m10 177 rfl
theorem q2427 : (Jvm.Cond.instanceMethod ({ cls := "LabelPlacerModel", name := "pushing", desc := "()I" } : Jvm.MethodName)) ∈ lw_all := lw_g (lw_at lw_m10 178 rfl) rfl
theorem q2428 : (Jvm.Cond.code ({ cls := "LabelPlacerModel", name := "pushing", desc := "()I" } : Jvm.MethodName) prog_17_method_65_code (3 : Nat) (Option.some Jvm.ClassFile.FieldType.int)) ∈ lw_all := lw_g (lw_at lw_m10 179 rfl) rfl
theorem q2430 : (Jvm.Cond.instanceMethod ({ cls := "LabelPlacerModel", name := "digest", desc := "()J" } : Jvm.MethodName)) ∈ lw_all := lw_g (lw_at lw_m10 181 rfl) rfl
theorem q2431 : (Jvm.Cond.selects "LabelPlacerModel" ({ cls := "LabelPlacerModel", name := "digest", desc := "()J" } : Jvm.MethodName) ({ cls := "LabelPlacerModel", name := "digest", desc := "()J" } : Jvm.MethodName)) ∈ lw_all := lw_g (lw_at lw_m10 182 rfl) rfl
theorem q2432 : (Jvm.Cond.code ({ cls := "LabelPlacerModel", name := "digest", desc := "()J" } : Jvm.MethodName) prog_17_method_69_code (3 : Nat) (Option.some Jvm.ClassFile.FieldType.long)) ∈ lw_all := lw_g (lw_at lw_m10 183 rfl) rfl
theorem q2433 : (Jvm.Cond.constantLong "LabelPlacerModel" (278 : Nat) (325 : Int64)) ∈ lw_all := lw_g (lw_at lw_m10 184 rfl) rfl
theorem q2434 : (Jvm.Cond.methodLink "LabelPlacerModel" (280 : Nat) ({ cls := "LabelPlacerModel", name := "mixes", desc := "(J)V" } : Jvm.MethodName)) ∈ lw_all := lw_g (lw_at lw_m10 185 rfl) rfl
theorem q2435 : (Jvm.Cond.privateMethod ({ cls := "LabelPlacerModel", name := "mixes", desc := "(J)V" } : Jvm.MethodName)) ∈ lw_tbl := lw_at lw_m10 186 rfl
theorem q2436 : (Jvm.Cond.instanceMethod ({ cls := "LabelPlacerModel", name := "mixes", desc := "(J)V" } : Jvm.MethodName)) ∈ lw_all := lw_g (lw_at lw_m10 187 rfl) rfl
theorem q2437 : (Jvm.Cond.code ({ cls := "LabelPlacerModel", name := "mixes", desc := "(J)V" } : Jvm.MethodName) prog_17_method_68_code (3 : Nat) (Option.none : Option Jvm.ClassFile.FieldType)) ∈ lw_all := lw_g (lw_at lw_m10 188 rfl) rfl
theorem q2438 : (Jvm.Cond.constantLong "LabelPlacerModel" (272 : Nat) (31 : Int64)) ∈ lw_all := lw_g (lw_at lw_m10 189 rfl) rfl
theorem q2460 : (Jvm.Cond.castable "LabelPlacerModel" "java/lang/Object") ∈ lw_tbl := lw_at lw_m10 211 rfl
theorem in_X4 : ∀ w ∈ wsX40, w ∈ lw_all := lw_in wsX40 [2101, 2103, 2105, 2107, 2109, 2111, 2113, 2115, 2117, 2119, 2121, 2123, 2125, 2127, 2129, 2131, 2133, 2135, 2137, 2139, 2141] (by decide +kernel) (by decide +kernel)
