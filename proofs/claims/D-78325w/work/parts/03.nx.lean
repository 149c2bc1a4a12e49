/-! LabelPlacer$Box -/
set_option maxRecDepth 100000
def RX1 : String := "LabelPlacer$Box"
def TX1 : u_T := fun k => match k with
  | 0 => ("LabelPlacer$Box", "left", "I", true)
  | 1 => ("LabelPlacer$Box", "bottom", "I", true)
  | 2 => ("LabelPlacer$Box", "width", "I", true)
  | _ => ("LabelPlacer$Box", "height", "I", true)
def tyX1 : Nat → FieldType := fun k => match k with
  | 0 => .int
  | 1 => .int
  | 2 => .int
  | _ => .int
abbrev wsX10 : List Cond := u_ws RX1 TX1 4
theorem nmX1 : ∀ a, a < 4 → ∀ b, b < 4 → a ≠ b → (TX1 a).2.1 ≠ (TX1 b).2.1 := by decide +kernel
theorem tyX1_ok : ∀ k, k < 4 → parseFieldDescriptor (TX1 k).2.2.1 = some (tyX1 k) := by decide +kernel
abbrev cX1_init : ByteArray := prog_4_method_1_code
def yX1_init : MethodName := ⟨RX1, "<init>", "(IIII)V"⟩
def dkwX1_init_1 : List UInt8 := [181, 0, 19, 177]
abbrev dktX1_init_1 : List UInt8 := dkwX1_init_1 ++ []
def dkwX1_init_0 : List UInt8 := [42, 183, 0, 1, 42, 27, 181, 0, 7, 42, 28, 181, 0, 13, 42, 29, 181, 0, 16, 42, 21, 4]
abbrev dktX1_init_0 : List UInt8 := dkwX1_init_0 ++ dktX1_init_1
theorem dksX1_init_0 : cX1_init.data.toList.drop 0 = dktX1_init_0 := by decide +kernel
theorem dksX1_init_1 : cX1_init.data.toList.drop 22 = dktX1_init_1 := dk_seg dksX1_init_0 22 rfl rfl
theorem dX1_init_0 : decode cX1_init 0 = .ok (.aload_n 0, 1) := dk_42 (dk_at dksX1_init_0 0 rfl rfl)
theorem dX1_init_1 : decode cX1_init 1 = .ok (.invokespecial 1, 3) := dk_183 0 1 (dk_at dksX1_init_0 1 rfl rfl)
theorem dX1_init_4 : decode cX1_init 4 = .ok (.aload_n 0, 1) := dk_42 (dk_at dksX1_init_0 4 rfl rfl)
theorem dX1_init_5 : decode cX1_init 5 = .ok (.iload_n 1, 1) := dk_27 (dk_at dksX1_init_0 5 rfl rfl)
theorem dX1_init_6 : decode cX1_init 6 = .ok (.putfield 7, 3) := dk_181 0 7 (dk_at dksX1_init_0 6 rfl rfl)
theorem dX1_init_9 : decode cX1_init 9 = .ok (.aload_n 0, 1) := dk_42 (dk_at dksX1_init_0 9 rfl rfl)
theorem dX1_init_10 : decode cX1_init 10 = .ok (.iload_n 2, 1) := dk_28 (dk_at dksX1_init_0 10 rfl rfl)
theorem dX1_init_11 : decode cX1_init 11 = .ok (.putfield 13, 3) := dk_181 0 13 (dk_at dksX1_init_0 11 rfl rfl)
theorem dX1_init_14 : decode cX1_init 14 = .ok (.aload_n 0, 1) := dk_42 (dk_at dksX1_init_0 14 rfl rfl)
theorem dX1_init_15 : decode cX1_init 15 = .ok (.iload_n 3, 1) := dk_29 (dk_at dksX1_init_0 15 rfl rfl)
theorem dX1_init_16 : decode cX1_init 16 = .ok (.putfield 16, 3) := dk_181 0 16 (dk_at dksX1_init_0 16 rfl rfl)
theorem dX1_init_19 : decode cX1_init 19 = .ok (.aload_n 0, 1) := dk_42 (dk_at dksX1_init_0 19 rfl rfl)
theorem dX1_init_20 : decode cX1_init 20 = .ok (.iload 4, 2) := dk_21 4 (dk_at dksX1_init_0 20 rfl rfl)
theorem dX1_init_22 : decode cX1_init 22 = .ok (.putfield 19, 3) := dk_181 0 19 (dk_at dksX1_init_1 0 rfl rfl)
theorem dX1_init_25 : decode cX1_init 25 = .ok (.return_, 1) := dk_177 (dk_at dksX1_init_1 3 rfl rfl)
abbrev cX1_has : ByteArray := prog_4_method_2_code
def yX1_has : MethodName := ⟨RX1, "has", "(II)Z"⟩
def dkwX1_has_2 : List UInt8 := [3, 172]
abbrev dktX1_has_2 : List UInt8 := dkwX1_has_2 ++ []
def dkwX1_has_1 : List UInt8 := [180, 0, 13, 42, 180, 0, 13, 42, 180, 0, 19, 96, 4, 100, 184, 0, 22, 153, 0, 7, 4, 167, 0, 4]
abbrev dktX1_has_1 : List UInt8 := dkwX1_has_1 ++ dktX1_has_2
def dkwX1_has_0 : List UInt8 := [27, 42, 180, 0, 7, 42, 180, 0, 7, 42, 180, 0, 16, 96, 4, 100, 184, 0, 22, 153, 0, 29, 28, 42]
abbrev dktX1_has_0 : List UInt8 := dkwX1_has_0 ++ dktX1_has_1
theorem dksX1_has_0 : cX1_has.data.toList.drop 0 = dktX1_has_0 := by decide +kernel
theorem dksX1_has_1 : cX1_has.data.toList.drop 24 = dktX1_has_1 := dk_seg dksX1_has_0 24 rfl rfl
theorem dksX1_has_2 : cX1_has.data.toList.drop 48 = dktX1_has_2 := dk_seg dksX1_has_1 24 rfl rfl
theorem dX1_has_0 : decode cX1_has 0 = .ok (.iload_n 1, 1) := dk_27 (dk_at dksX1_has_0 0 rfl rfl)
theorem dX1_has_1 : decode cX1_has 1 = .ok (.aload_n 0, 1) := dk_42 (dk_at dksX1_has_0 1 rfl rfl)
theorem dX1_has_2 : decode cX1_has 2 = .ok (.getfield 7, 3) := dk_180 0 7 (dk_at dksX1_has_0 2 rfl rfl)
theorem dX1_has_5 : decode cX1_has 5 = .ok (.aload_n 0, 1) := dk_42 (dk_at dksX1_has_0 5 rfl rfl)
theorem dX1_has_6 : decode cX1_has 6 = .ok (.getfield 7, 3) := dk_180 0 7 (dk_at dksX1_has_0 6 rfl rfl)
theorem dX1_has_9 : decode cX1_has 9 = .ok (.aload_n 0, 1) := dk_42 (dk_at dksX1_has_0 9 rfl rfl)
theorem dX1_has_10 : decode cX1_has 10 = .ok (.getfield 16, 3) := dk_180 0 16 (dk_at dksX1_has_0 10 rfl rfl)
theorem dX1_has_13 : decode cX1_has 13 = .ok (.iadd, 1) := dk_96 (dk_at dksX1_has_0 13 rfl rfl)
theorem dX1_has_14 : decode cX1_has 14 = .ok (.iconst 1, 1) := dk_4 (dk_at dksX1_has_0 14 rfl rfl)
theorem dX1_has_15 : decode cX1_has 15 = .ok (.isub, 1) := dk_100 (dk_at dksX1_has_0 15 rfl rfl)
theorem dX1_has_16 : decode cX1_has 16 = .ok (.invokestatic 22, 3) := dk_184 0 22 (dk_at dksX1_has_0 16 rfl rfl)
theorem dX1_has_19 : decode cX1_has 19 = .ok (.ifCond .eq 29, 3) := dk_153 0 29 (dk_at dksX1_has_0 19 rfl rfl)
theorem dX1_has_22 : decode cX1_has 22 = .ok (.iload_n 2, 1) := dk_28 (dk_at dksX1_has_0 22 rfl rfl)
theorem dX1_has_23 : decode cX1_has 23 = .ok (.aload_n 0, 1) := dk_42 (dk_at dksX1_has_0 23 rfl rfl)
theorem dX1_has_24 : decode cX1_has 24 = .ok (.getfield 13, 3) := dk_180 0 13 (dk_at dksX1_has_1 0 rfl rfl)
theorem dX1_has_27 : decode cX1_has 27 = .ok (.aload_n 0, 1) := dk_42 (dk_at dksX1_has_1 3 rfl rfl)
theorem dX1_has_28 : decode cX1_has 28 = .ok (.getfield 13, 3) := dk_180 0 13 (dk_at dksX1_has_1 4 rfl rfl)
theorem dX1_has_31 : decode cX1_has 31 = .ok (.aload_n 0, 1) := dk_42 (dk_at dksX1_has_1 7 rfl rfl)
theorem dX1_has_32 : decode cX1_has 32 = .ok (.getfield 19, 3) := dk_180 0 19 (dk_at dksX1_has_1 8 rfl rfl)
theorem dX1_has_35 : decode cX1_has 35 = .ok (.iadd, 1) := dk_96 (dk_at dksX1_has_1 11 rfl rfl)
theorem dX1_has_36 : decode cX1_has 36 = .ok (.iconst 1, 1) := dk_4 (dk_at dksX1_has_1 12 rfl rfl)
theorem dX1_has_37 : decode cX1_has 37 = .ok (.isub, 1) := dk_100 (dk_at dksX1_has_1 13 rfl rfl)
theorem dX1_has_38 : decode cX1_has 38 = .ok (.invokestatic 22, 3) := dk_184 0 22 (dk_at dksX1_has_1 14 rfl rfl)
theorem dX1_has_41 : decode cX1_has 41 = .ok (.ifCond .eq 7, 3) := dk_153 0 7 (dk_at dksX1_has_1 17 rfl rfl)
theorem dX1_has_44 : decode cX1_has 44 = .ok (.iconst 1, 1) := dk_4 (dk_at dksX1_has_1 20 rfl rfl)
theorem dX1_has_45 : decode cX1_has 45 = .ok (.goto 4, 3) := dk_167 0 4 (dk_at dksX1_has_1 21 rfl rfl)
theorem dX1_has_48 : decode cX1_has 48 = .ok (.iconst 0, 1) := dk_3 (dk_at dksX1_has_2 0 rfl rfl)
theorem dX1_has_49 : decode cX1_has 49 = .ok (.ireturn, 1) := dk_172 (dk_at dksX1_has_2 1 rfl rfl)
abbrev cX1_isWithin : ByteArray := prog_4_method_4_code
def yX1_isWithin : MethodName := ⟨RX1, "isWithin", "(LLabelPlacer$Box;)Z"⟩
def dkwX1_isWithin_2 : List UInt8 := [3, 172]
abbrev dktX1_isWithin_2 : List UInt8 := dkwX1_isWithin_2 ++ []
def dkwX1_isWithin_1 : List UInt8 := [96, 4, 100, 42, 180, 0, 13, 42, 180, 0, 19, 96, 4, 100, 182, 0, 28, 153, 0, 7, 4, 167, 0, 4]
abbrev dktX1_isWithin_1 : List UInt8 := dkwX1_isWithin_1 ++ dktX1_isWithin_2
def dkwX1_isWithin_0 : List UInt8 := [43, 42, 180, 0, 7, 42, 180, 0, 13, 182, 0, 28, 153, 0, 36, 43, 42, 180, 0, 7, 42, 180, 0, 16]
abbrev dktX1_isWithin_0 : List UInt8 := dkwX1_isWithin_0 ++ dktX1_isWithin_1
theorem dksX1_isWithin_0 : cX1_isWithin.data.toList.drop 0 = dktX1_isWithin_0 := by decide +kernel
theorem dksX1_isWithin_1 : cX1_isWithin.data.toList.drop 24 = dktX1_isWithin_1 := dk_seg dksX1_isWithin_0 24 rfl rfl
theorem dksX1_isWithin_2 : cX1_isWithin.data.toList.drop 48 = dktX1_isWithin_2 := dk_seg dksX1_isWithin_1 24 rfl rfl
theorem dX1_isWithin_0 : decode cX1_isWithin 0 = .ok (.aload_n 1, 1) := dk_43 (dk_at dksX1_isWithin_0 0 rfl rfl)
theorem dX1_isWithin_1 : decode cX1_isWithin 1 = .ok (.aload_n 0, 1) := dk_42 (dk_at dksX1_isWithin_0 1 rfl rfl)
theorem dX1_isWithin_2 : decode cX1_isWithin 2 = .ok (.getfield 7, 3) := dk_180 0 7 (dk_at dksX1_isWithin_0 2 rfl rfl)
theorem dX1_isWithin_5 : decode cX1_isWithin 5 = .ok (.aload_n 0, 1) := dk_42 (dk_at dksX1_isWithin_0 5 rfl rfl)
theorem dX1_isWithin_6 : decode cX1_isWithin 6 = .ok (.getfield 13, 3) := dk_180 0 13 (dk_at dksX1_isWithin_0 6 rfl rfl)
theorem dX1_isWithin_9 : decode cX1_isWithin 9 = .ok (.invokevirtual 28, 3) := dk_182 0 28 (dk_at dksX1_isWithin_0 9 rfl rfl)
theorem dX1_isWithin_12 : decode cX1_isWithin 12 = .ok (.ifCond .eq 36, 3) := dk_153 0 36 (dk_at dksX1_isWithin_0 12 rfl rfl)
theorem dX1_isWithin_15 : decode cX1_isWithin 15 = .ok (.aload_n 1, 1) := dk_43 (dk_at dksX1_isWithin_0 15 rfl rfl)
theorem dX1_isWithin_16 : decode cX1_isWithin 16 = .ok (.aload_n 0, 1) := dk_42 (dk_at dksX1_isWithin_0 16 rfl rfl)
theorem dX1_isWithin_17 : decode cX1_isWithin 17 = .ok (.getfield 7, 3) := dk_180 0 7 (dk_at dksX1_isWithin_0 17 rfl rfl)
theorem dX1_isWithin_20 : decode cX1_isWithin 20 = .ok (.aload_n 0, 1) := dk_42 (dk_at dksX1_isWithin_0 20 rfl rfl)
theorem dX1_isWithin_21 : decode cX1_isWithin 21 = .ok (.getfield 16, 3) := dk_180 0 16 (dk_at dksX1_isWithin_0 21 rfl rfl)
theorem dX1_isWithin_24 : decode cX1_isWithin 24 = .ok (.iadd, 1) := dk_96 (dk_at dksX1_isWithin_1 0 rfl rfl)
theorem dX1_isWithin_25 : decode cX1_isWithin 25 = .ok (.iconst 1, 1) := dk_4 (dk_at dksX1_isWithin_1 1 rfl rfl)
theorem dX1_isWithin_26 : decode cX1_isWithin 26 = .ok (.isub, 1) := dk_100 (dk_at dksX1_isWithin_1 2 rfl rfl)
theorem dX1_isWithin_27 : decode cX1_isWithin 27 = .ok (.aload_n 0, 1) := dk_42 (dk_at dksX1_isWithin_1 3 rfl rfl)
theorem dX1_isWithin_28 : decode cX1_isWithin 28 = .ok (.getfield 13, 3) := dk_180 0 13 (dk_at dksX1_isWithin_1 4 rfl rfl)
theorem dX1_isWithin_31 : decode cX1_isWithin 31 = .ok (.aload_n 0, 1) := dk_42 (dk_at dksX1_isWithin_1 7 rfl rfl)
theorem dX1_isWithin_32 : decode cX1_isWithin 32 = .ok (.getfield 19, 3) := dk_180 0 19 (dk_at dksX1_isWithin_1 8 rfl rfl)
theorem dX1_isWithin_35 : decode cX1_isWithin 35 = .ok (.iadd, 1) := dk_96 (dk_at dksX1_isWithin_1 11 rfl rfl)
theorem dX1_isWithin_36 : decode cX1_isWithin 36 = .ok (.iconst 1, 1) := dk_4 (dk_at dksX1_isWithin_1 12 rfl rfl)
theorem dX1_isWithin_37 : decode cX1_isWithin 37 = .ok (.isub, 1) := dk_100 (dk_at dksX1_isWithin_1 13 rfl rfl)
theorem dX1_isWithin_38 : decode cX1_isWithin 38 = .ok (.invokevirtual 28, 3) := dk_182 0 28 (dk_at dksX1_isWithin_1 14 rfl rfl)
theorem dX1_isWithin_41 : decode cX1_isWithin 41 = .ok (.ifCond .eq 7, 3) := dk_153 0 7 (dk_at dksX1_isWithin_1 17 rfl rfl)
theorem dX1_isWithin_44 : decode cX1_isWithin 44 = .ok (.iconst 1, 1) := dk_4 (dk_at dksX1_isWithin_1 20 rfl rfl)
theorem dX1_isWithin_45 : decode cX1_isWithin 45 = .ok (.goto 4, 3) := dk_167 0 4 (dk_at dksX1_isWithin_1 21 rfl rfl)
theorem dX1_isWithin_48 : decode cX1_isWithin 48 = .ok (.iconst 0, 1) := dk_3 (dk_at dksX1_isWithin_2 0 rfl rfl)
theorem dX1_isWithin_49 : decode cX1_isWithin 49 = .ok (.ireturn, 1) := dk_172 (dk_at dksX1_isWithin_2 1 rfl rfl)
abbrev cX1_meets : ByteArray := prog_4_method_3_code
def yX1_meets : MethodName := ⟨RX1, "meets", "(LLabelPlacer$Box;)Z"⟩
def dkwX1_meets_2 : List UInt8 := [43, 180, 0, 13, 42, 180, 0, 13, 42, 180, 0, 19, 96, 162, 0, 7, 4, 167, 0, 4, 3, 172]
abbrev dktX1_meets_2 : List UInt8 := dkwX1_meets_2 ++ []
def dkwX1_meets_1 : List UInt8 := [42, 180, 0, 16, 96, 162, 0, 39, 42, 180, 0, 13, 43, 180, 0, 13, 43, 180, 0, 19, 96, 162, 0, 23]
abbrev dktX1_meets_1 : List UInt8 := dkwX1_meets_1 ++ dktX1_meets_2
def dkwX1_meets_0 : List UInt8 := [42, 180, 0, 7, 43, 180, 0, 7, 43, 180, 0, 16, 96, 162, 0, 55, 43, 180, 0, 7, 42, 180, 0, 7]
abbrev dktX1_meets_0 : List UInt8 := dkwX1_meets_0 ++ dktX1_meets_1
theorem dksX1_meets_0 : cX1_meets.data.toList.drop 0 = dktX1_meets_0 := by decide +kernel
theorem dksX1_meets_1 : cX1_meets.data.toList.drop 24 = dktX1_meets_1 := dk_seg dksX1_meets_0 24 rfl rfl
theorem dksX1_meets_2 : cX1_meets.data.toList.drop 48 = dktX1_meets_2 := dk_seg dksX1_meets_1 24 rfl rfl
theorem dX1_meets_0 : decode cX1_meets 0 = .ok (.aload_n 0, 1) := dk_42 (dk_at dksX1_meets_0 0 rfl rfl)
theorem dX1_meets_1 : decode cX1_meets 1 = .ok (.getfield 7, 3) := dk_180 0 7 (dk_at dksX1_meets_0 1 rfl rfl)
theorem dX1_meets_4 : decode cX1_meets 4 = .ok (.aload_n 1, 1) := dk_43 (dk_at dksX1_meets_0 4 rfl rfl)
theorem dX1_meets_5 : decode cX1_meets 5 = .ok (.getfield 7, 3) := dk_180 0 7 (dk_at dksX1_meets_0 5 rfl rfl)
theorem dX1_meets_8 : decode cX1_meets 8 = .ok (.aload_n 1, 1) := dk_43 (dk_at dksX1_meets_0 8 rfl rfl)
theorem dX1_meets_9 : decode cX1_meets 9 = .ok (.getfield 16, 3) := dk_180 0 16 (dk_at dksX1_meets_0 9 rfl rfl)
theorem dX1_meets_12 : decode cX1_meets 12 = .ok (.iadd, 1) := dk_96 (dk_at dksX1_meets_0 12 rfl rfl)
theorem dX1_meets_13 : decode cX1_meets 13 = .ok (.if_icmp .ge 55, 3) := dk_162 0 55 (dk_at dksX1_meets_0 13 rfl rfl)
theorem dX1_meets_16 : decode cX1_meets 16 = .ok (.aload_n 1, 1) := dk_43 (dk_at dksX1_meets_0 16 rfl rfl)
theorem dX1_meets_17 : decode cX1_meets 17 = .ok (.getfield 7, 3) := dk_180 0 7 (dk_at dksX1_meets_0 17 rfl rfl)
theorem dX1_meets_20 : decode cX1_meets 20 = .ok (.aload_n 0, 1) := dk_42 (dk_at dksX1_meets_0 20 rfl rfl)
theorem dX1_meets_21 : decode cX1_meets 21 = .ok (.getfield 7, 3) := dk_180 0 7 (dk_at dksX1_meets_0 21 rfl rfl)
theorem dX1_meets_24 : decode cX1_meets 24 = .ok (.aload_n 0, 1) := dk_42 (dk_at dksX1_meets_1 0 rfl rfl)
theorem dX1_meets_25 : decode cX1_meets 25 = .ok (.getfield 16, 3) := dk_180 0 16 (dk_at dksX1_meets_1 1 rfl rfl)
theorem dX1_meets_28 : decode cX1_meets 28 = .ok (.iadd, 1) := dk_96 (dk_at dksX1_meets_1 4 rfl rfl)
theorem dX1_meets_29 : decode cX1_meets 29 = .ok (.if_icmp .ge 39, 3) := dk_162 0 39 (dk_at dksX1_meets_1 5 rfl rfl)
theorem dX1_meets_32 : decode cX1_meets 32 = .ok (.aload_n 0, 1) := dk_42 (dk_at dksX1_meets_1 8 rfl rfl)
theorem dX1_meets_33 : decode cX1_meets 33 = .ok (.getfield 13, 3) := dk_180 0 13 (dk_at dksX1_meets_1 9 rfl rfl)
theorem dX1_meets_36 : decode cX1_meets 36 = .ok (.aload_n 1, 1) := dk_43 (dk_at dksX1_meets_1 12 rfl rfl)
theorem dX1_meets_37 : decode cX1_meets 37 = .ok (.getfield 13, 3) := dk_180 0 13 (dk_at dksX1_meets_1 13 rfl rfl)
theorem dX1_meets_40 : decode cX1_meets 40 = .ok (.aload_n 1, 1) := dk_43 (dk_at dksX1_meets_1 16 rfl rfl)
theorem dX1_meets_41 : decode cX1_meets 41 = .ok (.getfield 19, 3) := dk_180 0 19 (dk_at dksX1_meets_1 17 rfl rfl)
theorem dX1_meets_44 : decode cX1_meets 44 = .ok (.iadd, 1) := dk_96 (dk_at dksX1_meets_1 20 rfl rfl)
theorem dX1_meets_45 : decode cX1_meets 45 = .ok (.if_icmp .ge 23, 3) := dk_162 0 23 (dk_at dksX1_meets_1 21 rfl rfl)
theorem dX1_meets_48 : decode cX1_meets 48 = .ok (.aload_n 1, 1) := dk_43 (dk_at dksX1_meets_2 0 rfl rfl)
theorem dX1_meets_49 : decode cX1_meets 49 = .ok (.getfield 13, 3) := dk_180 0 13 (dk_at dksX1_meets_2 1 rfl rfl)
theorem dX1_meets_52 : decode cX1_meets 52 = .ok (.aload_n 0, 1) := dk_42 (dk_at dksX1_meets_2 4 rfl rfl)
theorem dX1_meets_53 : decode cX1_meets 53 = .ok (.getfield 13, 3) := dk_180 0 13 (dk_at dksX1_meets_2 5 rfl rfl)
theorem dX1_meets_56 : decode cX1_meets 56 = .ok (.aload_n 0, 1) := dk_42 (dk_at dksX1_meets_2 8 rfl rfl)
theorem dX1_meets_57 : decode cX1_meets 57 = .ok (.getfield 19, 3) := dk_180 0 19 (dk_at dksX1_meets_2 9 rfl rfl)
theorem dX1_meets_60 : decode cX1_meets 60 = .ok (.iadd, 1) := dk_96 (dk_at dksX1_meets_2 12 rfl rfl)
theorem dX1_meets_61 : decode cX1_meets 61 = .ok (.if_icmp .ge 7, 3) := dk_162 0 7 (dk_at dksX1_meets_2 13 rfl rfl)
theorem dX1_meets_64 : decode cX1_meets 64 = .ok (.iconst 1, 1) := dk_4 (dk_at dksX1_meets_2 16 rfl rfl)
theorem dX1_meets_65 : decode cX1_meets 65 = .ok (.goto 4, 3) := dk_167 0 4 (dk_at dksX1_meets_2 17 rfl rfl)
theorem dX1_meets_68 : decode cX1_meets 68 = .ok (.iconst 0, 1) := dk_3 (dk_at dksX1_meets_2 20 rfl rfl)
theorem dX1_meets_69 : decode cX1_meets 69 = .ok (.ireturn, 1) := dk_172 (dk_at dksX1_meets_2 21 rfl rfl)
theorem q94 : (Jvm.Cond.initialized "LabelPlacer$Box") ∈ lw_all := lw_g (lw_at lw_m1 5 rfl) rfl
theorem q182 : (Jvm.Cond.instantiable "LabelPlacer$Box" (4 : Nat)) ∈ lw_all := lw_g (lw_at lw_m1 93 rfl) rfl
theorem q184 : (Jvm.Cond.instanceMethod ({ cls := "LabelPlacer$Box", name := "<init>", desc := "(IIII)V" } : Jvm.MethodName)) ∈ lw_all := lw_g (lw_at lw_m1 95 rfl) rfl
theorem q185 : (Jvm.Cond.code ({ cls := "LabelPlacer$Box", name := "<init>", desc := "(IIII)V" } : Jvm.MethodName) prog_4_method_1_code (5 : Nat) (Option.none : Option Jvm.ClassFile.FieldType)) ∈ lw_all := lw_g (lw_at lw_m1 96 rfl) rfl
theorem q186 : (Jvm.Cond.methodLink "LabelPlacer$Box" (1 : Nat) ({ cls := "java/lang/Object", name := "<init>", desc := "()V" } : Jvm.MethodName)) ∈ lw_all := lw_g (lw_at lw_m1 97 rfl) rfl
theorem q187 : (Jvm.Cond.fieldLink "LabelPlacer$Box" (7 : Nat) "LabelPlacer$Box" "left" "I") ∈ lw_all := lw_g (lw_at lw_m1 98 rfl) rfl
theorem q189 : (Jvm.Cond.fieldLink "LabelPlacer$Box" (13 : Nat) "LabelPlacer$Box" "bottom" "I") ∈ lw_all := lw_g (lw_at lw_m1 100 rfl) rfl
theorem q191 : (Jvm.Cond.fieldLink "LabelPlacer$Box" (16 : Nat) "LabelPlacer$Box" "width" "I") ∈ lw_all := lw_g (lw_at lw_m1 102 rfl) rfl
theorem q193 : (Jvm.Cond.fieldLink "LabelPlacer$Box" (19 : Nat) "LabelPlacer$Box" "height" "I") ∈ lw_all := lw_g (lw_at lw_m1 104 rfl) rfl
theorem q195 : (Jvm.Cond.laysFinal "LabelPlacer$Box" "LabelPlacer$Box" "left" "I") ∈ lw_all := lw_g (lw_at lw_m1 106 rfl) rfl
theorem q196 : (Jvm.Cond.soleField "LabelPlacer$Box" "left") ∈ lw_all := lw_g (lw_at lw_m1 107 rfl) rfl
theorem q197 : (Jvm.Cond.laysFinal "LabelPlacer$Box" "LabelPlacer$Box" "bottom" "I") ∈ lw_all := lw_g (lw_at lw_m1 108 rfl) rfl
theorem q198 : (Jvm.Cond.soleField "LabelPlacer$Box" "bottom") ∈ lw_all := lw_g (lw_at lw_m1 109 rfl) rfl
theorem q199 : (Jvm.Cond.laysFinal "LabelPlacer$Box" "LabelPlacer$Box" "width" "I") ∈ lw_all := lw_g (lw_at lw_m1 110 rfl) rfl
theorem q200 : (Jvm.Cond.soleField "LabelPlacer$Box" "width") ∈ lw_all := lw_g (lw_at lw_m1 111 rfl) rfl
theorem q201 : (Jvm.Cond.laysFinal "LabelPlacer$Box" "LabelPlacer$Box" "height" "I") ∈ lw_all := lw_g (lw_at lw_m1 112 rfl) rfl
theorem q202 : (Jvm.Cond.soleField "LabelPlacer$Box" "height") ∈ lw_all := lw_g (lw_at lw_m1 113 rfl) rfl
theorem q203 : (Jvm.Cond.superclass "LabelPlacer$Box" "java/lang/Object") ∈ lw_all := lw_g (lw_at lw_m1 114 rfl) rfl
theorem q361 : (Jvm.Cond.selects "LabelPlacer$Box" ({ cls := "java/lang/Object", name := "getClass", desc := "()Ljava/lang/Class;" } : Jvm.MethodName) ({ cls := "java/lang/Object", name := "getClass", desc := "()Ljava/lang/Class;" } : Jvm.MethodName)) ∈ lw_all := lw_g (lw_at lw_m2 32 rfl) rfl
theorem q484 : (Jvm.Cond.instanceMethod ({ cls := "LabelPlacer$Box", name := "has", desc := "(II)Z" } : Jvm.MethodName)) ∈ lw_all := lw_g (lw_at lw_m2 155 rfl) rfl
theorem q485 : (Jvm.Cond.selects "LabelPlacer$Box" ({ cls := "LabelPlacer$Box", name := "has", desc := "(II)Z" } : Jvm.MethodName) ({ cls := "LabelPlacer$Box", name := "has", desc := "(II)Z" } : Jvm.MethodName)) ∈ lw_all := lw_g (lw_at lw_m2 156 rfl) rfl
theorem q486 : (Jvm.Cond.code ({ cls := "LabelPlacer$Box", name := "has", desc := "(II)Z" } : Jvm.MethodName) prog_4_method_2_code (3 : Nat) (Option.some Jvm.ClassFile.FieldType.boolean)) ∈ lw_all := lw_g (lw_at lw_m2 157 rfl) rfl
theorem q487 : (Jvm.Cond.methodLinkNest "LabelPlacer$Box" (22 : Nat) ({ cls := "LabelPlacer", name := "isIn", desc := "(III)Z" } : Jvm.MethodName) "LabelPlacer") ∈ lw_tbl := lw_at lw_m2 158 rfl
theorem q499 : (Jvm.Cond.instanceMethod ({ cls := "LabelPlacer$Box", name := "isWithin", desc := "(LLabelPlacer$Box;)Z" } : Jvm.MethodName)) ∈ lw_all := lw_g (lw_at lw_m2 170 rfl) rfl
theorem q500 : (Jvm.Cond.selects "LabelPlacer$Box" ({ cls := "LabelPlacer$Box", name := "isWithin", desc := "(LLabelPlacer$Box;)Z" } : Jvm.MethodName) ({ cls := "LabelPlacer$Box", name := "isWithin", desc := "(LLabelPlacer$Box;)Z" } : Jvm.MethodName)) ∈ lw_all := lw_g (lw_at lw_m2 171 rfl) rfl
theorem q501 : (Jvm.Cond.code ({ cls := "LabelPlacer$Box", name := "isWithin", desc := "(LLabelPlacer$Box;)Z" } : Jvm.MethodName) prog_4_method_4_code (2 : Nat) (Option.some Jvm.ClassFile.FieldType.boolean)) ∈ lw_all := lw_g (lw_at lw_m2 172 rfl) rfl
theorem q502 : (Jvm.Cond.methodLink "LabelPlacer$Box" (28 : Nat) ({ cls := "LabelPlacer$Box", name := "has", desc := "(II)Z" } : Jvm.MethodName)) ∈ lw_all := lw_g (lw_at lw_m2 173 rfl) rfl
theorem q522 : (Jvm.Cond.selects "LabelPlacer$Box" ({ cls := "java/lang/Object", name := "hashCode", desc := "()I" } : Jvm.MethodName) ({ cls := "java/lang/Object", name := "hashCode", desc := "()I" } : Jvm.MethodName)) ∈ lw_all := lw_g (lw_at lw_m2 193 rfl) rfl
theorem q956 : (Jvm.Cond.selects "LabelPlacer$Box" ({ cls := "java/lang/Object", name := "equals", desc := "(Ljava/lang/Object;)Z" } : Jvm.MethodName) ({ cls := "java/lang/Object", name := "equals", desc := "(Ljava/lang/Object;)Z" } : Jvm.MethodName)) ∈ lw_all := lw_g (lw_at lw_m4 147 rfl) rfl
theorem q1157 : (Jvm.Cond.instanceMethod ({ cls := "LabelPlacer$Box", name := "meets", desc := "(LLabelPlacer$Box;)Z" } : Jvm.MethodName)) ∈ lw_all := lw_g (lw_at lw_m5 108 rfl) rfl
theorem q1158 : (Jvm.Cond.selects "LabelPlacer$Box" ({ cls := "LabelPlacer$Box", name := "meets", desc := "(LLabelPlacer$Box;)Z" } : Jvm.MethodName) ({ cls := "LabelPlacer$Box", name := "meets", desc := "(LLabelPlacer$Box;)Z" } : Jvm.MethodName)) ∈ lw_all := lw_g (lw_at lw_m5 109 rfl) rfl
theorem q1159 : (Jvm.Cond.code ({ cls := "LabelPlacer$Box", name := "meets", desc := "(LLabelPlacer$Box;)Z" } : Jvm.MethodName) prog_4_method_3_code (2 : Nat) (Option.some Jvm.ClassFile.FieldType.boolean)) ∈ lw_all := lw_g (lw_at lw_m5 110 rfl) rfl
theorem q2456 : (Jvm.Cond.castable "LabelPlacer$Box" "java/lang/Object") ∈ lw_tbl := lw_at lw_m10 207 rfl
theorem in_X1 : ∀ w ∈ wsX10, w ∈ lw_all := lw_in wsX10 [195, 197, 199, 201] (by decide +kernel) (by decide +kernel)

/-! LabelPlacer$Tape -/
set_option maxRecDepth 100000
def RX2 : String := "LabelPlacer$Tape"
def TX2 : u_T := fun k => match k with
  | 0 => ("LabelPlacer$Tape", "bytes", "[B", true)
  | _ => ("LabelPlacer$Tape", "length", "I", false)
def tyX2 : Nat → FieldType := fun k => match k with
  | 0 => .array .byte
  | _ => .int
abbrev wsX20 : List Cond := u_ws RX2 TX2 2
theorem nmX2 : ∀ a, a < 2 → ∀ b, b < 2 → a ≠ b → (TX2 a).2.1 ≠ (TX2 b).2.1 := by decide +kernel
theorem tyX2_ok : ∀ k, k < 2 → parseFieldDescriptor (TX2 k).2.2.1 = some (tyX2 k) := by decide +kernel
abbrev cX2_init : ByteArray := prog_14_method_1_code
def yX2_init : MethodName := ⟨RX2, "<init>", "()V"⟩
def dkwX2_init_0 : List UInt8 := [42, 183, 0, 3, 42, 16, 80, 188, 8, 181, 0, 9, 177]
abbrev dktX2_init_0 : List UInt8 := dkwX2_init_0 ++ []
theorem dksX2_init_0 : cX2_init.data.toList.drop 0 = dktX2_init_0 := by decide +kernel
theorem dX2_init_0 : decode cX2_init 0 = .ok (.aload_n 0, 1) := dk_42 (dk_at dksX2_init_0 0 rfl rfl)
theorem dX2_init_1 : decode cX2_init 1 = .ok (.invokespecial 3, 3) := dk_183 0 3 (dk_at dksX2_init_0 1 rfl rfl)
theorem dX2_init_4 : decode cX2_init 4 = .ok (.aload_n 0, 1) := dk_42 (dk_at dksX2_init_0 4 rfl rfl)
theorem dX2_init_5 : decode cX2_init 5 = .ok (.bipush 80, 2) := dk_16 80 (dk_at dksX2_init_0 5 rfl rfl)
theorem dX2_init_7 : decode cX2_init 7 = .ok (.newarray .byte, 2) := dk_188_8 (dk_at dksX2_init_0 7 rfl rfl)
theorem dX2_init_9 : decode cX2_init 9 = .ok (.putfield 9, 3) := dk_181 0 9 (dk_at dksX2_init_0 9 rfl rfl)
theorem dX2_init_12 : decode cX2_init 12 = .ok (.return_, 1) := dk_177 (dk_at dksX2_init_0 12 rfl rfl)
abbrev cX2_charAt : ByteArray := prog_14_method_3_code
def yX2_charAt : MethodName := ⟨RX2, "charAt", "(I)C"⟩
def dkwX2_charAt_0 : List UInt8 := [42, 180, 0, 9, 27, 51, 146, 172]
abbrev dktX2_charAt_0 : List UInt8 := dkwX2_charAt_0 ++ []
theorem dksX2_charAt_0 : cX2_charAt.data.toList.drop 0 = dktX2_charAt_0 := by decide +kernel
theorem dX2_charAt_0 : decode cX2_charAt 0 = .ok (.aload_n 0, 1) := dk_42 (dk_at dksX2_charAt_0 0 rfl rfl)
theorem dX2_charAt_1 : decode cX2_charAt 1 = .ok (.getfield 9, 3) := dk_180 0 9 (dk_at dksX2_charAt_0 1 rfl rfl)
theorem dX2_charAt_4 : decode cX2_charAt 4 = .ok (.iload_n 1, 1) := dk_27 (dk_at dksX2_charAt_0 4 rfl rfl)
theorem dX2_charAt_5 : decode cX2_charAt 5 = .ok (.baload, 1) := dk_51 (dk_at dksX2_charAt_0 5 rfl rfl)
theorem dX2_charAt_6 : decode cX2_charAt 6 = .ok (.i2c, 1) := dk_146 (dk_at dksX2_charAt_0 6 rfl rfl)
theorem dX2_charAt_7 : decode cX2_charAt 7 = .ok (.ireturn, 1) := dk_172 (dk_at dksX2_charAt_0 7 rfl rfl)
abbrev cX2_subSequence : ByteArray := prog_14_method_4_code
def yX2_subSequence : MethodName := ⟨RX2, "subSequence", "(II)Ljava/lang/CharSequence;"⟩
def dkwX2_subSequence_1 : List UInt8 := [45, 28, 27, 100, 181, 0, 15, 45, 176]
abbrev dktX2_subSequence_1 : List UInt8 := dkwX2_subSequence_1 ++ []
def dkwX2_subSequence_0 : List UInt8 := [187, 0, 10, 89, 183, 0, 19, 78, 42, 180, 0, 9, 27, 45, 180, 0, 9, 3, 28, 27, 100, 184, 0, 20]
abbrev dktX2_subSequence_0 : List UInt8 := dkwX2_subSequence_0 ++ dktX2_subSequence_1
theorem dksX2_subSequence_0 : cX2_subSequence.data.toList.drop 0 = dktX2_subSequence_0 := by decide +kernel
theorem dksX2_subSequence_1 : cX2_subSequence.data.toList.drop 24 = dktX2_subSequence_1 := dk_seg dksX2_subSequence_0 24 rfl rfl
theorem dX2_subSequence_0 : decode cX2_subSequence 0 = .ok (.new 10, 3) := dk_187 0 10 (dk_at dksX2_subSequence_0 0 rfl rfl)
theorem dX2_subSequence_3 : decode cX2_subSequence 3 = .ok (.dup, 1) := dk_89 (dk_at dksX2_subSequence_0 3 rfl rfl)
theorem dX2_subSequence_4 : decode cX2_subSequence 4 = .ok (.invokespecial 19, 3) := dk_183 0 19 (dk_at dksX2_subSequence_0 4 rfl rfl)
theorem dX2_subSequence_7 : decode cX2_subSequence 7 = .ok (.astore_n 3, 1) := dk_78 (dk_at dksX2_subSequence_0 7 rfl rfl)
theorem dX2_subSequence_8 : decode cX2_subSequence 8 = .ok (.aload_n 0, 1) := dk_42 (dk_at dksX2_subSequence_0 8 rfl rfl)
theorem dX2_subSequence_9 : decode cX2_subSequence 9 = .ok (.getfield 9, 3) := dk_180 0 9 (dk_at dksX2_subSequence_0 9 rfl rfl)
theorem dX2_subSequence_12 : decode cX2_subSequence 12 = .ok (.iload_n 1, 1) := dk_27 (dk_at dksX2_subSequence_0 12 rfl rfl)
theorem dX2_subSequence_13 : decode cX2_subSequence 13 = .ok (.aload_n 3, 1) := dk_45 (dk_at dksX2_subSequence_0 13 rfl rfl)
theorem dX2_subSequence_14 : decode cX2_subSequence 14 = .ok (.getfield 9, 3) := dk_180 0 9 (dk_at dksX2_subSequence_0 14 rfl rfl)
theorem dX2_subSequence_17 : decode cX2_subSequence 17 = .ok (.iconst 0, 1) := dk_3 (dk_at dksX2_subSequence_0 17 rfl rfl)
theorem dX2_subSequence_18 : decode cX2_subSequence 18 = .ok (.iload_n 2, 1) := dk_28 (dk_at dksX2_subSequence_0 18 rfl rfl)
theorem dX2_subSequence_19 : decode cX2_subSequence 19 = .ok (.iload_n 1, 1) := dk_27 (dk_at dksX2_subSequence_0 19 rfl rfl)
theorem dX2_subSequence_20 : decode cX2_subSequence 20 = .ok (.isub, 1) := dk_100 (dk_at dksX2_subSequence_0 20 rfl rfl)
theorem dX2_subSequence_21 : decode cX2_subSequence 21 = .ok (.invokestatic 20, 3) := dk_184 0 20 (dk_at dksX2_subSequence_0 21 rfl rfl)
theorem dX2_subSequence_24 : decode cX2_subSequence 24 = .ok (.aload_n 3, 1) := dk_45 (dk_at dksX2_subSequence_1 0 rfl rfl)
theorem dX2_subSequence_25 : decode cX2_subSequence 25 = .ok (.iload_n 2, 1) := dk_28 (dk_at dksX2_subSequence_1 1 rfl rfl)
theorem dX2_subSequence_26 : decode cX2_subSequence 26 = .ok (.iload_n 1, 1) := dk_27 (dk_at dksX2_subSequence_1 2 rfl rfl)
theorem dX2_subSequence_27 : decode cX2_subSequence 27 = .ok (.isub, 1) := dk_100 (dk_at dksX2_subSequence_1 3 rfl rfl)
theorem dX2_subSequence_28 : decode cX2_subSequence 28 = .ok (.putfield 15, 3) := dk_181 0 15 (dk_at dksX2_subSequence_1 4 rfl rfl)
theorem dX2_subSequence_31 : decode cX2_subSequence 31 = .ok (.aload_n 3, 1) := dk_45 (dk_at dksX2_subSequence_1 7 rfl rfl)
theorem dX2_subSequence_32 : decode cX2_subSequence 32 = .ok (.areturn, 1) := dk_176 (dk_at dksX2_subSequence_1 8 rfl rfl)
abbrev cX2_toString : ByteArray := prog_14_method_5_code
def yX2_toString : MethodName := ⟨RX2, "toString", "()Ljava/lang/String;"⟩
def dkwX2_toString_1 : List UInt8 := [28, 182, 0, 31, 182, 0, 35, 87, 132, 2, 1, 167, 255, 235, 43, 182, 0, 39, 176]
abbrev dktX2_toString_1 : List UInt8 := dkwX2_toString_1 ++ []
def dkwX2_toString_0 : List UInt8 := [187, 0, 26, 89, 42, 180, 0, 15, 183, 0, 28, 76, 3, 61, 28, 42, 180, 0, 15, 162, 0, 19, 43, 42]
abbrev dktX2_toString_0 : List UInt8 := dkwX2_toString_0 ++ dktX2_toString_1
theorem dksX2_toString_0 : cX2_toString.data.toList.drop 0 = dktX2_toString_0 := by decide +kernel
theorem dksX2_toString_1 : cX2_toString.data.toList.drop 24 = dktX2_toString_1 := dk_seg dksX2_toString_0 24 rfl rfl
theorem dX2_toString_0 : decode cX2_toString 0 = .ok (.new 26, 3) := dk_187 0 26 (dk_at dksX2_toString_0 0 rfl rfl)
theorem dX2_toString_3 : decode cX2_toString 3 = .ok (.dup, 1) := dk_89 (dk_at dksX2_toString_0 3 rfl rfl)
theorem dX2_toString_4 : decode cX2_toString 4 = .ok (.aload_n 0, 1) := dk_42 (dk_at dksX2_toString_0 4 rfl rfl)
theorem dX2_toString_5 : decode cX2_toString 5 = .ok (.getfield 15, 3) := dk_180 0 15 (dk_at dksX2_toString_0 5 rfl rfl)
theorem dX2_toString_8 : decode cX2_toString 8 = .ok (.invokespecial 28, 3) := dk_183 0 28 (dk_at dksX2_toString_0 8 rfl rfl)
theorem dX2_toString_11 : decode cX2_toString 11 = .ok (.astore_n 1, 1) := dk_76 (dk_at dksX2_toString_0 11 rfl rfl)
theorem dX2_toString_12 : decode cX2_toString 12 = .ok (.iconst 0, 1) := dk_3 (dk_at dksX2_toString_0 12 rfl rfl)
theorem dX2_toString_13 : decode cX2_toString 13 = .ok (.istore_n 2, 1) := dk_61 (dk_at dksX2_toString_0 13 rfl rfl)
theorem dX2_toString_14 : decode cX2_toString 14 = .ok (.iload_n 2, 1) := dk_28 (dk_at dksX2_toString_0 14 rfl rfl)
theorem dX2_toString_15 : decode cX2_toString 15 = .ok (.aload_n 0, 1) := dk_42 (dk_at dksX2_toString_0 15 rfl rfl)
theorem dX2_toString_16 : decode cX2_toString 16 = .ok (.getfield 15, 3) := dk_180 0 15 (dk_at dksX2_toString_0 16 rfl rfl)
theorem dX2_toString_19 : decode cX2_toString 19 = .ok (.if_icmp .ge 19, 3) := dk_162 0 19 (dk_at dksX2_toString_0 19 rfl rfl)
theorem dX2_toString_22 : decode cX2_toString 22 = .ok (.aload_n 1, 1) := dk_43 (dk_at dksX2_toString_0 22 rfl rfl)
theorem dX2_toString_23 : decode cX2_toString 23 = .ok (.aload_n 0, 1) := dk_42 (dk_at dksX2_toString_0 23 rfl rfl)
theorem dX2_toString_24 : decode cX2_toString 24 = .ok (.iload_n 2, 1) := dk_28 (dk_at dksX2_toString_1 0 rfl rfl)
theorem dX2_toString_25 : decode cX2_toString 25 = .ok (.invokevirtual 31, 3) := dk_182 0 31 (dk_at dksX2_toString_1 1 rfl rfl)
theorem dX2_toString_28 : decode cX2_toString 28 = .ok (.invokevirtual 35, 3) := dk_182 0 35 (dk_at dksX2_toString_1 4 rfl rfl)
theorem dX2_toString_31 : decode cX2_toString 31 = .ok (.pop, 1) := dk_87 (dk_at dksX2_toString_1 7 rfl rfl)
theorem dX2_toString_32 : decode cX2_toString 32 = .ok (.iinc 2 1, 3) := dk_132 2 1 (dk_at dksX2_toString_1 8 rfl rfl)
theorem dX2_toString_35 : decode cX2_toString 35 = .ok (.goto (-21), 3) := dk_167 255 235 (dk_at dksX2_toString_1 11 rfl rfl)
theorem dX2_toString_38 : decode cX2_toString 38 = .ok (.aload_n 1, 1) := dk_43 (dk_at dksX2_toString_1 14 rfl rfl)
theorem dX2_toString_39 : decode cX2_toString 39 = .ok (.invokevirtual 39, 3) := dk_182 0 39 (dk_at dksX2_toString_1 15 rfl rfl)
theorem dX2_toString_42 : decode cX2_toString 42 = .ok (.areturn, 1) := dk_176 (dk_at dksX2_toString_1 18 rfl rfl)
theorem q95 : (Jvm.Cond.initialized "LabelPlacer$Tape") ∈ lw_all := lw_g (lw_at lw_m1 6 rfl) rfl
theorem q207 : (Jvm.Cond.instantiable "LabelPlacer$Tape" (2 : Nat)) ∈ lw_all := lw_g (lw_at lw_m1 118 rfl) rfl
theorem q209 : (Jvm.Cond.instanceMethod ({ cls := "LabelPlacer$Tape", name := "<init>", desc := "()V" } : Jvm.MethodName)) ∈ lw_all := lw_g (lw_at lw_m1 120 rfl) rfl
theorem q210 : (Jvm.Cond.code ({ cls := "LabelPlacer$Tape", name := "<init>", desc := "()V" } : Jvm.MethodName) prog_14_method_1_code (1 : Nat) (Option.none : Option Jvm.ClassFile.FieldType)) ∈ lw_all := lw_g (lw_at lw_m1 121 rfl) rfl
theorem q211 : (Jvm.Cond.methodLink "LabelPlacer$Tape" (3 : Nat) ({ cls := "java/lang/Object", name := "<init>", desc := "()V" } : Jvm.MethodName)) ∈ lw_all := lw_g (lw_at lw_m1 122 rfl) rfl
theorem q212 : (Jvm.Cond.fieldLink "LabelPlacer$Tape" (9 : Nat) "LabelPlacer$Tape" "bytes" "[B") ∈ lw_all := lw_g (lw_at lw_m1 123 rfl) rfl
theorem q215 : (Jvm.Cond.fieldLink "LabelPlacer$Tape" (15 : Nat) "LabelPlacer$Tape" "length" "I") ∈ lw_all := lw_g (lw_at lw_m1 126 rfl) rfl
theorem q217 : (Jvm.Cond.laysFinal "LabelPlacer$Tape" "LabelPlacer$Tape" "bytes" "[B") ∈ lw_all := lw_g (lw_at lw_m1 128 rfl) rfl
theorem q218 : (Jvm.Cond.soleField "LabelPlacer$Tape" "bytes") ∈ lw_all := lw_g (lw_at lw_m1 129 rfl) rfl
theorem q219 : (Jvm.Cond.lays "LabelPlacer$Tape" "LabelPlacer$Tape" "length" "I") ∈ lw_all := lw_g (lw_at lw_m1 130 rfl) rfl
theorem q220 : (Jvm.Cond.soleField "LabelPlacer$Tape" "length") ∈ lw_all := lw_g (lw_at lw_m1 131 rfl) rfl
theorem q221 : (Jvm.Cond.superclass "LabelPlacer$Tape" "java/lang/Object") ∈ lw_all := lw_g (lw_at lw_m1 132 rfl) rfl
theorem q370 : (Jvm.Cond.selects "LabelPlacer$Tape" ({ cls := "java/lang/Object", name := "getClass", desc := "()Ljava/lang/Class;" } : Jvm.MethodName) ({ cls := "java/lang/Object", name := "getClass", desc := "()Ljava/lang/Class;" } : Jvm.MethodName)) ∈ lw_all := lw_g (lw_at lw_m2 41 rfl) rfl
theorem q533 : (Jvm.Cond.selects "LabelPlacer$Tape" ({ cls := "java/lang/Object", name := "hashCode", desc := "()I" } : Jvm.MethodName) ({ cls := "java/lang/Object", name := "hashCode", desc := "()I" } : Jvm.MethodName)) ∈ lw_all := lw_g (lw_at lw_m2 204 rfl) rfl
theorem q968 : (Jvm.Cond.selects "LabelPlacer$Tape" ({ cls := "java/lang/Object", name := "equals", desc := "(Ljava/lang/Object;)Z" } : Jvm.MethodName) ({ cls := "java/lang/Object", name := "equals", desc := "(Ljava/lang/Object;)Z" } : Jvm.MethodName)) ∈ lw_all := lw_g (lw_at lw_m4 159 rfl) rfl
theorem q1667 : (Jvm.Cond.instanceMethod ({ cls := "LabelPlacer$Tape", name := "charAt", desc := "(I)C" } : Jvm.MethodName)) ∈ lw_all := lw_g (lw_at lw_m7 138 rfl) rfl
theorem q1668 : (Jvm.Cond.selects "LabelPlacer$Tape" ({ cls := "LabelPlacer$Tape", name := "charAt", desc := "(I)C" } : Jvm.MethodName) ({ cls := "LabelPlacer$Tape", name := "charAt", desc := "(I)C" } : Jvm.MethodName)) ∈ lw_all := lw_g (lw_at lw_m7 139 rfl) rfl
theorem q1669 : (Jvm.Cond.code ({ cls := "LabelPlacer$Tape", name := "charAt", desc := "(I)C" } : Jvm.MethodName) prog_14_method_3_code (2 : Nat) (Option.some Jvm.ClassFile.FieldType.char)) ∈ lw_all := lw_g (lw_at lw_m7 140 rfl) rfl
theorem q1672 : (Jvm.Cond.instanceMethod ({ cls := "LabelPlacer$Tape", name := "subSequence", desc := "(II)Ljava/lang/CharSequence;" } : Jvm.MethodName)) ∈ lw_all := lw_g (lw_at lw_m7 143 rfl) rfl
theorem q1673 : (Jvm.Cond.selects "LabelPlacer$Tape" ({ cls := "LabelPlacer$Tape", name := "subSequence", desc := "(II)Ljava/lang/CharSequence;" } : Jvm.MethodName) ({ cls := "LabelPlacer$Tape", name := "subSequence", desc := "(II)Ljava/lang/CharSequence;" } : Jvm.MethodName)) ∈ lw_all := lw_g (lw_at lw_m7 144 rfl) rfl
theorem q1674 : (Jvm.Cond.code ({ cls := "LabelPlacer$Tape", name := "subSequence", desc := "(II)Ljava/lang/CharSequence;" } : Jvm.MethodName) prog_14_method_4_code (4 : Nat) (Option.some (Jvm.ClassFile.FieldType.object "java/lang/CharSequence"))) ∈ lw_all := lw_g (lw_at lw_m7 145 rfl) rfl
theorem q1675 : (Jvm.Cond.classLink "LabelPlacer$Tape" (10 : Nat) "LabelPlacer$Tape") ∈ lw_all := lw_g (lw_at lw_m7 146 rfl) rfl
theorem q1676 : (Jvm.Cond.methodLink "LabelPlacer$Tape" (19 : Nat) ({ cls := "LabelPlacer$Tape", name := "<init>", desc := "()V" } : Jvm.MethodName)) ∈ lw_all := lw_g (lw_at lw_m7 147 rfl) rfl
theorem q1677 : (Jvm.Cond.methodLink "LabelPlacer$Tape" (20 : Nat) ({ cls := "java/lang/System", name := "arraycopy", desc := "(Ljava/lang/Object;ILjava/lang/Object;II)V" } : Jvm.MethodName)) ∈ lw_all := lw_g (lw_at lw_m7 148 rfl) rfl
theorem q1685 : (Jvm.Cond.castable "LabelPlacer$Tape" "java/lang/CharSequence") ∈ lw_tbl := lw_at lw_m7 156 rfl
theorem q1686 : (Jvm.Cond.selects "LabelPlacer$Tape" ({ cls := "java/lang/CharSequence", name := "toString", desc := "()Ljava/lang/String;" } : Jvm.MethodName) ({ cls := "LabelPlacer$Tape", name := "toString", desc := "()Ljava/lang/String;" } : Jvm.MethodName)) ∈ lw_all := lw_g (lw_at lw_m7 157 rfl) rfl
theorem q1687 : (Jvm.Cond.unhidden "LabelPlacer$Tape" "toString" "()Ljava/lang/String;") ∈ lw_tbl := lw_at lw_m7 158 rfl
theorem q1688 : (Jvm.Cond.instanceMethod ({ cls := "LabelPlacer$Tape", name := "toString", desc := "()Ljava/lang/String;" } : Jvm.MethodName)) ∈ lw_all := lw_g (lw_at lw_m7 159 rfl) rfl
theorem q1689 : (Jvm.Cond.publicMethod ({ cls := "LabelPlacer$Tape", name := "toString", desc := "()Ljava/lang/String;" } : Jvm.MethodName)) ∈ lw_tbl := lw_at lw_m7 160 rfl
theorem q1690 : (Jvm.Cond.code ({ cls := "LabelPlacer$Tape", name := "toString", desc := "()Ljava/lang/String;" } : Jvm.MethodName) prog_14_method_5_code (3 : Nat) (Option.some (Jvm.ClassFile.FieldType.object "java/lang/String"))) ∈ lw_all := lw_g (lw_at lw_m7 161 rfl) rfl
theorem q1691 : (Jvm.Cond.classLink "LabelPlacer$Tape" (26 : Nat) "java/lang/StringBuilder") ∈ lw_all := lw_g (lw_at lw_m7 162 rfl) rfl
theorem q1693 : (Jvm.Cond.methodLink "LabelPlacer$Tape" (28 : Nat) ({ cls := "java/lang/StringBuilder", name := "<init>", desc := "(I)V" } : Jvm.MethodName)) ∈ lw_all := lw_g (lw_at lw_m7 164 rfl) rfl
theorem q1719 : (Jvm.Cond.methodLink "LabelPlacer$Tape" (31 : Nat) ({ cls := "LabelPlacer$Tape", name := "charAt", desc := "(I)C" } : Jvm.MethodName)) ∈ lw_all := lw_g (lw_at lw_m7 190 rfl) rfl
theorem q1720 : (Jvm.Cond.methodLink "LabelPlacer$Tape" (35 : Nat) ({ cls := "java/lang/StringBuilder", name := "append", desc := "(C)Ljava/lang/StringBuilder;" } : Jvm.MethodName)) ∈ lw_all := lw_g (lw_at lw_m7 191 rfl) rfl
theorem q1780 : (Jvm.Cond.methodLink "LabelPlacer$Tape" (39 : Nat) ({ cls := "java/lang/StringBuilder", name := "toString", desc := "()Ljava/lang/String;" } : Jvm.MethodName)) ∈ lw_all := lw_g (lw_at lw_m8 11 rfl) rfl
theorem q2459 : (Jvm.Cond.castable "LabelPlacer$Tape" "java/lang/Object") ∈ lw_tbl := lw_at lw_m10 210 rfl
theorem in_X2 : ∀ w ∈ wsX20, w ∈ lw_all := lw_in wsX20 [217, 219] (by decide +kernel) (by decide +kernel)

/-! LabelPlacer$Key -/
set_option maxRecDepth 100000
def RX3 : String := "LabelPlacer$Key"
def TX3 : u_T := fun k => match k with
  | 0 => ("LabelPlacer$Key", "point", "I", true)
  | _ => ("LabelPlacer$Key", "side", "I", true)
def tyX3 : Nat → FieldType := fun k => match k with
  | 0 => .int
  | _ => .int
abbrev wsX30 : List Cond := u_ws RX3 TX3 2
theorem nmX3 : ∀ a, a < 2 → ∀ b, b < 2 → a ≠ b → (TX3 a).2.1 ≠ (TX3 b).2.1 := by decide +kernel
theorem tyX3_ok : ∀ k, k < 2 → parseFieldDescriptor (TX3 k).2.2.1 = some (tyX3 k) := by decide +kernel
abbrev cX3_init : ByteArray := prog_7_method_1_code
def yX3_init : MethodName := ⟨RX3, "<init>", "(II)V"⟩
def dkwX3_init_0 : List UInt8 := [42, 183, 0, 3, 42, 27, 181, 0, 9, 42, 28, 181, 0, 15, 177]
abbrev dktX3_init_0 : List UInt8 := dkwX3_init_0 ++ []
theorem dksX3_init_0 : cX3_init.data.toList.drop 0 = dktX3_init_0 := by decide +kernel
theorem dX3_init_0 : decode cX3_init 0 = .ok (.aload_n 0, 1) := dk_42 (dk_at dksX3_init_0 0 rfl rfl)
theorem dX3_init_1 : decode cX3_init 1 = .ok (.invokespecial 3, 3) := dk_183 0 3 (dk_at dksX3_init_0 1 rfl rfl)
theorem dX3_init_4 : decode cX3_init 4 = .ok (.aload_n 0, 1) := dk_42 (dk_at dksX3_init_0 4 rfl rfl)
theorem dX3_init_5 : decode cX3_init 5 = .ok (.iload_n 1, 1) := dk_27 (dk_at dksX3_init_0 5 rfl rfl)
theorem dX3_init_6 : decode cX3_init 6 = .ok (.putfield 9, 3) := dk_181 0 9 (dk_at dksX3_init_0 6 rfl rfl)
theorem dX3_init_9 : decode cX3_init 9 = .ok (.aload_n 0, 1) := dk_42 (dk_at dksX3_init_0 9 rfl rfl)
theorem dX3_init_10 : decode cX3_init 10 = .ok (.iload_n 2, 1) := dk_28 (dk_at dksX3_init_0 10 rfl rfl)
theorem dX3_init_11 : decode cX3_init 11 = .ok (.putfield 15, 3) := dk_181 0 15 (dk_at dksX3_init_0 11 rfl rfl)
theorem dX3_init_14 : decode cX3_init 14 = .ok (.return_, 1) := dk_177 (dk_at dksX3_init_0 14 rfl rfl)
abbrev cX3_hashCode : ByteArray := prog_7_method_3_code
def yX3_hashCode : MethodName := ⟨RX3, "hashCode", "()I"⟩
def dkwX3_hashCode_0 : List UInt8 := [16, 8, 42, 180, 0, 9, 104, 42, 180, 0, 15, 96, 172]
abbrev dktX3_hashCode_0 : List UInt8 := dkwX3_hashCode_0 ++ []
theorem dksX3_hashCode_0 : cX3_hashCode.data.toList.drop 0 = dktX3_hashCode_0 := by decide +kernel
theorem dX3_hashCode_0 : decode cX3_hashCode 0 = .ok (.bipush 8, 2) := dk_16 8 (dk_at dksX3_hashCode_0 0 rfl rfl)
theorem dX3_hashCode_2 : decode cX3_hashCode 2 = .ok (.aload_n 0, 1) := dk_42 (dk_at dksX3_hashCode_0 2 rfl rfl)
theorem dX3_hashCode_3 : decode cX3_hashCode 3 = .ok (.getfield 9, 3) := dk_180 0 9 (dk_at dksX3_hashCode_0 3 rfl rfl)
theorem dX3_hashCode_6 : decode cX3_hashCode 6 = .ok (.imul, 1) := dk_104 (dk_at dksX3_hashCode_0 6 rfl rfl)
theorem dX3_hashCode_7 : decode cX3_hashCode 7 = .ok (.aload_n 0, 1) := dk_42 (dk_at dksX3_hashCode_0 7 rfl rfl)
theorem dX3_hashCode_8 : decode cX3_hashCode 8 = .ok (.getfield 15, 3) := dk_180 0 15 (dk_at dksX3_hashCode_0 8 rfl rfl)
theorem dX3_hashCode_11 : decode cX3_hashCode 11 = .ok (.iadd, 1) := dk_96 (dk_at dksX3_hashCode_0 11 rfl rfl)
theorem dX3_hashCode_12 : decode cX3_hashCode 12 = .ok (.ireturn, 1) := dk_172 (dk_at dksX3_hashCode_0 12 rfl rfl)
abbrev cX3_equals : ByteArray := prog_7_method_2_code
def yX3_equals : MethodName := ⟨RX3, "equals", "(Ljava/lang/Object;)Z"⟩
def dkwX3_equals_1 : List UInt8 := [180, 0, 15, 42, 180, 0, 15, 160, 0, 7, 4, 167, 0, 4, 3, 172]
abbrev dktX3_equals_1 : List UInt8 := dkwX3_equals_1 ++ []
def dkwX3_equals_0 : List UInt8 := [43, 193, 0, 10, 153, 0, 34, 43, 192, 0, 10, 77, 44, 180, 0, 9, 42, 180, 0, 9, 160, 0, 18, 44]
abbrev dktX3_equals_0 : List UInt8 := dkwX3_equals_0 ++ dktX3_equals_1
theorem dksX3_equals_0 : cX3_equals.data.toList.drop 0 = dktX3_equals_0 := by decide +kernel
theorem dksX3_equals_1 : cX3_equals.data.toList.drop 24 = dktX3_equals_1 := dk_seg dksX3_equals_0 24 rfl rfl
theorem dX3_equals_0 : decode cX3_equals 0 = .ok (.aload_n 1, 1) := dk_43 (dk_at dksX3_equals_0 0 rfl rfl)
theorem dX3_equals_1 : decode cX3_equals 1 = .ok (.instanceof 10, 3) := dk_193 0 10 (dk_at dksX3_equals_0 1 rfl rfl)
theorem dX3_equals_4 : decode cX3_equals 4 = .ok (.ifCond .eq 34, 3) := dk_153 0 34 (dk_at dksX3_equals_0 4 rfl rfl)
theorem dX3_equals_7 : decode cX3_equals 7 = .ok (.aload_n 1, 1) := dk_43 (dk_at dksX3_equals_0 7 rfl rfl)
theorem dX3_equals_8 : decode cX3_equals 8 = .ok (.checkcast 10, 3) := dk_192 0 10 (dk_at dksX3_equals_0 8 rfl rfl)
theorem dX3_equals_11 : decode cX3_equals 11 = .ok (.astore_n 2, 1) := dk_77 (dk_at dksX3_equals_0 11 rfl rfl)
theorem dX3_equals_12 : decode cX3_equals 12 = .ok (.aload_n 2, 1) := dk_44 (dk_at dksX3_equals_0 12 rfl rfl)
theorem dX3_equals_13 : decode cX3_equals 13 = .ok (.getfield 9, 3) := dk_180 0 9 (dk_at dksX3_equals_0 13 rfl rfl)
theorem dX3_equals_16 : decode cX3_equals 16 = .ok (.aload_n 0, 1) := dk_42 (dk_at dksX3_equals_0 16 rfl rfl)
theorem dX3_equals_17 : decode cX3_equals 17 = .ok (.getfield 9, 3) := dk_180 0 9 (dk_at dksX3_equals_0 17 rfl rfl)
theorem dX3_equals_20 : decode cX3_equals 20 = .ok (.if_icmp .ne 18, 3) := dk_160 0 18 (dk_at dksX3_equals_0 20 rfl rfl)
theorem dX3_equals_23 : decode cX3_equals 23 = .ok (.aload_n 2, 1) := dk_44 (dk_at dksX3_equals_0 23 rfl rfl)
theorem dX3_equals_24 : decode cX3_equals 24 = .ok (.getfield 15, 3) := dk_180 0 15 (dk_at dksX3_equals_1 0 rfl rfl)
theorem dX3_equals_27 : decode cX3_equals 27 = .ok (.aload_n 0, 1) := dk_42 (dk_at dksX3_equals_1 3 rfl rfl)
theorem dX3_equals_28 : decode cX3_equals 28 = .ok (.getfield 15, 3) := dk_180 0 15 (dk_at dksX3_equals_1 4 rfl rfl)
theorem dX3_equals_31 : decode cX3_equals 31 = .ok (.if_icmp .ne 7, 3) := dk_160 0 7 (dk_at dksX3_equals_1 7 rfl rfl)
theorem dX3_equals_34 : decode cX3_equals 34 = .ok (.iconst 1, 1) := dk_4 (dk_at dksX3_equals_1 10 rfl rfl)
theorem dX3_equals_35 : decode cX3_equals 35 = .ok (.goto 4, 3) := dk_167 0 4 (dk_at dksX3_equals_1 11 rfl rfl)
theorem dX3_equals_38 : decode cX3_equals 38 = .ok (.iconst 0, 1) := dk_3 (dk_at dksX3_equals_1 14 rfl rfl)
theorem dX3_equals_39 : decode cX3_equals 39 = .ok (.ireturn, 1) := dk_172 (dk_at dksX3_equals_1 15 rfl rfl)
theorem q96 : (Jvm.Cond.initialized "LabelPlacer$Key") ∈ lw_all := lw_g (lw_at lw_m1 7 rfl) rfl
theorem q223 : (Jvm.Cond.instantiable "LabelPlacer$Key" (2 : Nat)) ∈ lw_all := lw_g (lw_at lw_m1 134 rfl) rfl
theorem q225 : (Jvm.Cond.instanceMethod ({ cls := "LabelPlacer$Key", name := "<init>", desc := "(II)V" } : Jvm.MethodName)) ∈ lw_all := lw_g (lw_at lw_m1 136 rfl) rfl
theorem q226 : (Jvm.Cond.code ({ cls := "LabelPlacer$Key", name := "<init>", desc := "(II)V" } : Jvm.MethodName) prog_7_method_1_code (3 : Nat) (Option.none : Option Jvm.ClassFile.FieldType)) ∈ lw_all := lw_g (lw_at lw_m1 137 rfl) rfl
theorem q227 : (Jvm.Cond.methodLink "LabelPlacer$Key" (3 : Nat) ({ cls := "java/lang/Object", name := "<init>", desc := "()V" } : Jvm.MethodName)) ∈ lw_all := lw_g (lw_at lw_m1 138 rfl) rfl
theorem q228 : (Jvm.Cond.fieldLink "LabelPlacer$Key" (9 : Nat) "LabelPlacer$Key" "point" "I") ∈ lw_all := lw_g (lw_at lw_m1 139 rfl) rfl
theorem q230 : (Jvm.Cond.fieldLink "LabelPlacer$Key" (15 : Nat) "LabelPlacer$Key" "side" "I") ∈ lw_all := lw_g (lw_at lw_m1 141 rfl) rfl
theorem q231 : (Jvm.Cond.laysFinal "LabelPlacer$Key" "LabelPlacer$Key" "point" "I") ∈ lw_all := lw_g (lw_at lw_m1 142 rfl) rfl
theorem q232 : (Jvm.Cond.soleField "LabelPlacer$Key" "point") ∈ lw_all := lw_g (lw_at lw_m1 143 rfl) rfl
theorem q233 : (Jvm.Cond.laysFinal "LabelPlacer$Key" "LabelPlacer$Key" "side" "I") ∈ lw_all := lw_g (lw_at lw_m1 144 rfl) rfl
theorem q234 : (Jvm.Cond.soleField "LabelPlacer$Key" "side") ∈ lw_all := lw_g (lw_at lw_m1 145 rfl) rfl
theorem q235 : (Jvm.Cond.superclass "LabelPlacer$Key" "java/lang/Object") ∈ lw_all := lw_g (lw_at lw_m1 146 rfl) rfl
theorem q363 : (Jvm.Cond.selects "LabelPlacer$Key" ({ cls := "java/lang/Object", name := "getClass", desc := "()Ljava/lang/Class;" } : Jvm.MethodName) ({ cls := "java/lang/Object", name := "getClass", desc := "()Ljava/lang/Class;" } : Jvm.MethodName)) ∈ lw_all := lw_g (lw_at lw_m2 34 rfl) rfl
theorem q524 : (Jvm.Cond.selects "LabelPlacer$Key" ({ cls := "java/lang/Object", name := "hashCode", desc := "()I" } : Jvm.MethodName) ({ cls := "LabelPlacer$Key", name := "hashCode", desc := "()I" } : Jvm.MethodName)) ∈ lw_all := lw_g (lw_at lw_m2 195 rfl) rfl
theorem q525 : (Jvm.Cond.instanceMethod ({ cls := "LabelPlacer$Key", name := "hashCode", desc := "()I" } : Jvm.MethodName)) ∈ lw_all := lw_g (lw_at lw_m2 196 rfl) rfl
theorem q526 : (Jvm.Cond.code ({ cls := "LabelPlacer$Key", name := "hashCode", desc := "()I" } : Jvm.MethodName) prog_7_method_3_code (1 : Nat) (Option.some Jvm.ClassFile.FieldType.int)) ∈ lw_all := lw_g (lw_at lw_m2 197 rfl) rfl
theorem q958 : (Jvm.Cond.selects "LabelPlacer$Key" ({ cls := "java/lang/Object", name := "equals", desc := "(Ljava/lang/Object;)Z" } : Jvm.MethodName) ({ cls := "LabelPlacer$Key", name := "equals", desc := "(Ljava/lang/Object;)Z" } : Jvm.MethodName)) ∈ lw_all := lw_g (lw_at lw_m4 149 rfl) rfl
theorem q959 : (Jvm.Cond.instanceMethod ({ cls := "LabelPlacer$Key", name := "equals", desc := "(Ljava/lang/Object;)Z" } : Jvm.MethodName)) ∈ lw_all := lw_g (lw_at lw_m4 150 rfl) rfl
theorem q960 : (Jvm.Cond.code ({ cls := "LabelPlacer$Key", name := "equals", desc := "(Ljava/lang/Object;)Z" } : Jvm.MethodName) prog_7_method_2_code (3 : Nat) (Option.some Jvm.ClassFile.FieldType.boolean)) ∈ lw_all := lw_g (lw_at lw_m4 151 rfl) rfl
theorem q961 : (Jvm.Cond.classLink "LabelPlacer$Key" (10 : Nat) "LabelPlacer$Key") ∈ lw_all := lw_g (lw_at lw_m4 152 rfl) rfl
theorem q2454 : (Jvm.Cond.castable "LabelPlacer$Key" "java/lang/Object") ∈ lw_tbl := lw_at lw_m10 205 rfl
theorem in_X3 : ∀ w ∈ wsX30, w ∈ lw_all := lw_in wsX30 [231, 233] (by decide +kernel) (by decide +kernel)

/-! LabelPlacer$Point -/
set_option maxRecDepth 100000
def RX5 : String := "LabelPlacer$Point"
def TX5 : u_T := fun k => match k with
  | 0 => ("LabelPlacer$Point", "x", "I", true)
  | 1 => ("LabelPlacer$Point", "y", "I", true)
  | 2 => ("LabelPlacer$Point", "width", "I", false)
  | 3 => ("LabelPlacer$Point", "height", "I", false)
  | 4 => ("LabelPlacer$Point", "priority", "I", false)
  | 5 => ("LabelPlacer$Point", "sides", "I", false)
  | _ => ("LabelPlacer$Point", "shown", "I", false)
def tyX5 : Nat → FieldType := fun k => match k with
  | 0 => .int
  | 1 => .int
  | 2 => .int
  | 3 => .int
  | 4 => .int
  | 5 => .int
  | _ => .int
abbrev wsX50 : List Cond := u_ws RX5 TX5 7
theorem nmX5 : ∀ a, a < 7 → ∀ b, b < 7 → a ≠ b → (TX5 a).2.1 ≠ (TX5 b).2.1 := by decide +kernel
theorem tyX5_ok : ∀ k, k < 7 → parseFieldDescriptor (TX5 k).2.2.1 = some (tyX5 k) := by decide +kernel
abbrev cX5_allows : ByteArray := prog_10_method_3_code
def yX5_allows : MethodName := ⟨RX5, "allows", "(II)Z"⟩
def dkwX5_allows_2 : List UInt8 := [160, 0, 18, 27, 4, 17, 0, 255, 184, 0, 33, 153, 0, 7, 4, 167, 0, 4, 3, 172]
abbrev dktX5_allows_2 : List UInt8 := dkwX5_allows_2 ++ []
def dkwX5_allows_1 : List UInt8 := [184, 0, 33, 167, 0, 39, 26, 7, 160, 0, 13, 27, 4, 16, 9, 184, 0, 33, 167, 0, 24, 26, 8]
abbrev dktX5_allows_1 : List UInt8 := dkwX5_allows_1 ++ dktX5_allows_2
def dkwX5_allows_0 : List UInt8 := [26, 5, 160, 0, 13, 27, 4, 16, 20, 184, 0, 33, 167, 0, 54, 26, 6, 160, 0, 13, 27, 4, 16, 6]
abbrev dktX5_allows_0 : List UInt8 := dkwX5_allows_0 ++ dktX5_allows_1
theorem dksX5_allows_0 : cX5_allows.data.toList.drop 0 = dktX5_allows_0 := by decide +kernel
theorem dksX5_allows_1 : cX5_allows.data.toList.drop 24 = dktX5_allows_1 := dk_seg dksX5_allows_0 24 rfl rfl
theorem dksX5_allows_2 : cX5_allows.data.toList.drop 47 = dktX5_allows_2 := dk_seg dksX5_allows_1 23 rfl rfl
theorem dX5_allows_0 : decode cX5_allows 0 = .ok (.iload_n 0, 1) := dk_26 (dk_at dksX5_allows_0 0 rfl rfl)
theorem dX5_allows_1 : decode cX5_allows 1 = .ok (.iconst 2, 1) := dk_5 (dk_at dksX5_allows_0 1 rfl rfl)
theorem dX5_allows_2 : decode cX5_allows 2 = .ok (.if_icmp .ne 13, 3) := dk_160 0 13 (dk_at dksX5_allows_0 2 rfl rfl)
theorem dX5_allows_5 : decode cX5_allows 5 = .ok (.iload_n 1, 1) := dk_27 (dk_at dksX5_allows_0 5 rfl rfl)
theorem dX5_allows_6 : decode cX5_allows 6 = .ok (.iconst 1, 1) := dk_4 (dk_at dksX5_allows_0 6 rfl rfl)
theorem dX5_allows_7 : decode cX5_allows 7 = .ok (.bipush 20, 2) := dk_16 20 (dk_at dksX5_allows_0 7 rfl rfl)
theorem dX5_allows_9 : decode cX5_allows 9 = .ok (.invokestatic 33, 3) := dk_184 0 33 (dk_at dksX5_allows_0 9 rfl rfl)
theorem dX5_allows_12 : decode cX5_allows 12 = .ok (.goto 54, 3) := dk_167 0 54 (dk_at dksX5_allows_0 12 rfl rfl)
theorem dX5_allows_15 : decode cX5_allows 15 = .ok (.iload_n 0, 1) := dk_26 (dk_at dksX5_allows_0 15 rfl rfl)
theorem dX5_allows_16 : decode cX5_allows 16 = .ok (.iconst 3, 1) := dk_6 (dk_at dksX5_allows_0 16 rfl rfl)
theorem dX5_allows_17 : decode cX5_allows 17 = .ok (.if_icmp .ne 13, 3) := dk_160 0 13 (dk_at dksX5_allows_0 17 rfl rfl)
theorem dX5_allows_20 : decode cX5_allows 20 = .ok (.iload_n 1, 1) := dk_27 (dk_at dksX5_allows_0 20 rfl rfl)
theorem dX5_allows_21 : decode cX5_allows 21 = .ok (.iconst 1, 1) := dk_4 (dk_at dksX5_allows_0 21 rfl rfl)
theorem dX5_allows_22 : decode cX5_allows 22 = .ok (.bipush 6, 2) := dk_16 6 (dk_at dksX5_allows_0 22 rfl rfl)
theorem dX5_allows_24 : decode cX5_allows 24 = .ok (.invokestatic 33, 3) := dk_184 0 33 (dk_at dksX5_allows_1 0 rfl rfl)
theorem dX5_allows_27 : decode cX5_allows 27 = .ok (.goto 39, 3) := dk_167 0 39 (dk_at dksX5_allows_1 3 rfl rfl)
theorem dX5_allows_30 : decode cX5_allows 30 = .ok (.iload_n 0, 1) := dk_26 (dk_at dksX5_allows_1 6 rfl rfl)
theorem dX5_allows_31 : decode cX5_allows 31 = .ok (.iconst 4, 1) := dk_7 (dk_at dksX5_allows_1 7 rfl rfl)
theorem dX5_allows_32 : decode cX5_allows 32 = .ok (.if_icmp .ne 13, 3) := dk_160 0 13 (dk_at dksX5_allows_1 8 rfl rfl)
theorem dX5_allows_35 : decode cX5_allows 35 = .ok (.iload_n 1, 1) := dk_27 (dk_at dksX5_allows_1 11 rfl rfl)
theorem dX5_allows_36 : decode cX5_allows 36 = .ok (.iconst 1, 1) := dk_4 (dk_at dksX5_allows_1 12 rfl rfl)
theorem dX5_allows_37 : decode cX5_allows 37 = .ok (.bipush 9, 2) := dk_16 9 (dk_at dksX5_allows_1 13 rfl rfl)
theorem dX5_allows_39 : decode cX5_allows 39 = .ok (.invokestatic 33, 3) := dk_184 0 33 (dk_at dksX5_allows_1 15 rfl rfl)
theorem dX5_allows_42 : decode cX5_allows 42 = .ok (.goto 24, 3) := dk_167 0 24 (dk_at dksX5_allows_1 18 rfl rfl)
theorem dX5_allows_45 : decode cX5_allows 45 = .ok (.iload_n 0, 1) := dk_26 (dk_at dksX5_allows_1 21 rfl rfl)
theorem dX5_allows_46 : decode cX5_allows 46 = .ok (.iconst 5, 1) := dk_8 (dk_at dksX5_allows_1 22 rfl rfl)
theorem dX5_allows_47 : decode cX5_allows 47 = .ok (.if_icmp .ne 18, 3) := dk_160 0 18 (dk_at dksX5_allows_2 0 rfl rfl)
theorem dX5_allows_50 : decode cX5_allows 50 = .ok (.iload_n 1, 1) := dk_27 (dk_at dksX5_allows_2 3 rfl rfl)
theorem dX5_allows_51 : decode cX5_allows 51 = .ok (.iconst 1, 1) := dk_4 (dk_at dksX5_allows_2 4 rfl rfl)
theorem dX5_allows_52 : decode cX5_allows 52 = .ok (.sipush 255, 3) := dk_17 0 255 (dk_at dksX5_allows_2 5 rfl rfl)
theorem dX5_allows_55 : decode cX5_allows 55 = .ok (.invokestatic 33, 3) := dk_184 0 33 (dk_at dksX5_allows_2 8 rfl rfl)
theorem dX5_allows_58 : decode cX5_allows 58 = .ok (.ifCond .eq 7, 3) := dk_153 0 7 (dk_at dksX5_allows_2 11 rfl rfl)
theorem dX5_allows_61 : decode cX5_allows 61 = .ok (.iconst 1, 1) := dk_4 (dk_at dksX5_allows_2 14 rfl rfl)
theorem dX5_allows_62 : decode cX5_allows 62 = .ok (.goto 4, 3) := dk_167 0 4 (dk_at dksX5_allows_2 15 rfl rfl)
theorem dX5_allows_65 : decode cX5_allows 65 = .ok (.iconst 0, 1) := dk_3 (dk_at dksX5_allows_2 18 rfl rfl)
theorem dX5_allows_66 : decode cX5_allows 66 = .ok (.ireturn, 1) := dk_172 (dk_at dksX5_allows_2 19 rfl rfl)
abbrev cX5_init : ByteArray := prog_10_method_1_code
def yX5_init : MethodName := ⟨RX5, "<init>", "(II)V"⟩
def dkwX5_init_0 : List UInt8 := [42, 183, 0, 3, 42, 2, 181, 0, 9, 42, 27, 181, 0, 15, 42, 28, 181, 0, 18, 177]
abbrev dktX5_init_0 : List UInt8 := dkwX5_init_0 ++ []
theorem dksX5_init_0 : cX5_init.data.toList.drop 0 = dktX5_init_0 := by decide +kernel
theorem dX5_init_0 : decode cX5_init 0 = .ok (.aload_n 0, 1) := dk_42 (dk_at dksX5_init_0 0 rfl rfl)
theorem dX5_init_1 : decode cX5_init 1 = .ok (.invokespecial 3, 3) := dk_183 0 3 (dk_at dksX5_init_0 1 rfl rfl)
theorem dX5_init_4 : decode cX5_init 4 = .ok (.aload_n 0, 1) := dk_42 (dk_at dksX5_init_0 4 rfl rfl)
theorem dX5_init_5 : decode cX5_init 5 = .ok (.iconst (-1), 1) := dk_2 (dk_at dksX5_init_0 5 rfl rfl)
theorem dX5_init_6 : decode cX5_init 6 = .ok (.putfield 9, 3) := dk_181 0 9 (dk_at dksX5_init_0 6 rfl rfl)
theorem dX5_init_9 : decode cX5_init 9 = .ok (.aload_n 0, 1) := dk_42 (dk_at dksX5_init_0 9 rfl rfl)
theorem dX5_init_10 : decode cX5_init 10 = .ok (.iload_n 1, 1) := dk_27 (dk_at dksX5_init_0 10 rfl rfl)
theorem dX5_init_11 : decode cX5_init 11 = .ok (.putfield 15, 3) := dk_181 0 15 (dk_at dksX5_init_0 11 rfl rfl)
theorem dX5_init_14 : decode cX5_init 14 = .ok (.aload_n 0, 1) := dk_42 (dk_at dksX5_init_0 14 rfl rfl)
theorem dX5_init_15 : decode cX5_init 15 = .ok (.iload_n 2, 1) := dk_28 (dk_at dksX5_init_0 15 rfl rfl)
theorem dX5_init_16 : decode cX5_init 16 = .ok (.putfield 18, 3) := dk_181 0 18 (dk_at dksX5_init_0 16 rfl rfl)
theorem dX5_init_19 : decode cX5_init 19 = .ok (.return_, 1) := dk_177 (dk_at dksX5_init_0 19 rfl rfl)
abbrev cX5_set : ByteArray := prog_10_method_4_code
def yX5_set : MethodName := ⟨RX5, "set", "(II)V"⟩
def dkwX5_set_2 : List UInt8 := [181, 0, 27, 42, 27, 8, 160, 0, 7, 28, 167, 0, 7, 42, 180, 0, 30, 181, 0, 30, 177]
abbrev dktX5_set_2 : List UInt8 := dkwX5_set_2 ++ []
def dkwX5_set_1 : List UInt8 := [167, 0, 7, 42, 180, 0, 24, 181, 0, 24, 42, 27, 7, 160, 0, 7, 28, 167, 0, 7, 42, 180, 0, 27]
abbrev dktX5_set_1 : List UInt8 := dkwX5_set_1 ++ dktX5_set_2
def dkwX5_set_0 : List UInt8 := [42, 27, 5, 160, 0, 7, 28, 167, 0, 7, 42, 180, 0, 21, 181, 0, 21, 42, 27, 6, 160, 0, 7, 28]
abbrev dktX5_set_0 : List UInt8 := dkwX5_set_0 ++ dktX5_set_1
theorem dksX5_set_0 : cX5_set.data.toList.drop 0 = dktX5_set_0 := by decide +kernel
theorem dksX5_set_1 : cX5_set.data.toList.drop 24 = dktX5_set_1 := dk_seg dksX5_set_0 24 rfl rfl
theorem dksX5_set_2 : cX5_set.data.toList.drop 48 = dktX5_set_2 := dk_seg dksX5_set_1 24 rfl rfl
theorem dX5_set_0 : decode cX5_set 0 = .ok (.aload_n 0, 1) := dk_42 (dk_at dksX5_set_0 0 rfl rfl)
theorem dX5_set_1 : decode cX5_set 1 = .ok (.iload_n 1, 1) := dk_27 (dk_at dksX5_set_0 1 rfl rfl)
theorem dX5_set_2 : decode cX5_set 2 = .ok (.iconst 2, 1) := dk_5 (dk_at dksX5_set_0 2 rfl rfl)
theorem dX5_set_3 : decode cX5_set 3 = .ok (.if_icmp .ne 7, 3) := dk_160 0 7 (dk_at dksX5_set_0 3 rfl rfl)
theorem dX5_set_6 : decode cX5_set 6 = .ok (.iload_n 2, 1) := dk_28 (dk_at dksX5_set_0 6 rfl rfl)
theorem dX5_set_7 : decode cX5_set 7 = .ok (.goto 7, 3) := dk_167 0 7 (dk_at dksX5_set_0 7 rfl rfl)
theorem dX5_set_10 : decode cX5_set 10 = .ok (.aload_n 0, 1) := dk_42 (dk_at dksX5_set_0 10 rfl rfl)
theorem dX5_set_11 : decode cX5_set 11 = .ok (.getfield 21, 3) := dk_180 0 21 (dk_at dksX5_set_0 11 rfl rfl)
theorem dX5_set_14 : decode cX5_set 14 = .ok (.putfield 21, 3) := dk_181 0 21 (dk_at dksX5_set_0 14 rfl rfl)
theorem dX5_set_17 : decode cX5_set 17 = .ok (.aload_n 0, 1) := dk_42 (dk_at dksX5_set_0 17 rfl rfl)
theorem dX5_set_18 : decode cX5_set 18 = .ok (.iload_n 1, 1) := dk_27 (dk_at dksX5_set_0 18 rfl rfl)
theorem dX5_set_19 : decode cX5_set 19 = .ok (.iconst 3, 1) := dk_6 (dk_at dksX5_set_0 19 rfl rfl)
theorem dX5_set_20 : decode cX5_set 20 = .ok (.if_icmp .ne 7, 3) := dk_160 0 7 (dk_at dksX5_set_0 20 rfl rfl)
theorem dX5_set_23 : decode cX5_set 23 = .ok (.iload_n 2, 1) := dk_28 (dk_at dksX5_set_0 23 rfl rfl)
theorem dX5_set_24 : decode cX5_set 24 = .ok (.goto 7, 3) := dk_167 0 7 (dk_at dksX5_set_1 0 rfl rfl)
theorem dX5_set_27 : decode cX5_set 27 = .ok (.aload_n 0, 1) := dk_42 (dk_at dksX5_set_1 3 rfl rfl)
theorem dX5_set_28 : decode cX5_set 28 = .ok (.getfield 24, 3) := dk_180 0 24 (dk_at dksX5_set_1 4 rfl rfl)
theorem dX5_set_31 : decode cX5_set 31 = .ok (.putfield 24, 3) := dk_181 0 24 (dk_at dksX5_set_1 7 rfl rfl)
theorem dX5_set_34 : decode cX5_set 34 = .ok (.aload_n 0, 1) := dk_42 (dk_at dksX5_set_1 10 rfl rfl)
theorem dX5_set_35 : decode cX5_set 35 = .ok (.iload_n 1, 1) := dk_27 (dk_at dksX5_set_1 11 rfl rfl)
theorem dX5_set_36 : decode cX5_set 36 = .ok (.iconst 4, 1) := dk_7 (dk_at dksX5_set_1 12 rfl rfl)
theorem dX5_set_37 : decode cX5_set 37 = .ok (.if_icmp .ne 7, 3) := dk_160 0 7 (dk_at dksX5_set_1 13 rfl rfl)
theorem dX5_set_40 : decode cX5_set 40 = .ok (.iload_n 2, 1) := dk_28 (dk_at dksX5_set_1 16 rfl rfl)
theorem dX5_set_41 : decode cX5_set 41 = .ok (.goto 7, 3) := dk_167 0 7 (dk_at dksX5_set_1 17 rfl rfl)
theorem dX5_set_44 : decode cX5_set 44 = .ok (.aload_n 0, 1) := dk_42 (dk_at dksX5_set_1 20 rfl rfl)
theorem dX5_set_45 : decode cX5_set 45 = .ok (.getfield 27, 3) := dk_180 0 27 (dk_at dksX5_set_1 21 rfl rfl)
theorem dX5_set_48 : decode cX5_set 48 = .ok (.putfield 27, 3) := dk_181 0 27 (dk_at dksX5_set_2 0 rfl rfl)
theorem dX5_set_51 : decode cX5_set 51 = .ok (.aload_n 0, 1) := dk_42 (dk_at dksX5_set_2 3 rfl rfl)
theorem dX5_set_52 : decode cX5_set 52 = .ok (.iload_n 1, 1) := dk_27 (dk_at dksX5_set_2 4 rfl rfl)
theorem dX5_set_53 : decode cX5_set 53 = .ok (.iconst 5, 1) := dk_8 (dk_at dksX5_set_2 5 rfl rfl)
theorem dX5_set_54 : decode cX5_set 54 = .ok (.if_icmp .ne 7, 3) := dk_160 0 7 (dk_at dksX5_set_2 6 rfl rfl)
theorem dX5_set_57 : decode cX5_set 57 = .ok (.iload_n 2, 1) := dk_28 (dk_at dksX5_set_2 9 rfl rfl)
theorem dX5_set_58 : decode cX5_set 58 = .ok (.goto 7, 3) := dk_167 0 7 (dk_at dksX5_set_2 10 rfl rfl)
theorem dX5_set_61 : decode cX5_set 61 = .ok (.aload_n 0, 1) := dk_42 (dk_at dksX5_set_2 13 rfl rfl)
theorem dX5_set_62 : decode cX5_set 62 = .ok (.getfield 30, 3) := dk_180 0 30 (dk_at dksX5_set_2 14 rfl rfl)
theorem dX5_set_65 : decode cX5_set 65 = .ok (.putfield 30, 3) := dk_181 0 30 (dk_at dksX5_set_2 17 rfl rfl)
theorem dX5_set_68 : decode cX5_set 68 = .ok (.return_, 1) := dk_177 (dk_at dksX5_set_2 20 rfl rfl)
abbrev cX5_box : ByteArray := prog_10_method_5_code
def yX5_box : MethodName := ⟨RX5, "box", "(I)LLabelPlacer$Box;"⟩
def dkwX5_box_5 : List UInt8 := [180, 0, 21, 42, 180, 0, 24, 183, 0, 39, 176]
abbrev dktX5_box_5 : List UInt8 := dkwX5_box_5 ++ []
def dkwX5_box_4 : List UInt8 := [100, 5, 108, 100, 167, 0, 12, 42, 180, 0, 18, 42, 180, 0, 24, 100, 62, 187, 0, 37, 89, 28, 29, 42]
abbrev dktX5_box_4 : List UInt8 := dkwX5_box_4 ++ dktX5_box_5
def dkwX5_box_3 : List UInt8 := [4, 96, 167, 0, 38, 27, 7, 159, 0, 8, 27, 8, 160, 0, 19, 42, 180, 0, 18, 42, 180, 0, 24, 4]
abbrev dktX5_box_3 : List UInt8 := dkwX5_box_3 ++ dktX5_box_4
def dkwX5_box_2 : List UInt8 := [180, 0, 21, 100, 61, 27, 153, 0, 14, 27, 4, 159, 0, 9, 27, 16, 6, 160, 0, 12, 42, 180, 0, 18]
abbrev dktX5_box_2 : List UInt8 := dkwX5_box_2 ++ dktX5_box_3
def dkwX5_box_1 : List UInt8 := [100, 167, 0, 27, 27, 5, 112, 154, 0, 12, 42, 180, 0, 15, 4, 96, 167, 0, 12, 42, 180, 0, 15, 42]
abbrev dktX5_box_1 : List UInt8 := dkwX5_box_1 ++ dktX5_box_2
def dkwX5_box_0 : List UInt8 := [27, 16, 6, 159, 0, 9, 27, 16, 7, 160, 0, 19, 42, 180, 0, 15, 42, 180, 0, 21, 4, 100, 5, 108]
abbrev dktX5_box_0 : List UInt8 := dkwX5_box_0 ++ dktX5_box_1
theorem dksX5_box_0 : cX5_box.data.toList.drop 0 = dktX5_box_0 := by decide +kernel
theorem dksX5_box_1 : cX5_box.data.toList.drop 24 = dktX5_box_1 := dk_seg dksX5_box_0 24 rfl rfl
theorem dksX5_box_2 : cX5_box.data.toList.drop 48 = dktX5_box_2 := dk_seg dksX5_box_1 24 rfl rfl
theorem dksX5_box_3 : cX5_box.data.toList.drop 72 = dktX5_box_3 := dk_seg dksX5_box_2 24 rfl rfl
theorem dksX5_box_4 : cX5_box.data.toList.drop 96 = dktX5_box_4 := dk_seg dksX5_box_3 24 rfl rfl
theorem dksX5_box_5 : cX5_box.data.toList.drop 120 = dktX5_box_5 := dk_seg dksX5_box_4 24 rfl rfl
theorem dX5_box_0 : decode cX5_box 0 = .ok (.iload_n 1, 1) := dk_27 (dk_at dksX5_box_0 0 rfl rfl)
theorem dX5_box_1 : decode cX5_box 1 = .ok (.bipush 6, 2) := dk_16 6 (dk_at dksX5_box_0 1 rfl rfl)
theorem dX5_box_3 : decode cX5_box 3 = .ok (.if_icmp .eq 9, 3) := dk_159 0 9 (dk_at dksX5_box_0 3 rfl rfl)
theorem dX5_box_6 : decode cX5_box 6 = .ok (.iload_n 1, 1) := dk_27 (dk_at dksX5_box_0 6 rfl rfl)
theorem dX5_box_7 : decode cX5_box 7 = .ok (.bipush 7, 2) := dk_16 7 (dk_at dksX5_box_0 7 rfl rfl)
theorem dX5_box_9 : decode cX5_box 9 = .ok (.if_icmp .ne 19, 3) := dk_160 0 19 (dk_at dksX5_box_0 9 rfl rfl)
theorem dX5_box_12 : decode cX5_box 12 = .ok (.aload_n 0, 1) := dk_42 (dk_at dksX5_box_0 12 rfl rfl)
theorem dX5_box_13 : decode cX5_box 13 = .ok (.getfield 15, 3) := dk_180 0 15 (dk_at dksX5_box_0 13 rfl rfl)
theorem dX5_box_16 : decode cX5_box 16 = .ok (.aload_n 0, 1) := dk_42 (dk_at dksX5_box_0 16 rfl rfl)
theorem dX5_box_17 : decode cX5_box 17 = .ok (.getfield 21, 3) := dk_180 0 21 (dk_at dksX5_box_0 17 rfl rfl)
theorem dX5_box_20 : decode cX5_box 20 = .ok (.iconst 1, 1) := dk_4 (dk_at dksX5_box_0 20 rfl rfl)
theorem dX5_box_21 : decode cX5_box 21 = .ok (.isub, 1) := dk_100 (dk_at dksX5_box_0 21 rfl rfl)
theorem dX5_box_22 : decode cX5_box 22 = .ok (.iconst 2, 1) := dk_5 (dk_at dksX5_box_0 22 rfl rfl)
theorem dX5_box_23 : decode cX5_box 23 = .ok (.idiv, 1) := dk_108 (dk_at dksX5_box_0 23 rfl rfl)
theorem dX5_box_24 : decode cX5_box 24 = .ok (.isub, 1) := dk_100 (dk_at dksX5_box_1 0 rfl rfl)
theorem dX5_box_25 : decode cX5_box 25 = .ok (.goto 27, 3) := dk_167 0 27 (dk_at dksX5_box_1 1 rfl rfl)
theorem dX5_box_28 : decode cX5_box 28 = .ok (.iload_n 1, 1) := dk_27 (dk_at dksX5_box_1 4 rfl rfl)
theorem dX5_box_29 : decode cX5_box 29 = .ok (.iconst 2, 1) := dk_5 (dk_at dksX5_box_1 5 rfl rfl)
theorem dX5_box_30 : decode cX5_box 30 = .ok (.irem, 1) := dk_112 (dk_at dksX5_box_1 6 rfl rfl)
theorem dX5_box_31 : decode cX5_box 31 = .ok (.ifCond .ne 12, 3) := dk_154 0 12 (dk_at dksX5_box_1 7 rfl rfl)
theorem dX5_box_34 : decode cX5_box 34 = .ok (.aload_n 0, 1) := dk_42 (dk_at dksX5_box_1 10 rfl rfl)
theorem dX5_box_35 : decode cX5_box 35 = .ok (.getfield 15, 3) := dk_180 0 15 (dk_at dksX5_box_1 11 rfl rfl)
theorem dX5_box_38 : decode cX5_box 38 = .ok (.iconst 1, 1) := dk_4 (dk_at dksX5_box_1 14 rfl rfl)
theorem dX5_box_39 : decode cX5_box 39 = .ok (.iadd, 1) := dk_96 (dk_at dksX5_box_1 15 rfl rfl)
theorem dX5_box_40 : decode cX5_box 40 = .ok (.goto 12, 3) := dk_167 0 12 (dk_at dksX5_box_1 16 rfl rfl)
theorem dX5_box_43 : decode cX5_box 43 = .ok (.aload_n 0, 1) := dk_42 (dk_at dksX5_box_1 19 rfl rfl)
theorem dX5_box_44 : decode cX5_box 44 = .ok (.getfield 15, 3) := dk_180 0 15 (dk_at dksX5_box_1 20 rfl rfl)
theorem dX5_box_47 : decode cX5_box 47 = .ok (.aload_n 0, 1) := dk_42 (dk_at dksX5_box_1 23 rfl rfl)
theorem dX5_box_48 : decode cX5_box 48 = .ok (.getfield 21, 3) := dk_180 0 21 (dk_at dksX5_box_2 0 rfl rfl)
theorem dX5_box_51 : decode cX5_box 51 = .ok (.isub, 1) := dk_100 (dk_at dksX5_box_2 3 rfl rfl)
theorem dX5_box_52 : decode cX5_box 52 = .ok (.istore_n 2, 1) := dk_61 (dk_at dksX5_box_2 4 rfl rfl)
theorem dX5_box_53 : decode cX5_box 53 = .ok (.iload_n 1, 1) := dk_27 (dk_at dksX5_box_2 5 rfl rfl)
theorem dX5_box_54 : decode cX5_box 54 = .ok (.ifCond .eq 14, 3) := dk_153 0 14 (dk_at dksX5_box_2 6 rfl rfl)
theorem dX5_box_57 : decode cX5_box 57 = .ok (.iload_n 1, 1) := dk_27 (dk_at dksX5_box_2 9 rfl rfl)
theorem dX5_box_58 : decode cX5_box 58 = .ok (.iconst 1, 1) := dk_4 (dk_at dksX5_box_2 10 rfl rfl)
theorem dX5_box_59 : decode cX5_box 59 = .ok (.if_icmp .eq 9, 3) := dk_159 0 9 (dk_at dksX5_box_2 11 rfl rfl)
theorem dX5_box_62 : decode cX5_box 62 = .ok (.iload_n 1, 1) := dk_27 (dk_at dksX5_box_2 14 rfl rfl)
theorem dX5_box_63 : decode cX5_box 63 = .ok (.bipush 6, 2) := dk_16 6 (dk_at dksX5_box_2 15 rfl rfl)
theorem dX5_box_65 : decode cX5_box 65 = .ok (.if_icmp .ne 12, 3) := dk_160 0 12 (dk_at dksX5_box_2 17 rfl rfl)
theorem dX5_box_68 : decode cX5_box 68 = .ok (.aload_n 0, 1) := dk_42 (dk_at dksX5_box_2 20 rfl rfl)
theorem dX5_box_69 : decode cX5_box 69 = .ok (.getfield 18, 3) := dk_180 0 18 (dk_at dksX5_box_2 21 rfl rfl)
theorem dX5_box_72 : decode cX5_box 72 = .ok (.iconst 1, 1) := dk_4 (dk_at dksX5_box_3 0 rfl rfl)
theorem dX5_box_73 : decode cX5_box 73 = .ok (.iadd, 1) := dk_96 (dk_at dksX5_box_3 1 rfl rfl)
theorem dX5_box_74 : decode cX5_box 74 = .ok (.goto 38, 3) := dk_167 0 38 (dk_at dksX5_box_3 2 rfl rfl)
theorem dX5_box_77 : decode cX5_box 77 = .ok (.iload_n 1, 1) := dk_27 (dk_at dksX5_box_3 5 rfl rfl)
theorem dX5_box_78 : decode cX5_box 78 = .ok (.iconst 4, 1) := dk_7 (dk_at dksX5_box_3 6 rfl rfl)
theorem dX5_box_79 : decode cX5_box 79 = .ok (.if_icmp .eq 8, 3) := dk_159 0 8 (dk_at dksX5_box_3 7 rfl rfl)
theorem dX5_box_82 : decode cX5_box 82 = .ok (.iload_n 1, 1) := dk_27 (dk_at dksX5_box_3 10 rfl rfl)
theorem dX5_box_83 : decode cX5_box 83 = .ok (.iconst 5, 1) := dk_8 (dk_at dksX5_box_3 11 rfl rfl)
theorem dX5_box_84 : decode cX5_box 84 = .ok (.if_icmp .ne 19, 3) := dk_160 0 19 (dk_at dksX5_box_3 12 rfl rfl)
theorem dX5_box_87 : decode cX5_box 87 = .ok (.aload_n 0, 1) := dk_42 (dk_at dksX5_box_3 15 rfl rfl)
theorem dX5_box_88 : decode cX5_box 88 = .ok (.getfield 18, 3) := dk_180 0 18 (dk_at dksX5_box_3 16 rfl rfl)
theorem dX5_box_91 : decode cX5_box 91 = .ok (.aload_n 0, 1) := dk_42 (dk_at dksX5_box_3 19 rfl rfl)
theorem dX5_box_92 : decode cX5_box 92 = .ok (.getfield 24, 3) := dk_180 0 24 (dk_at dksX5_box_3 20 rfl rfl)
theorem dX5_box_95 : decode cX5_box 95 = .ok (.iconst 1, 1) := dk_4 (dk_at dksX5_box_3 23 rfl rfl)
theorem dX5_box_96 : decode cX5_box 96 = .ok (.isub, 1) := dk_100 (dk_at dksX5_box_4 0 rfl rfl)
theorem dX5_box_97 : decode cX5_box 97 = .ok (.iconst 2, 1) := dk_5 (dk_at dksX5_box_4 1 rfl rfl)
theorem dX5_box_98 : decode cX5_box 98 = .ok (.idiv, 1) := dk_108 (dk_at dksX5_box_4 2 rfl rfl)
theorem dX5_box_99 : decode cX5_box 99 = .ok (.isub, 1) := dk_100 (dk_at dksX5_box_4 3 rfl rfl)
theorem dX5_box_100 : decode cX5_box 100 = .ok (.goto 12, 3) := dk_167 0 12 (dk_at dksX5_box_4 4 rfl rfl)
theorem dX5_box_103 : decode cX5_box 103 = .ok (.aload_n 0, 1) := dk_42 (dk_at dksX5_box_4 7 rfl rfl)
theorem dX5_box_104 : decode cX5_box 104 = .ok (.getfield 18, 3) := dk_180 0 18 (dk_at dksX5_box_4 8 rfl rfl)
theorem dX5_box_107 : decode cX5_box 107 = .ok (.aload_n 0, 1) := dk_42 (dk_at dksX5_box_4 11 rfl rfl)
theorem dX5_box_108 : decode cX5_box 108 = .ok (.getfield 24, 3) := dk_180 0 24 (dk_at dksX5_box_4 12 rfl rfl)
theorem dX5_box_111 : decode cX5_box 111 = .ok (.isub, 1) := dk_100 (dk_at dksX5_box_4 15 rfl rfl)
theorem dX5_box_112 : decode cX5_box 112 = .ok (.istore_n 3, 1) := dk_62 (dk_at dksX5_box_4 16 rfl rfl)
theorem dX5_box_113 : decode cX5_box 113 = .ok (.new 37, 3) := dk_187 0 37 (dk_at dksX5_box_4 17 rfl rfl)
theorem dX5_box_116 : decode cX5_box 116 = .ok (.dup, 1) := dk_89 (dk_at dksX5_box_4 20 rfl rfl)
theorem dX5_box_117 : decode cX5_box 117 = .ok (.iload_n 2, 1) := dk_28 (dk_at dksX5_box_4 21 rfl rfl)
theorem dX5_box_118 : decode cX5_box 118 = .ok (.iload_n 3, 1) := dk_29 (dk_at dksX5_box_4 22 rfl rfl)
theorem dX5_box_119 : decode cX5_box 119 = .ok (.aload_n 0, 1) := dk_42 (dk_at dksX5_box_4 23 rfl rfl)
theorem dX5_box_120 : decode cX5_box 120 = .ok (.getfield 21, 3) := dk_180 0 21 (dk_at dksX5_box_5 0 rfl rfl)
theorem dX5_box_123 : decode cX5_box 123 = .ok (.aload_n 0, 1) := dk_42 (dk_at dksX5_box_5 3 rfl rfl)
theorem dX5_box_124 : decode cX5_box 124 = .ok (.getfield 24, 3) := dk_180 0 24 (dk_at dksX5_box_5 4 rfl rfl)
theorem dX5_box_127 : decode cX5_box 127 = .ok (.invokespecial 39, 3) := dk_183 0 39 (dk_at dksX5_box_5 7 rfl rfl)
theorem dX5_box_130 : decode cX5_box 130 = .ok (.areturn, 1) := dk_176 (dk_at dksX5_box_5 10 rfl rfl)
abbrev cX5_part : ByteArray := prog_10_method_2_code
def yX5_part : MethodName := ⟨RX5, "part", "(I)I"⟩
def dkwX5_part_3 : List UInt8 := [172, 42, 180, 0, 30, 172, 42, 180, 0, 9, 172]
abbrev dktX5_part_3 : List UInt8 := dkwX5_part_3 ++ []
def dkwX5_part_2 : List UInt8 := [42, 180, 0, 15, 172, 42, 180, 0, 18, 172, 42, 180, 0, 21, 172, 42, 180, 0, 24, 172, 42, 180, 0, 27]
abbrev dktX5_part_2 : List UInt8 := dkwX5_part_2 ++ dktX5_part_3
def dkwX5_part_1 : List UInt8 := [170, 0, 0, 0, 0, 0, 69, 0, 0, 0, 0, 0, 0, 0, 5, 0, 0, 0, 39, 0, 0, 0, 44, 0, 0, 0, 49, 0, 0, 0, 54, 0, 0, 0, 59, 0, 0, 0, 64]
abbrev dktX5_part_1 : List UInt8 := dkwX5_part_1 ++ dktX5_part_2
def dkwX5_part_0 : List UInt8 := [27]
abbrev dktX5_part_0 : List UInt8 := dkwX5_part_0 ++ dktX5_part_1
theorem dksX5_part_0 : cX5_part.data.toList.drop 0 = dktX5_part_0 := by decide +kernel
theorem dksX5_part_1 : cX5_part.data.toList.drop 1 = dktX5_part_1 := dk_seg dksX5_part_0 1 rfl rfl
theorem dksX5_part_2 : cX5_part.data.toList.drop 40 = dktX5_part_2 := dk_seg dksX5_part_1 39 rfl rfl
theorem dksX5_part_3 : cX5_part.data.toList.drop 64 = dktX5_part_3 := dk_seg dksX5_part_2 24 rfl rfl
theorem dX5_part_0 : decode cX5_part 0 = .ok (.iload_n 1, 1) := dk_27 (dk_at dksX5_part_0 0 rfl rfl)
theorem dX5_part_1 : decode cX5_part 1 = .ok (.tableswitch 69 0 5 #[39, 44, 49, 54, 59, 64], 39) := by decide +kernel
theorem dX5_part_40 : decode cX5_part 40 = .ok (.aload_n 0, 1) := dk_42 (dk_at dksX5_part_2 0 rfl rfl)
theorem dX5_part_41 : decode cX5_part 41 = .ok (.getfield 15, 3) := dk_180 0 15 (dk_at dksX5_part_2 1 rfl rfl)
theorem dX5_part_44 : decode cX5_part 44 = .ok (.ireturn, 1) := dk_172 (dk_at dksX5_part_2 4 rfl rfl)
theorem dX5_part_45 : decode cX5_part 45 = .ok (.aload_n 0, 1) := dk_42 (dk_at dksX5_part_2 5 rfl rfl)
theorem dX5_part_46 : decode cX5_part 46 = .ok (.getfield 18, 3) := dk_180 0 18 (dk_at dksX5_part_2 6 rfl rfl)
theorem dX5_part_49 : decode cX5_part 49 = .ok (.ireturn, 1) := dk_172 (dk_at dksX5_part_2 9 rfl rfl)
theorem dX5_part_50 : decode cX5_part 50 = .ok (.aload_n 0, 1) := dk_42 (dk_at dksX5_part_2 10 rfl rfl)
theorem dX5_part_51 : decode cX5_part 51 = .ok (.getfield 21, 3) := dk_180 0 21 (dk_at dksX5_part_2 11 rfl rfl)
theorem dX5_part_54 : decode cX5_part 54 = .ok (.ireturn, 1) := dk_172 (dk_at dksX5_part_2 14 rfl rfl)
theorem dX5_part_55 : decode cX5_part 55 = .ok (.aload_n 0, 1) := dk_42 (dk_at dksX5_part_2 15 rfl rfl)
theorem dX5_part_56 : decode cX5_part 56 = .ok (.getfield 24, 3) := dk_180 0 24 (dk_at dksX5_part_2 16 rfl rfl)
theorem dX5_part_59 : decode cX5_part 59 = .ok (.ireturn, 1) := dk_172 (dk_at dksX5_part_2 19 rfl rfl)
theorem dX5_part_60 : decode cX5_part 60 = .ok (.aload_n 0, 1) := dk_42 (dk_at dksX5_part_2 20 rfl rfl)
theorem dX5_part_61 : decode cX5_part 61 = .ok (.getfield 27, 3) := dk_180 0 27 (dk_at dksX5_part_2 21 rfl rfl)
theorem dX5_part_64 : decode cX5_part 64 = .ok (.ireturn, 1) := dk_172 (dk_at dksX5_part_3 0 rfl rfl)
theorem dX5_part_65 : decode cX5_part 65 = .ok (.aload_n 0, 1) := dk_42 (dk_at dksX5_part_3 1 rfl rfl)
theorem dX5_part_66 : decode cX5_part 66 = .ok (.getfield 30, 3) := dk_180 0 30 (dk_at dksX5_part_3 2 rfl rfl)
theorem dX5_part_69 : decode cX5_part 69 = .ok (.ireturn, 1) := dk_172 (dk_at dksX5_part_3 5 rfl rfl)
theorem dX5_part_70 : decode cX5_part 70 = .ok (.aload_n 0, 1) := dk_42 (dk_at dksX5_part_3 6 rfl rfl)
theorem dX5_part_71 : decode cX5_part 71 = .ok (.getfield 9, 3) := dk_180 0 9 (dk_at dksX5_part_3 7 rfl rfl)
theorem dX5_part_74 : decode cX5_part 74 = .ok (.ireturn, 1) := dk_172 (dk_at dksX5_part_3 10 rfl rfl)
theorem q98 : (Jvm.Cond.initialized "LabelPlacer$Point") ∈ lw_all := lw_g (lw_at lw_m1 9 rfl) rfl
theorem q268 : (Jvm.Cond.static ({ cls := "LabelPlacer$Point", name := "allows", desc := "(II)Z" } : Jvm.MethodName)) ∈ lw_all := lw_g (lw_at lw_m1 179 rfl) rfl
theorem q269 : (Jvm.Cond.code ({ cls := "LabelPlacer$Point", name := "allows", desc := "(II)Z" } : Jvm.MethodName) prog_10_method_3_code (2 : Nat) (Option.some Jvm.ClassFile.FieldType.boolean)) ∈ lw_all := lw_g (lw_at lw_m1 180 rfl) rfl
theorem q270 : (Jvm.Cond.methodLinkNest "LabelPlacer$Point" (33 : Nat) ({ cls := "LabelPlacer", name := "isIn", desc := "(III)Z" } : Jvm.MethodName) "LabelPlacer") ∈ lw_tbl := lw_at lw_m1 181 rfl
theorem q290 : (Jvm.Cond.instantiable "LabelPlacer$Point" (7 : Nat)) ∈ lw_all := lw_g (lw_at lw_m1 201 rfl) rfl
theorem q292 : (Jvm.Cond.instanceMethod ({ cls := "LabelPlacer$Point", name := "<init>", desc := "(II)V" } : Jvm.MethodName)) ∈ lw_all := lw_g (lw_at lw_m1 203 rfl) rfl
theorem q293 : (Jvm.Cond.code ({ cls := "LabelPlacer$Point", name := "<init>", desc := "(II)V" } : Jvm.MethodName) prog_10_method_1_code (3 : Nat) (Option.none : Option Jvm.ClassFile.FieldType)) ∈ lw_all := lw_g (lw_at lw_m1 204 rfl) rfl
theorem q294 : (Jvm.Cond.methodLink "LabelPlacer$Point" (3 : Nat) ({ cls := "java/lang/Object", name := "<init>", desc := "()V" } : Jvm.MethodName)) ∈ lw_all := lw_g (lw_at lw_m1 205 rfl) rfl
theorem q295 : (Jvm.Cond.fieldLink "LabelPlacer$Point" (15 : Nat) "LabelPlacer$Point" "x" "I") ∈ lw_all := lw_g (lw_at lw_m1 206 rfl) rfl
theorem q297 : (Jvm.Cond.fieldLink "LabelPlacer$Point" (18 : Nat) "LabelPlacer$Point" "y" "I") ∈ lw_all := lw_g (lw_at lw_m1 208 rfl) rfl
theorem q299 : (Jvm.Cond.fieldLink "LabelPlacer$Point" (21 : Nat) "LabelPlacer$Point" "width" "I") ∈ lw_all := lw_g (lw_at lw_m1 210 rfl) rfl
theorem q300 : (Jvm.Cond.fieldLink "LabelPlacer$Point" (24 : Nat) "LabelPlacer$Point" "height" "I") ∈ lw_all := lw_g (lw_at lw_m1 211 rfl) rfl
theorem q302 : (Jvm.Cond.fieldLink "LabelPlacer$Point" (27 : Nat) "LabelPlacer$Point" "priority" "I") ∈ lw_all := lw_g (lw_at lw_m1 213 rfl) rfl
theorem q304 : (Jvm.Cond.fieldLink "LabelPlacer$Point" (30 : Nat) "LabelPlacer$Point" "sides" "I") ∈ lw_all := lw_g (lw_at lw_m1 215 rfl) rfl
theorem q306 : (Jvm.Cond.fieldLink "LabelPlacer$Point" (9 : Nat) "LabelPlacer$Point" "shown" "I") ∈ lw_all := lw_g (lw_at lw_m1 217 rfl) rfl
theorem q308 : (Jvm.Cond.laysFinal "LabelPlacer$Point" "LabelPlacer$Point" "x" "I") ∈ lw_all := lw_g (lw_at lw_m1 219 rfl) rfl
theorem q309 : (Jvm.Cond.soleField "LabelPlacer$Point" "x") ∈ lw_all := lw_g (lw_at lw_m1 220 rfl) rfl
theorem q310 : (Jvm.Cond.laysFinal "LabelPlacer$Point" "LabelPlacer$Point" "y" "I") ∈ lw_all := lw_g (lw_at lw_m1 221 rfl) rfl
theorem q311 : (Jvm.Cond.soleField "LabelPlacer$Point" "y") ∈ lw_all := lw_g (lw_at lw_m1 222 rfl) rfl
theorem q312 : (Jvm.Cond.lays "LabelPlacer$Point" "LabelPlacer$Point" "width" "I") ∈ lw_all := lw_g (lw_at lw_m1 223 rfl) rfl
theorem q313 : (Jvm.Cond.soleField "LabelPlacer$Point" "width") ∈ lw_all := lw_g (lw_at lw_m1 224 rfl) rfl
theorem q314 : (Jvm.Cond.lays "LabelPlacer$Point" "LabelPlacer$Point" "height" "I") ∈ lw_all := lw_g (lw_at lw_m1 225 rfl) rfl
theorem q315 : (Jvm.Cond.soleField "LabelPlacer$Point" "height") ∈ lw_all := lw_g (lw_at lw_m1 226 rfl) rfl
theorem q316 : (Jvm.Cond.lays "LabelPlacer$Point" "LabelPlacer$Point" "priority" "I") ∈ lw_all := lw_g (lw_at lw_m1 227 rfl) rfl
theorem q317 : (Jvm.Cond.soleField "LabelPlacer$Point" "priority") ∈ lw_all := lw_g (lw_at lw_m1 228 rfl) rfl
theorem q318 : (Jvm.Cond.lays "LabelPlacer$Point" "LabelPlacer$Point" "sides" "I") ∈ lw_all := lw_g (lw_at lw_m1 229 rfl) rfl
theorem q319 : (Jvm.Cond.soleField "LabelPlacer$Point" "sides") ∈ lw_all := lw_g (lw_at lw_m1 230 rfl) rfl
theorem q320 : (Jvm.Cond.lays "LabelPlacer$Point" "LabelPlacer$Point" "shown" "I") ∈ lw_all := lw_g (lw_at lw_m1 231 rfl) rfl
theorem q321 : (Jvm.Cond.soleField "LabelPlacer$Point" "shown") ∈ lw_all := lw_g (lw_at lw_m1 232 rfl) rfl
theorem q322 : (Jvm.Cond.superclass "LabelPlacer$Point" "java/lang/Object") ∈ lw_all := lw_g (lw_at lw_m1 233 rfl) rfl
theorem q324 : (Jvm.Cond.instanceMethod ({ cls := "LabelPlacer$Point", name := "set", desc := "(II)V" } : Jvm.MethodName)) ∈ lw_all := lw_g (lw_at lw_m1 235 rfl) rfl
theorem q325 : (Jvm.Cond.selects "LabelPlacer$Point" ({ cls := "LabelPlacer$Point", name := "set", desc := "(II)V" } : Jvm.MethodName) ({ cls := "LabelPlacer$Point", name := "set", desc := "(II)V" } : Jvm.MethodName)) ∈ lw_all := lw_g (lw_at lw_m1 236 rfl) rfl
theorem q326 : (Jvm.Cond.code ({ cls := "LabelPlacer$Point", name := "set", desc := "(II)V" } : Jvm.MethodName) prog_10_method_4_code (3 : Nat) (Option.none : Option Jvm.ClassFile.FieldType)) ∈ lw_all := lw_g (lw_at lw_m1 237 rfl) rfl
theorem q366 : (Jvm.Cond.selects "LabelPlacer$Point" ({ cls := "java/lang/Object", name := "getClass", desc := "()Ljava/lang/Class;" } : Jvm.MethodName) ({ cls := "java/lang/Object", name := "getClass", desc := "()Ljava/lang/Class;" } : Jvm.MethodName)) ∈ lw_all := lw_g (lw_at lw_m2 37 rfl) rfl
theorem q489 : (Jvm.Cond.instanceMethod ({ cls := "LabelPlacer$Point", name := "box", desc := "(I)LLabelPlacer$Box;" } : Jvm.MethodName)) ∈ lw_all := lw_g (lw_at lw_m2 160 rfl) rfl
theorem q490 : (Jvm.Cond.selects "LabelPlacer$Point" ({ cls := "LabelPlacer$Point", name := "box", desc := "(I)LLabelPlacer$Box;" } : Jvm.MethodName) ({ cls := "LabelPlacer$Point", name := "box", desc := "(I)LLabelPlacer$Box;" } : Jvm.MethodName)) ∈ lw_all := lw_g (lw_at lw_m2 161 rfl) rfl
theorem q491 : (Jvm.Cond.code ({ cls := "LabelPlacer$Point", name := "box", desc := "(I)LLabelPlacer$Box;" } : Jvm.MethodName) prog_10_method_5_code (4 : Nat) (Option.some (Jvm.ClassFile.FieldType.object "LabelPlacer$Box"))) ∈ lw_all := lw_g (lw_at lw_m2 162 rfl) rfl
theorem q492 : (Jvm.Cond.classLink "LabelPlacer$Point" (37 : Nat) "LabelPlacer$Box") ∈ lw_all := lw_g (lw_at lw_m2 163 rfl) rfl
theorem q493 : (Jvm.Cond.methodLink "LabelPlacer$Point" (39 : Nat) ({ cls := "LabelPlacer$Box", name := "<init>", desc := "(IIII)V" } : Jvm.MethodName)) ∈ lw_all := lw_g (lw_at lw_m2 164 rfl) rfl
theorem q529 : (Jvm.Cond.selects "LabelPlacer$Point" ({ cls := "java/lang/Object", name := "hashCode", desc := "()I" } : Jvm.MethodName) ({ cls := "java/lang/Object", name := "hashCode", desc := "()I" } : Jvm.MethodName)) ∈ lw_all := lw_g (lw_at lw_m2 200 rfl) rfl
theorem q964 : (Jvm.Cond.selects "LabelPlacer$Point" ({ cls := "java/lang/Object", name := "equals", desc := "(Ljava/lang/Object;)Z" } : Jvm.MethodName) ({ cls := "java/lang/Object", name := "equals", desc := "(Ljava/lang/Object;)Z" } : Jvm.MethodName)) ∈ lw_all := lw_g (lw_at lw_m4 155 rfl) rfl
theorem q1105 : (Jvm.Cond.instanceMethod ({ cls := "LabelPlacer$Point", name := "part", desc := "(I)I" } : Jvm.MethodName)) ∈ lw_all := lw_g (lw_at lw_m5 56 rfl) rfl
theorem q1106 : (Jvm.Cond.selects "LabelPlacer$Point" ({ cls := "LabelPlacer$Point", name := "part", desc := "(I)I" } : Jvm.MethodName) ({ cls := "LabelPlacer$Point", name := "part", desc := "(I)I" } : Jvm.MethodName)) ∈ lw_all := lw_g (lw_at lw_m5 57 rfl) rfl
theorem q1107 : (Jvm.Cond.code ({ cls := "LabelPlacer$Point", name := "part", desc := "(I)I" } : Jvm.MethodName) prog_10_method_2_code (2 : Nat) (Option.some Jvm.ClassFile.FieldType.int)) ∈ lw_all := lw_g (lw_at lw_m5 58 rfl) rfl
theorem q2461 : (Jvm.Cond.castable "LabelPlacer$Point" "java/lang/Object") ∈ lw_tbl := lw_at lw_m10 212 rfl
theorem in_X5 : ∀ w ∈ wsX50, w ∈ lw_all := lw_in wsX50 [308, 310, 312, 314, 316, 318, 320] (by decide +kernel) (by decide +kernel)

/-! LabelPlacer$Search -/
set_option maxRecDepth 100000
def RX6 : String := "LabelPlacer$Search"
def TX6 : u_T := fun k => match k with
  | 0 => ("LabelPlacer$Search", "candidates", "[I", true)
  | 1 => ("LabelPlacer$Search", "boxes", "[LLabelPlacer$Box;", true)
  | 2 => ("LabelPlacer$Search", "taken", "Ljava/util/ArrayList;", true)
  | 3 => ("LabelPlacer$Search", "best", "I", false)
  | _ => ("LabelPlacer$Search", "this$0", "LLabelPlacer;", true)
def tyX6 : Nat → FieldType := fun k => match k with
  | 0 => .array .int
  | 1 => .array (.object "LabelPlacer$Box")
  | 2 => .object "java/util/ArrayList"
  | 3 => .int
  | _ => .object "LabelPlacer"
abbrev wsX60 : List Cond := u_ws RX6 TX6 5
theorem nmX6 : ∀ a, a < 5 → ∀ b, b < 5 → a ≠ b → (TX6 a).2.1 ≠ (TX6 b).2.1 := by decide +kernel
theorem tyX6_ok : ∀ k, k < 5 → parseFieldDescriptor (TX6 k).2.2.1 = some (tyX6 k) := by decide +kernel
abbrev cX6_init : ByteArray := prog_11_method_1_code
def yX6_init : MethodName := ⟨RX6, "<init>", "(LLabelPlacer;[I)V"⟩
def dkwX6_init_3 : List UInt8 := [132, 3, 1, 167, 255, 224, 177]
abbrev dktX6_init_3 : List UInt8 := dkwX6_init_3 ++ []
def dkwX6_init_2 : List UInt8 := [162, 0, 29, 42, 180, 0, 28, 29, 43, 44, 29, 16, 8, 108, 46, 29, 16, 8, 112, 182, 0, 32, 83]
abbrev dktX6_init_2 : List UInt8 := dkwX6_init_2 ++ dktX6_init_3
def dkwX6_init_1 : List UInt8 := [181, 0, 22, 42, 16, 8, 44, 190, 104, 189, 0, 26, 181, 0, 28, 3, 62, 29, 42, 180, 0, 28, 190]
abbrev dktX6_init_1 : List UInt8 := dkwX6_init_1 ++ dktX6_init_2
def dkwX6_init_0 : List UInt8 := [42, 43, 181, 0, 3, 42, 183, 0, 9, 42, 187, 0, 15, 89, 183, 0, 17, 181, 0, 18, 42, 44]
abbrev dktX6_init_0 : List UInt8 := dkwX6_init_0 ++ dktX6_init_1
theorem dksX6_init_0 : cX6_init.data.toList.drop 0 = dktX6_init_0 := by decide +kernel
theorem dksX6_init_1 : cX6_init.data.toList.drop 22 = dktX6_init_1 := dk_seg dksX6_init_0 22 rfl rfl
theorem dksX6_init_2 : cX6_init.data.toList.drop 45 = dktX6_init_2 := dk_seg dksX6_init_1 23 rfl rfl
theorem dksX6_init_3 : cX6_init.data.toList.drop 68 = dktX6_init_3 := dk_seg dksX6_init_2 23 rfl rfl
theorem dX6_init_0 : decode cX6_init 0 = .ok (.aload_n 0, 1) := dk_42 (dk_at dksX6_init_0 0 rfl rfl)
theorem dX6_init_1 : decode cX6_init 1 = .ok (.aload_n 1, 1) := dk_43 (dk_at dksX6_init_0 1 rfl rfl)
theorem dX6_init_2 : decode cX6_init 2 = .ok (.putfield 3, 3) := dk_181 0 3 (dk_at dksX6_init_0 2 rfl rfl)
theorem dX6_init_5 : decode cX6_init 5 = .ok (.aload_n 0, 1) := dk_42 (dk_at dksX6_init_0 5 rfl rfl)
theorem dX6_init_6 : decode cX6_init 6 = .ok (.invokespecial 9, 3) := dk_183 0 9 (dk_at dksX6_init_0 6 rfl rfl)
theorem dX6_init_9 : decode cX6_init 9 = .ok (.aload_n 0, 1) := dk_42 (dk_at dksX6_init_0 9 rfl rfl)
theorem dX6_init_10 : decode cX6_init 10 = .ok (.new 15, 3) := dk_187 0 15 (dk_at dksX6_init_0 10 rfl rfl)
theorem dX6_init_13 : decode cX6_init 13 = .ok (.dup, 1) := dk_89 (dk_at dksX6_init_0 13 rfl rfl)
theorem dX6_init_14 : decode cX6_init 14 = .ok (.invokespecial 17, 3) := dk_183 0 17 (dk_at dksX6_init_0 14 rfl rfl)
theorem dX6_init_17 : decode cX6_init 17 = .ok (.putfield 18, 3) := dk_181 0 18 (dk_at dksX6_init_0 17 rfl rfl)
theorem dX6_init_20 : decode cX6_init 20 = .ok (.aload_n 0, 1) := dk_42 (dk_at dksX6_init_0 20 rfl rfl)
theorem dX6_init_21 : decode cX6_init 21 = .ok (.aload_n 2, 1) := dk_44 (dk_at dksX6_init_0 21 rfl rfl)
theorem dX6_init_22 : decode cX6_init 22 = .ok (.putfield 22, 3) := dk_181 0 22 (dk_at dksX6_init_1 0 rfl rfl)
theorem dX6_init_25 : decode cX6_init 25 = .ok (.aload_n 0, 1) := dk_42 (dk_at dksX6_init_1 3 rfl rfl)
theorem dX6_init_26 : decode cX6_init 26 = .ok (.bipush 8, 2) := dk_16 8 (dk_at dksX6_init_1 4 rfl rfl)
theorem dX6_init_28 : decode cX6_init 28 = .ok (.aload_n 2, 1) := dk_44 (dk_at dksX6_init_1 6 rfl rfl)
theorem dX6_init_29 : decode cX6_init 29 = .ok (.arraylength, 1) := dk_190 (dk_at dksX6_init_1 7 rfl rfl)
theorem dX6_init_30 : decode cX6_init 30 = .ok (.imul, 1) := dk_104 (dk_at dksX6_init_1 8 rfl rfl)
theorem dX6_init_31 : decode cX6_init 31 = .ok (.anewarray 26, 3) := dk_189 0 26 (dk_at dksX6_init_1 9 rfl rfl)
theorem dX6_init_34 : decode cX6_init 34 = .ok (.putfield 28, 3) := dk_181 0 28 (dk_at dksX6_init_1 12 rfl rfl)
theorem dX6_init_37 : decode cX6_init 37 = .ok (.iconst 0, 1) := dk_3 (dk_at dksX6_init_1 15 rfl rfl)
theorem dX6_init_38 : decode cX6_init 38 = .ok (.istore_n 3, 1) := dk_62 (dk_at dksX6_init_1 16 rfl rfl)
theorem dX6_init_39 : decode cX6_init 39 = .ok (.iload_n 3, 1) := dk_29 (dk_at dksX6_init_1 17 rfl rfl)
theorem dX6_init_40 : decode cX6_init 40 = .ok (.aload_n 0, 1) := dk_42 (dk_at dksX6_init_1 18 rfl rfl)
theorem dX6_init_41 : decode cX6_init 41 = .ok (.getfield 28, 3) := dk_180 0 28 (dk_at dksX6_init_1 19 rfl rfl)
theorem dX6_init_44 : decode cX6_init 44 = .ok (.arraylength, 1) := dk_190 (dk_at dksX6_init_1 22 rfl rfl)
theorem dX6_init_45 : decode cX6_init 45 = .ok (.if_icmp .ge 29, 3) := dk_162 0 29 (dk_at dksX6_init_2 0 rfl rfl)
theorem dX6_init_48 : decode cX6_init 48 = .ok (.aload_n 0, 1) := dk_42 (dk_at dksX6_init_2 3 rfl rfl)
theorem dX6_init_49 : decode cX6_init 49 = .ok (.getfield 28, 3) := dk_180 0 28 (dk_at dksX6_init_2 4 rfl rfl)
theorem dX6_init_52 : decode cX6_init 52 = .ok (.iload_n 3, 1) := dk_29 (dk_at dksX6_init_2 7 rfl rfl)
theorem dX6_init_53 : decode cX6_init 53 = .ok (.aload_n 1, 1) := dk_43 (dk_at dksX6_init_2 8 rfl rfl)
theorem dX6_init_54 : decode cX6_init 54 = .ok (.aload_n 2, 1) := dk_44 (dk_at dksX6_init_2 9 rfl rfl)
theorem dX6_init_55 : decode cX6_init 55 = .ok (.iload_n 3, 1) := dk_29 (dk_at dksX6_init_2 10 rfl rfl)
theorem dX6_init_56 : decode cX6_init 56 = .ok (.bipush 8, 2) := dk_16 8 (dk_at dksX6_init_2 11 rfl rfl)
theorem dX6_init_58 : decode cX6_init 58 = .ok (.idiv, 1) := dk_108 (dk_at dksX6_init_2 13 rfl rfl)
theorem dX6_init_59 : decode cX6_init 59 = .ok (.iaload, 1) := dk_46 (dk_at dksX6_init_2 14 rfl rfl)
theorem dX6_init_60 : decode cX6_init 60 = .ok (.iload_n 3, 1) := dk_29 (dk_at dksX6_init_2 15 rfl rfl)
theorem dX6_init_61 : decode cX6_init 61 = .ok (.bipush 8, 2) := dk_16 8 (dk_at dksX6_init_2 16 rfl rfl)
theorem dX6_init_63 : decode cX6_init 63 = .ok (.irem, 1) := dk_112 (dk_at dksX6_init_2 18 rfl rfl)
theorem dX6_init_64 : decode cX6_init 64 = .ok (.invokevirtual 32, 3) := dk_182 0 32 (dk_at dksX6_init_2 19 rfl rfl)
theorem dX6_init_67 : decode cX6_init 67 = .ok (.aastore, 1) := dk_83 (dk_at dksX6_init_2 22 rfl rfl)
theorem dX6_init_68 : decode cX6_init 68 = .ok (.iinc 3 1, 3) := dk_132 3 1 (dk_at dksX6_init_3 0 rfl rfl)
theorem dX6_init_71 : decode cX6_init 71 = .ok (.goto (-32), 3) := dk_167 255 224 (dk_at dksX6_init_3 3 rfl rfl)
theorem dX6_init_74 : decode cX6_init 74 = .ok (.return_, 1) := dk_177 (dk_at dksX6_init_3 6 rfl rfl)
abbrev cX6_search : ByteArray := prog_11_method_5_code
def yX6_search : MethodName := ⟨RX6, "search", "(II)V"⟩
def dkwX6_search_6 : List UInt8 := [96, 28, 182, 0, 79, 177]
abbrev dktX6_search_6 : List UInt8 := dkwX6_search_6 ++ []
def dkwX6_search_5 : List UInt8 := [180, 0, 18, 182, 0, 49, 4, 100, 182, 0, 83, 87, 25, 5, 191, 132, 3, 1, 167, 255, 154, 42, 27, 4]
abbrev dktX6_search_5 : List UInt8 := dkwX6_search_5 ++ dktX6_search_6
def dkwX6_search_4 : List UInt8 := [180, 0, 18, 182, 0, 49, 4, 100, 182, 0, 83, 87, 167, 0, 25, 58, 5, 42, 180, 0, 18, 42]
abbrev dktX6_search_4 : List UInt8 := dkwX6_search_4 ++ dktX6_search_5
def dkwX6_search_3 : List UInt8 := [182, 0, 75, 87, 42, 27, 4, 96, 28, 42, 27, 182, 0, 57, 96, 182, 0, 79, 42, 180, 0, 18, 42]
abbrev dktX6_search_3 : List UInt8 := dkwX6_search_3 ++ dktX6_search_4
def dkwX6_search_2 : List UInt8 := [58, 4, 25, 4, 198, 0, 78, 42, 25, 4, 182, 0, 72, 153, 0, 69, 42, 180, 0, 18, 25, 4]
abbrev dktX6_search_2 : List UInt8 := dkwX6_search_2 ++ dktX6_search_3
def dkwX6_search_1 : List UInt8 := [163, 0, 4, 177, 3, 62, 29, 16, 8, 162, 0, 102, 42, 180, 0, 28, 16, 8, 27, 104, 29, 96, 50]
abbrev dktX6_search_1 : List UInt8 := dkwX6_search_1 ++ dktX6_search_2
def dkwX6_search_0 : List UInt8 := [42, 42, 180, 0, 60, 28, 184, 0, 63, 181, 0, 60, 28, 42, 27, 182, 0, 69, 96, 42, 180, 0, 60]
abbrev dktX6_search_0 : List UInt8 := dkwX6_search_0 ++ dktX6_search_1
theorem dksX6_search_0 : cX6_search.data.toList.drop 0 = dktX6_search_0 := by decide +kernel
theorem dksX6_search_1 : cX6_search.data.toList.drop 23 = dktX6_search_1 := dk_seg dksX6_search_0 23 rfl rfl
theorem dksX6_search_2 : cX6_search.data.toList.drop 46 = dktX6_search_2 := dk_seg dksX6_search_1 23 rfl rfl
theorem dksX6_search_3 : cX6_search.data.toList.drop 68 = dktX6_search_3 := dk_seg dksX6_search_2 22 rfl rfl
theorem dksX6_search_4 : cX6_search.data.toList.drop 91 = dktX6_search_4 := dk_seg dksX6_search_3 23 rfl rfl
theorem dksX6_search_5 : cX6_search.data.toList.drop 113 = dktX6_search_5 := dk_seg dksX6_search_4 22 rfl rfl
theorem dksX6_search_6 : cX6_search.data.toList.drop 137 = dktX6_search_6 := dk_seg dksX6_search_5 24 rfl rfl
theorem dX6_search_0 : decode cX6_search 0 = .ok (.aload_n 0, 1) := dk_42 (dk_at dksX6_search_0 0 rfl rfl)
theorem dX6_search_1 : decode cX6_search 1 = .ok (.aload_n 0, 1) := dk_42 (dk_at dksX6_search_0 1 rfl rfl)
theorem dX6_search_2 : decode cX6_search 2 = .ok (.getfield 60, 3) := dk_180 0 60 (dk_at dksX6_search_0 2 rfl rfl)
theorem dX6_search_5 : decode cX6_search 5 = .ok (.iload_n 2, 1) := dk_28 (dk_at dksX6_search_0 5 rfl rfl)
theorem dX6_search_6 : decode cX6_search 6 = .ok (.invokestatic 63, 3) := dk_184 0 63 (dk_at dksX6_search_0 6 rfl rfl)
theorem dX6_search_9 : decode cX6_search 9 = .ok (.putfield 60, 3) := dk_181 0 60 (dk_at dksX6_search_0 9 rfl rfl)
theorem dX6_search_12 : decode cX6_search 12 = .ok (.iload_n 2, 1) := dk_28 (dk_at dksX6_search_0 12 rfl rfl)
theorem dX6_search_13 : decode cX6_search 13 = .ok (.aload_n 0, 1) := dk_42 (dk_at dksX6_search_0 13 rfl rfl)
theorem dX6_search_14 : decode cX6_search 14 = .ok (.iload_n 1, 1) := dk_27 (dk_at dksX6_search_0 14 rfl rfl)
theorem dX6_search_15 : decode cX6_search 15 = .ok (.invokevirtual 69, 3) := dk_182 0 69 (dk_at dksX6_search_0 15 rfl rfl)
theorem dX6_search_18 : decode cX6_search 18 = .ok (.iadd, 1) := dk_96 (dk_at dksX6_search_0 18 rfl rfl)
theorem dX6_search_19 : decode cX6_search 19 = .ok (.aload_n 0, 1) := dk_42 (dk_at dksX6_search_0 19 rfl rfl)
theorem dX6_search_20 : decode cX6_search 20 = .ok (.getfield 60, 3) := dk_180 0 60 (dk_at dksX6_search_0 20 rfl rfl)
theorem dX6_search_23 : decode cX6_search 23 = .ok (.if_icmp .gt 4, 3) := dk_163 0 4 (dk_at dksX6_search_1 0 rfl rfl)
theorem dX6_search_26 : decode cX6_search 26 = .ok (.return_, 1) := dk_177 (dk_at dksX6_search_1 3 rfl rfl)
theorem dX6_search_27 : decode cX6_search 27 = .ok (.iconst 0, 1) := dk_3 (dk_at dksX6_search_1 4 rfl rfl)
theorem dX6_search_28 : decode cX6_search 28 = .ok (.istore_n 3, 1) := dk_62 (dk_at dksX6_search_1 5 rfl rfl)
theorem dX6_search_29 : decode cX6_search 29 = .ok (.iload_n 3, 1) := dk_29 (dk_at dksX6_search_1 6 rfl rfl)
theorem dX6_search_30 : decode cX6_search 30 = .ok (.bipush 8, 2) := dk_16 8 (dk_at dksX6_search_1 7 rfl rfl)
theorem dX6_search_32 : decode cX6_search 32 = .ok (.if_icmp .ge 102, 3) := dk_162 0 102 (dk_at dksX6_search_1 9 rfl rfl)
theorem dX6_search_35 : decode cX6_search 35 = .ok (.aload_n 0, 1) := dk_42 (dk_at dksX6_search_1 12 rfl rfl)
theorem dX6_search_36 : decode cX6_search 36 = .ok (.getfield 28, 3) := dk_180 0 28 (dk_at dksX6_search_1 13 rfl rfl)
theorem dX6_search_39 : decode cX6_search 39 = .ok (.bipush 8, 2) := dk_16 8 (dk_at dksX6_search_1 16 rfl rfl)
theorem dX6_search_41 : decode cX6_search 41 = .ok (.iload_n 1, 1) := dk_27 (dk_at dksX6_search_1 18 rfl rfl)
theorem dX6_search_42 : decode cX6_search 42 = .ok (.imul, 1) := dk_104 (dk_at dksX6_search_1 19 rfl rfl)
theorem dX6_search_43 : decode cX6_search 43 = .ok (.iload_n 3, 1) := dk_29 (dk_at dksX6_search_1 20 rfl rfl)
theorem dX6_search_44 : decode cX6_search 44 = .ok (.iadd, 1) := dk_96 (dk_at dksX6_search_1 21 rfl rfl)
theorem dX6_search_45 : decode cX6_search 45 = .ok (.aaload, 1) := dk_50 (dk_at dksX6_search_1 22 rfl rfl)
theorem dX6_search_46 : decode cX6_search 46 = .ok (.astore 4, 2) := dk_58 4 (dk_at dksX6_search_2 0 rfl rfl)
theorem dX6_search_48 : decode cX6_search 48 = .ok (.aload 4, 2) := dk_25 4 (dk_at dksX6_search_2 2 rfl rfl)
theorem dX6_search_50 : decode cX6_search 50 = .ok (.ifnull 78, 3) := dk_198 0 78 (dk_at dksX6_search_2 4 rfl rfl)
theorem dX6_search_53 : decode cX6_search 53 = .ok (.aload_n 0, 1) := dk_42 (dk_at dksX6_search_2 7 rfl rfl)
theorem dX6_search_54 : decode cX6_search 54 = .ok (.aload 4, 2) := dk_25 4 (dk_at dksX6_search_2 8 rfl rfl)
theorem dX6_search_56 : decode cX6_search 56 = .ok (.invokevirtual 72, 3) := dk_182 0 72 (dk_at dksX6_search_2 10 rfl rfl)
theorem dX6_search_59 : decode cX6_search 59 = .ok (.ifCond .eq 69, 3) := dk_153 0 69 (dk_at dksX6_search_2 13 rfl rfl)
theorem dX6_search_62 : decode cX6_search 62 = .ok (.aload_n 0, 1) := dk_42 (dk_at dksX6_search_2 16 rfl rfl)
theorem dX6_search_63 : decode cX6_search 63 = .ok (.getfield 18, 3) := dk_180 0 18 (dk_at dksX6_search_2 17 rfl rfl)
theorem dX6_search_66 : decode cX6_search 66 = .ok (.aload 4, 2) := dk_25 4 (dk_at dksX6_search_2 20 rfl rfl)
theorem dX6_search_68 : decode cX6_search 68 = .ok (.invokevirtual 75, 3) := dk_182 0 75 (dk_at dksX6_search_3 0 rfl rfl)
theorem dX6_search_71 : decode cX6_search 71 = .ok (.pop, 1) := dk_87 (dk_at dksX6_search_3 3 rfl rfl)
theorem dX6_search_72 : decode cX6_search 72 = .ok (.aload_n 0, 1) := dk_42 (dk_at dksX6_search_3 4 rfl rfl)
theorem dX6_search_73 : decode cX6_search 73 = .ok (.iload_n 1, 1) := dk_27 (dk_at dksX6_search_3 5 rfl rfl)
theorem dX6_search_74 : decode cX6_search 74 = .ok (.iconst 1, 1) := dk_4 (dk_at dksX6_search_3 6 rfl rfl)
theorem dX6_search_75 : decode cX6_search 75 = .ok (.iadd, 1) := dk_96 (dk_at dksX6_search_3 7 rfl rfl)
theorem dX6_search_76 : decode cX6_search 76 = .ok (.iload_n 2, 1) := dk_28 (dk_at dksX6_search_3 8 rfl rfl)
theorem dX6_search_77 : decode cX6_search 77 = .ok (.aload_n 0, 1) := dk_42 (dk_at dksX6_search_3 9 rfl rfl)
theorem dX6_search_78 : decode cX6_search 78 = .ok (.iload_n 1, 1) := dk_27 (dk_at dksX6_search_3 10 rfl rfl)
theorem dX6_search_79 : decode cX6_search 79 = .ok (.invokevirtual 57, 3) := dk_182 0 57 (dk_at dksX6_search_3 11 rfl rfl)
theorem dX6_search_82 : decode cX6_search 82 = .ok (.iadd, 1) := dk_96 (dk_at dksX6_search_3 14 rfl rfl)
theorem dX6_search_83 : decode cX6_search 83 = .ok (.invokevirtual 79, 3) := dk_182 0 79 (dk_at dksX6_search_3 15 rfl rfl)
theorem dX6_search_86 : decode cX6_search 86 = .ok (.aload_n 0, 1) := dk_42 (dk_at dksX6_search_3 18 rfl rfl)
theorem dX6_search_87 : decode cX6_search 87 = .ok (.getfield 18, 3) := dk_180 0 18 (dk_at dksX6_search_3 19 rfl rfl)
theorem dX6_search_90 : decode cX6_search 90 = .ok (.aload_n 0, 1) := dk_42 (dk_at dksX6_search_3 22 rfl rfl)
theorem dX6_search_91 : decode cX6_search 91 = .ok (.getfield 18, 3) := dk_180 0 18 (dk_at dksX6_search_4 0 rfl rfl)
theorem dX6_search_94 : decode cX6_search 94 = .ok (.invokevirtual 49, 3) := dk_182 0 49 (dk_at dksX6_search_4 3 rfl rfl)
theorem dX6_search_97 : decode cX6_search 97 = .ok (.iconst 1, 1) := dk_4 (dk_at dksX6_search_4 6 rfl rfl)
theorem dX6_search_98 : decode cX6_search 98 = .ok (.isub, 1) := dk_100 (dk_at dksX6_search_4 7 rfl rfl)
theorem dX6_search_99 : decode cX6_search 99 = .ok (.invokevirtual 83, 3) := dk_182 0 83 (dk_at dksX6_search_4 8 rfl rfl)
theorem dX6_search_102 : decode cX6_search 102 = .ok (.pop, 1) := dk_87 (dk_at dksX6_search_4 11 rfl rfl)
theorem dX6_search_103 : decode cX6_search 103 = .ok (.goto 25, 3) := dk_167 0 25 (dk_at dksX6_search_4 12 rfl rfl)
theorem dX6_search_106 : decode cX6_search 106 = .ok (.astore 5, 2) := dk_58 5 (dk_at dksX6_search_4 15 rfl rfl)
theorem dX6_search_108 : decode cX6_search 108 = .ok (.aload_n 0, 1) := dk_42 (dk_at dksX6_search_4 17 rfl rfl)
theorem dX6_search_109 : decode cX6_search 109 = .ok (.getfield 18, 3) := dk_180 0 18 (dk_at dksX6_search_4 18 rfl rfl)
theorem dX6_search_112 : decode cX6_search 112 = .ok (.aload_n 0, 1) := dk_42 (dk_at dksX6_search_4 21 rfl rfl)
theorem dX6_search_113 : decode cX6_search 113 = .ok (.getfield 18, 3) := dk_180 0 18 (dk_at dksX6_search_5 0 rfl rfl)
theorem dX6_search_116 : decode cX6_search 116 = .ok (.invokevirtual 49, 3) := dk_182 0 49 (dk_at dksX6_search_5 3 rfl rfl)
theorem dX6_search_119 : decode cX6_search 119 = .ok (.iconst 1, 1) := dk_4 (dk_at dksX6_search_5 6 rfl rfl)
theorem dX6_search_120 : decode cX6_search 120 = .ok (.isub, 1) := dk_100 (dk_at dksX6_search_5 7 rfl rfl)
theorem dX6_search_121 : decode cX6_search 121 = .ok (.invokevirtual 83, 3) := dk_182 0 83 (dk_at dksX6_search_5 8 rfl rfl)
theorem dX6_search_124 : decode cX6_search 124 = .ok (.pop, 1) := dk_87 (dk_at dksX6_search_5 11 rfl rfl)
theorem dX6_search_125 : decode cX6_search 125 = .ok (.aload 5, 2) := dk_25 5 (dk_at dksX6_search_5 12 rfl rfl)
theorem dX6_search_127 : decode cX6_search 127 = .ok (.athrow, 1) := dk_191 (dk_at dksX6_search_5 14 rfl rfl)
theorem dX6_search_128 : decode cX6_search 128 = .ok (.iinc 3 1, 3) := dk_132 3 1 (dk_at dksX6_search_5 15 rfl rfl)
theorem dX6_search_131 : decode cX6_search 131 = .ok (.goto (-102), 3) := dk_167 255 154 (dk_at dksX6_search_5 18 rfl rfl)
theorem dX6_search_134 : decode cX6_search 134 = .ok (.aload_n 0, 1) := dk_42 (dk_at dksX6_search_5 21 rfl rfl)
theorem dX6_search_135 : decode cX6_search 135 = .ok (.iload_n 1, 1) := dk_27 (dk_at dksX6_search_5 22 rfl rfl)
theorem dX6_search_136 : decode cX6_search 136 = .ok (.iconst 1, 1) := dk_4 (dk_at dksX6_search_5 23 rfl rfl)
theorem dX6_search_137 : decode cX6_search 137 = .ok (.iadd, 1) := dk_96 (dk_at dksX6_search_6 0 rfl rfl)
theorem dX6_search_138 : decode cX6_search 138 = .ok (.iload_n 2, 1) := dk_28 (dk_at dksX6_search_6 1 rfl rfl)
theorem dX6_search_139 : decode cX6_search 139 = .ok (.invokevirtual 79, 3) := dk_182 0 79 (dk_at dksX6_search_6 2 rfl rfl)
theorem dX6_search_142 : decode cX6_search 142 = .ok (.return_, 1) := dk_177 (dk_at dksX6_search_6 5 rfl rfl)
abbrev cX6_rest : ByteArray := prog_11_method_4_code
def yX6_rest : MethodName := ⟨RX6, "rest", "(I)I"⟩
def dkwX6_rest_1 : List UInt8 := [167, 255, 236, 28, 172]
abbrev dktX6_rest_1 : List UInt8 := dkwX6_rest_1 ++ []
def dkwX6_rest_0 : List UInt8 := [3, 61, 27, 62, 29, 42, 180, 0, 22, 190, 162, 0, 17, 28, 42, 29, 182, 0, 57, 96, 61, 132, 3, 1]
abbrev dktX6_rest_0 : List UInt8 := dkwX6_rest_0 ++ dktX6_rest_1
theorem dksX6_rest_0 : cX6_rest.data.toList.drop 0 = dktX6_rest_0 := by decide +kernel
theorem dksX6_rest_1 : cX6_rest.data.toList.drop 24 = dktX6_rest_1 := dk_seg dksX6_rest_0 24 rfl rfl
theorem dX6_rest_0 : decode cX6_rest 0 = .ok (.iconst 0, 1) := dk_3 (dk_at dksX6_rest_0 0 rfl rfl)
theorem dX6_rest_1 : decode cX6_rest 1 = .ok (.istore_n 2, 1) := dk_61 (dk_at dksX6_rest_0 1 rfl rfl)
theorem dX6_rest_2 : decode cX6_rest 2 = .ok (.iload_n 1, 1) := dk_27 (dk_at dksX6_rest_0 2 rfl rfl)
theorem dX6_rest_3 : decode cX6_rest 3 = .ok (.istore_n 3, 1) := dk_62 (dk_at dksX6_rest_0 3 rfl rfl)
theorem dX6_rest_4 : decode cX6_rest 4 = .ok (.iload_n 3, 1) := dk_29 (dk_at dksX6_rest_0 4 rfl rfl)
theorem dX6_rest_5 : decode cX6_rest 5 = .ok (.aload_n 0, 1) := dk_42 (dk_at dksX6_rest_0 5 rfl rfl)
theorem dX6_rest_6 : decode cX6_rest 6 = .ok (.getfield 22, 3) := dk_180 0 22 (dk_at dksX6_rest_0 6 rfl rfl)
theorem dX6_rest_9 : decode cX6_rest 9 = .ok (.arraylength, 1) := dk_190 (dk_at dksX6_rest_0 9 rfl rfl)
theorem dX6_rest_10 : decode cX6_rest 10 = .ok (.if_icmp .ge 17, 3) := dk_162 0 17 (dk_at dksX6_rest_0 10 rfl rfl)
theorem dX6_rest_13 : decode cX6_rest 13 = .ok (.iload_n 2, 1) := dk_28 (dk_at dksX6_rest_0 13 rfl rfl)
theorem dX6_rest_14 : decode cX6_rest 14 = .ok (.aload_n 0, 1) := dk_42 (dk_at dksX6_rest_0 14 rfl rfl)
theorem dX6_rest_15 : decode cX6_rest 15 = .ok (.iload_n 3, 1) := dk_29 (dk_at dksX6_rest_0 15 rfl rfl)
theorem dX6_rest_16 : decode cX6_rest 16 = .ok (.invokevirtual 57, 3) := dk_182 0 57 (dk_at dksX6_rest_0 16 rfl rfl)
theorem dX6_rest_19 : decode cX6_rest 19 = .ok (.iadd, 1) := dk_96 (dk_at dksX6_rest_0 19 rfl rfl)
theorem dX6_rest_20 : decode cX6_rest 20 = .ok (.istore_n 2, 1) := dk_61 (dk_at dksX6_rest_0 20 rfl rfl)
theorem dX6_rest_21 : decode cX6_rest 21 = .ok (.iinc 3 1, 3) := dk_132 3 1 (dk_at dksX6_rest_0 21 rfl rfl)
theorem dX6_rest_24 : decode cX6_rest 24 = .ok (.goto (-20), 3) := dk_167 255 236 (dk_at dksX6_rest_1 0 rfl rfl)
theorem dX6_rest_27 : decode cX6_rest 27 = .ok (.iload_n 2, 1) := dk_28 (dk_at dksX6_rest_1 3 rfl rfl)
theorem dX6_rest_28 : decode cX6_rest 28 = .ok (.ireturn, 1) := dk_172 (dk_at dksX6_rest_1 4 rfl rfl)
abbrev cX6_priority : ByteArray := prog_11_method_2_code
def yX6_priority : MethodName := ⟨RX6, "priority", "(I)I"⟩
def dkwX6_priority_0 : List UInt8 := [42, 180, 0, 3, 180, 0, 36, 42, 180, 0, 22, 27, 46, 182, 0, 39, 192, 0, 43, 180, 0, 45, 172]
abbrev dktX6_priority_0 : List UInt8 := dkwX6_priority_0 ++ []
theorem dksX6_priority_0 : cX6_priority.data.toList.drop 0 = dktX6_priority_0 := by decide +kernel
theorem dX6_priority_0 : decode cX6_priority 0 = .ok (.aload_n 0, 1) := dk_42 (dk_at dksX6_priority_0 0 rfl rfl)
theorem dX6_priority_1 : decode cX6_priority 1 = .ok (.getfield 3, 3) := dk_180 0 3 (dk_at dksX6_priority_0 1 rfl rfl)
theorem dX6_priority_4 : decode cX6_priority 4 = .ok (.getfield 36, 3) := dk_180 0 36 (dk_at dksX6_priority_0 4 rfl rfl)
theorem dX6_priority_7 : decode cX6_priority 7 = .ok (.aload_n 0, 1) := dk_42 (dk_at dksX6_priority_0 7 rfl rfl)
theorem dX6_priority_8 : decode cX6_priority 8 = .ok (.getfield 22, 3) := dk_180 0 22 (dk_at dksX6_priority_0 8 rfl rfl)
theorem dX6_priority_11 : decode cX6_priority 11 = .ok (.iload_n 1, 1) := dk_27 (dk_at dksX6_priority_0 11 rfl rfl)
theorem dX6_priority_12 : decode cX6_priority 12 = .ok (.iaload, 1) := dk_46 (dk_at dksX6_priority_0 12 rfl rfl)
theorem dX6_priority_13 : decode cX6_priority 13 = .ok (.invokevirtual 39, 3) := dk_182 0 39 (dk_at dksX6_priority_0 13 rfl rfl)
theorem dX6_priority_16 : decode cX6_priority 16 = .ok (.checkcast 43, 3) := dk_192 0 43 (dk_at dksX6_priority_0 16 rfl rfl)
theorem dX6_priority_19 : decode cX6_priority 19 = .ok (.getfield 45, 3) := dk_180 0 45 (dk_at dksX6_priority_0 19 rfl rfl)
theorem dX6_priority_22 : decode cX6_priority 22 = .ok (.ireturn, 1) := dk_172 (dk_at dksX6_priority_0 22 rfl rfl)
abbrev cX6_isOpen : ByteArray := prog_11_method_3_code
def yX6_isOpen : MethodName := ⟨RX6, "isOpen", "(LLabelPlacer$Box;)Z"⟩
def dkwX6_isOpen_2 : List UInt8 := [172]
abbrev dktX6_isOpen_2 : List UInt8 := dkwX6_isOpen_2 ++ []
def dkwX6_isOpen_1 : List UInt8 := [192, 0, 26, 43, 182, 0, 53, 154, 0, 7, 4, 167, 0, 4, 3, 126, 61, 132, 3, 1, 167, 255, 216, 28]
abbrev dktX6_isOpen_1 : List UInt8 := dkwX6_isOpen_1 ++ dktX6_isOpen_2
def dkwX6_isOpen_0 : List UInt8 := [4, 61, 3, 62, 29, 42, 180, 0, 18, 182, 0, 49, 162, 0, 35, 28, 42, 180, 0, 18, 29, 182, 0, 39]
abbrev dktX6_isOpen_0 : List UInt8 := dkwX6_isOpen_0 ++ dktX6_isOpen_1
theorem dksX6_isOpen_0 : cX6_isOpen.data.toList.drop 0 = dktX6_isOpen_0 := by decide +kernel
theorem dksX6_isOpen_1 : cX6_isOpen.data.toList.drop 24 = dktX6_isOpen_1 := dk_seg dksX6_isOpen_0 24 rfl rfl
theorem dksX6_isOpen_2 : cX6_isOpen.data.toList.drop 48 = dktX6_isOpen_2 := dk_seg dksX6_isOpen_1 24 rfl rfl
theorem dX6_isOpen_0 : decode cX6_isOpen 0 = .ok (.iconst 1, 1) := dk_4 (dk_at dksX6_isOpen_0 0 rfl rfl)
theorem dX6_isOpen_1 : decode cX6_isOpen 1 = .ok (.istore_n 2, 1) := dk_61 (dk_at dksX6_isOpen_0 1 rfl rfl)
theorem dX6_isOpen_2 : decode cX6_isOpen 2 = .ok (.iconst 0, 1) := dk_3 (dk_at dksX6_isOpen_0 2 rfl rfl)
theorem dX6_isOpen_3 : decode cX6_isOpen 3 = .ok (.istore_n 3, 1) := dk_62 (dk_at dksX6_isOpen_0 3 rfl rfl)
theorem dX6_isOpen_4 : decode cX6_isOpen 4 = .ok (.iload_n 3, 1) := dk_29 (dk_at dksX6_isOpen_0 4 rfl rfl)
theorem dX6_isOpen_5 : decode cX6_isOpen 5 = .ok (.aload_n 0, 1) := dk_42 (dk_at dksX6_isOpen_0 5 rfl rfl)
theorem dX6_isOpen_6 : decode cX6_isOpen 6 = .ok (.getfield 18, 3) := dk_180 0 18 (dk_at dksX6_isOpen_0 6 rfl rfl)
theorem dX6_isOpen_9 : decode cX6_isOpen 9 = .ok (.invokevirtual 49, 3) := dk_182 0 49 (dk_at dksX6_isOpen_0 9 rfl rfl)
theorem dX6_isOpen_12 : decode cX6_isOpen 12 = .ok (.if_icmp .ge 35, 3) := dk_162 0 35 (dk_at dksX6_isOpen_0 12 rfl rfl)
theorem dX6_isOpen_15 : decode cX6_isOpen 15 = .ok (.iload_n 2, 1) := dk_28 (dk_at dksX6_isOpen_0 15 rfl rfl)
theorem dX6_isOpen_16 : decode cX6_isOpen 16 = .ok (.aload_n 0, 1) := dk_42 (dk_at dksX6_isOpen_0 16 rfl rfl)
theorem dX6_isOpen_17 : decode cX6_isOpen 17 = .ok (.getfield 18, 3) := dk_180 0 18 (dk_at dksX6_isOpen_0 17 rfl rfl)
theorem dX6_isOpen_20 : decode cX6_isOpen 20 = .ok (.iload_n 3, 1) := dk_29 (dk_at dksX6_isOpen_0 20 rfl rfl)
theorem dX6_isOpen_21 : decode cX6_isOpen 21 = .ok (.invokevirtual 39, 3) := dk_182 0 39 (dk_at dksX6_isOpen_0 21 rfl rfl)
theorem dX6_isOpen_24 : decode cX6_isOpen 24 = .ok (.checkcast 26, 3) := dk_192 0 26 (dk_at dksX6_isOpen_1 0 rfl rfl)
theorem dX6_isOpen_27 : decode cX6_isOpen 27 = .ok (.aload_n 1, 1) := dk_43 (dk_at dksX6_isOpen_1 3 rfl rfl)
theorem dX6_isOpen_28 : decode cX6_isOpen 28 = .ok (.invokevirtual 53, 3) := dk_182 0 53 (dk_at dksX6_isOpen_1 4 rfl rfl)
theorem dX6_isOpen_31 : decode cX6_isOpen 31 = .ok (.ifCond .ne 7, 3) := dk_154 0 7 (dk_at dksX6_isOpen_1 7 rfl rfl)
theorem dX6_isOpen_34 : decode cX6_isOpen 34 = .ok (.iconst 1, 1) := dk_4 (dk_at dksX6_isOpen_1 10 rfl rfl)
theorem dX6_isOpen_35 : decode cX6_isOpen 35 = .ok (.goto 4, 3) := dk_167 0 4 (dk_at dksX6_isOpen_1 11 rfl rfl)
theorem dX6_isOpen_38 : decode cX6_isOpen 38 = .ok (.iconst 0, 1) := dk_3 (dk_at dksX6_isOpen_1 14 rfl rfl)
theorem dX6_isOpen_39 : decode cX6_isOpen 39 = .ok (.iand, 1) := dk_126 (dk_at dksX6_isOpen_1 15 rfl rfl)
theorem dX6_isOpen_40 : decode cX6_isOpen 40 = .ok (.istore_n 2, 1) := dk_61 (dk_at dksX6_isOpen_1 16 rfl rfl)
theorem dX6_isOpen_41 : decode cX6_isOpen 41 = .ok (.iinc 3 1, 3) := dk_132 3 1 (dk_at dksX6_isOpen_1 17 rfl rfl)
theorem dX6_isOpen_44 : decode cX6_isOpen 44 = .ok (.goto (-40), 3) := dk_167 255 216 (dk_at dksX6_isOpen_1 20 rfl rfl)
theorem dX6_isOpen_47 : decode cX6_isOpen 47 = .ok (.iload_n 2, 1) := dk_28 (dk_at dksX6_isOpen_1 23 rfl rfl)
theorem dX6_isOpen_48 : decode cX6_isOpen 48 = .ok (.ireturn, 1) := dk_172 (dk_at dksX6_isOpen_2 0 rfl rfl)
theorem q131 : (Jvm.Cond.initialized "LabelPlacer$Search") ∈ lw_all := lw_g (lw_at lw_m1 42 rfl) rfl
theorem q236 : (Jvm.Cond.fieldLinkNest "LabelPlacer$Search" (36 : Nat) "LabelPlacer" "points" "Ljava/util/ArrayList;" "LabelPlacer") ∈ lw_tbl := lw_at lw_m1 147 rfl
theorem q301 : (Jvm.Cond.fieldLinkNest "LabelPlacer$Search" (45 : Nat) "LabelPlacer$Point" "priority" "I" "LabelPlacer") ∈ lw_tbl := lw_at lw_m1 212 rfl
theorem q367 : (Jvm.Cond.selects "LabelPlacer$Search" ({ cls := "java/lang/Object", name := "getClass", desc := "()Ljava/lang/Class;" } : Jvm.MethodName) ({ cls := "java/lang/Object", name := "getClass", desc := "()Ljava/lang/Class;" } : Jvm.MethodName)) ∈ lw_all := lw_g (lw_at lw_m2 38 rfl) rfl
theorem q530 : (Jvm.Cond.selects "LabelPlacer$Search" ({ cls := "java/lang/Object", name := "hashCode", desc := "()I" } : Jvm.MethodName) ({ cls := "java/lang/Object", name := "hashCode", desc := "()I" } : Jvm.MethodName)) ∈ lw_all := lw_g (lw_at lw_m2 201 rfl) rfl
theorem q965 : (Jvm.Cond.selects "LabelPlacer$Search" ({ cls := "java/lang/Object", name := "equals", desc := "(Ljava/lang/Object;)Z" } : Jvm.MethodName) ({ cls := "java/lang/Object", name := "equals", desc := "(Ljava/lang/Object;)Z" } : Jvm.MethodName)) ∈ lw_all := lw_g (lw_at lw_m4 156 rfl) rfl
theorem q1516 : (Jvm.Cond.instantiable "LabelPlacer$Search" (5 : Nat)) ∈ lw_all := lw_g (lw_at lw_m6 227 rfl) rfl
theorem q1528 : (Jvm.Cond.instanceMethod ({ cls := "LabelPlacer$Search", name := "<init>", desc := "(LLabelPlacer;[I)V" } : Jvm.MethodName)) ∈ lw_all := lw_g (lw_at lw_m6 239 rfl) rfl
theorem q1529 : (Jvm.Cond.code ({ cls := "LabelPlacer$Search", name := "<init>", desc := "(LLabelPlacer;[I)V" } : Jvm.MethodName) prog_11_method_1_code (4 : Nat) (Option.none : Option Jvm.ClassFile.FieldType)) ∈ lw_all := lw_g (lw_at lw_m7 0 rfl) rfl
theorem q1530 : (Jvm.Cond.methodLink "LabelPlacer$Search" (9 : Nat) ({ cls := "java/lang/Object", name := "<init>", desc := "()V" } : Jvm.MethodName)) ∈ lw_all := lw_g (lw_at lw_m7 1 rfl) rfl
theorem q1531 : (Jvm.Cond.classLink "LabelPlacer$Search" (15 : Nat) "java/util/ArrayList") ∈ lw_all := lw_g (lw_at lw_m7 2 rfl) rfl
theorem q1532 : (Jvm.Cond.methodLink "LabelPlacer$Search" (17 : Nat) ({ cls := "java/util/ArrayList", name := "<init>", desc := "()V" } : Jvm.MethodName)) ∈ lw_all := lw_g (lw_at lw_m7 3 rfl) rfl
theorem q1533 : (Jvm.Cond.classLink "LabelPlacer$Search" (26 : Nat) "LabelPlacer$Box") ∈ lw_all := lw_g (lw_at lw_m7 4 rfl) rfl
theorem q1535 : (Jvm.Cond.methodLinkNest "LabelPlacer$Search" (32 : Nat) ({ cls := "LabelPlacer", name := "boxAt", desc := "(II)LLabelPlacer$Box;" } : Jvm.MethodName) "LabelPlacer") ∈ lw_tbl := lw_at lw_m7 6 rfl
theorem q1536 : (Jvm.Cond.fieldLink "LabelPlacer$Search" (22 : Nat) "LabelPlacer$Search" "candidates" "[I") ∈ lw_all := lw_g (lw_at lw_m7 7 rfl) rfl
theorem q1537 : (Jvm.Cond.fieldLink "LabelPlacer$Search" (28 : Nat) "LabelPlacer$Search" "boxes" "[LLabelPlacer$Box;") ∈ lw_all := lw_g (lw_at lw_m7 8 rfl) rfl
theorem q1538 : (Jvm.Cond.fieldLink "LabelPlacer$Search" (18 : Nat) "LabelPlacer$Search" "taken" "Ljava/util/ArrayList;") ∈ lw_all := lw_g (lw_at lw_m7 9 rfl) rfl
theorem q1539 : (Jvm.Cond.fieldLink "LabelPlacer$Search" (60 : Nat) "LabelPlacer$Search" "best" "I") ∈ lw_all := lw_g (lw_at lw_m7 10 rfl) rfl
theorem q1541 : (Jvm.Cond.fieldLink "LabelPlacer$Search" (3 : Nat) "LabelPlacer$Search" "this$0" "LLabelPlacer;") ∈ lw_all := lw_g (lw_at lw_m7 12 rfl) rfl
theorem q1542 : (Jvm.Cond.laysFinal "LabelPlacer$Search" "LabelPlacer$Search" "candidates" "[I") ∈ lw_all := lw_g (lw_at lw_m7 13 rfl) rfl
theorem q1543 : (Jvm.Cond.soleField "LabelPlacer$Search" "candidates") ∈ lw_all := lw_g (lw_at lw_m7 14 rfl) rfl
theorem q1544 : (Jvm.Cond.laysFinal "LabelPlacer$Search" "LabelPlacer$Search" "boxes" "[LLabelPlacer$Box;") ∈ lw_all := lw_g (lw_at lw_m7 15 rfl) rfl
theorem q1545 : (Jvm.Cond.soleField "LabelPlacer$Search" "boxes") ∈ lw_all := lw_g (lw_at lw_m7 16 rfl) rfl
theorem q1546 : (Jvm.Cond.laysFinal "LabelPlacer$Search" "LabelPlacer$Search" "taken" "Ljava/util/ArrayList;") ∈ lw_all := lw_g (lw_at lw_m7 17 rfl) rfl
theorem q1547 : (Jvm.Cond.soleField "LabelPlacer$Search" "taken") ∈ lw_all := lw_g (lw_at lw_m7 18 rfl) rfl
theorem q1548 : (Jvm.Cond.lays "LabelPlacer$Search" "LabelPlacer$Search" "best" "I") ∈ lw_all := lw_g (lw_at lw_m7 19 rfl) rfl
theorem q1549 : (Jvm.Cond.soleField "LabelPlacer$Search" "best") ∈ lw_all := lw_g (lw_at lw_m7 20 rfl) rfl
theorem q1550 : (Jvm.Cond.laysFinal "LabelPlacer$Search" "LabelPlacer$Search" "this$0" "LLabelPlacer;") ∈ lw_all := lw_g (lw_at lw_m7 21 rfl) rfl
theorem q1551 : (Jvm.Cond.soleField "LabelPlacer$Search" "this$0") ∈ lw_all := lw_g (lw_at lw_m7 22 rfl) rfl
theorem q1552 : (Jvm.Cond.superclass "LabelPlacer$Search" "java/lang/Object") ∈ lw_all := lw_g (lw_at lw_m7 23 rfl) rfl
theorem q1555 : (Jvm.Cond.instanceMethod ({ cls := "LabelPlacer$Search", name := "search", desc := "(II)V" } : Jvm.MethodName)) ∈ lw_all := lw_g (lw_at lw_m7 26 rfl) rfl
theorem q1556 : (Jvm.Cond.selects "LabelPlacer$Search" ({ cls := "LabelPlacer$Search", name := "search", desc := "(II)V" } : Jvm.MethodName) ({ cls := "LabelPlacer$Search", name := "search", desc := "(II)V" } : Jvm.MethodName)) ∈ lw_all := lw_g (lw_at lw_m7 27 rfl) rfl
theorem q1557 : (Jvm.Cond.codeWith ({ cls := "LabelPlacer$Search", name := "search", desc := "(II)V" } : Jvm.MethodName) prog_11_method_5_code (6 : Nat) (Option.none : Option Jvm.ClassFile.FieldType) [((72 : Nat), (86 : Nat), (106 : Nat), (0 : Nat)), ((106 : Nat), (108 : Nat), (106 : Nat), (0 : Nat))]) ∈ lw_all := lw_g (lw_at lw_m7 28 rfl) rfl
theorem q1558 : (Jvm.Cond.methodLink "LabelPlacer$Search" (63 : Nat) ({ cls := "java/lang/Math", name := "max", desc := "(II)I" } : Jvm.MethodName)) ∈ lw_all := lw_g (lw_at lw_m7 29 rfl) rfl
theorem q1559 : (Jvm.Cond.methodLink "LabelPlacer$Search" (69 : Nat) ({ cls := "LabelPlacer$Search", name := "rest", desc := "(I)I" } : Jvm.MethodName)) ∈ lw_all := lw_g (lw_at lw_m7 30 rfl) rfl
theorem q1560 : (Jvm.Cond.privateMethod ({ cls := "LabelPlacer$Search", name := "rest", desc := "(I)I" } : Jvm.MethodName)) ∈ lw_tbl := lw_at lw_m7 31 rfl
theorem q1561 : (Jvm.Cond.instanceMethod ({ cls := "LabelPlacer$Search", name := "rest", desc := "(I)I" } : Jvm.MethodName)) ∈ lw_all := lw_g (lw_at lw_m7 32 rfl) rfl
theorem q1562 : (Jvm.Cond.code ({ cls := "LabelPlacer$Search", name := "rest", desc := "(I)I" } : Jvm.MethodName) prog_11_method_4_code (4 : Nat) (Option.some Jvm.ClassFile.FieldType.int)) ∈ lw_all := lw_g (lw_at lw_m7 33 rfl) rfl
theorem q1563 : (Jvm.Cond.methodLink "LabelPlacer$Search" (57 : Nat) ({ cls := "LabelPlacer$Search", name := "priority", desc := "(I)I" } : Jvm.MethodName)) ∈ lw_all := lw_g (lw_at lw_m7 34 rfl) rfl
theorem q1564 : (Jvm.Cond.privateMethod ({ cls := "LabelPlacer$Search", name := "priority", desc := "(I)I" } : Jvm.MethodName)) ∈ lw_tbl := lw_at lw_m7 35 rfl
theorem q1565 : (Jvm.Cond.instanceMethod ({ cls := "LabelPlacer$Search", name := "priority", desc := "(I)I" } : Jvm.MethodName)) ∈ lw_all := lw_g (lw_at lw_m7 36 rfl) rfl
theorem q1566 : (Jvm.Cond.code ({ cls := "LabelPlacer$Search", name := "priority", desc := "(I)I" } : Jvm.MethodName) prog_11_method_2_code (2 : Nat) (Option.some Jvm.ClassFile.FieldType.int)) ∈ lw_all := lw_g (lw_at lw_m7 37 rfl) rfl
theorem q1567 : (Jvm.Cond.methodLink "LabelPlacer$Search" (39 : Nat) ({ cls := "java/util/ArrayList", name := "get", desc := "(I)Ljava/lang/Object;" } : Jvm.MethodName)) ∈ lw_all := lw_g (lw_at lw_m7 38 rfl) rfl
theorem q1568 : (Jvm.Cond.classLink "LabelPlacer$Search" (43 : Nat) "LabelPlacer$Point") ∈ lw_all := lw_g (lw_at lw_m7 39 rfl) rfl
theorem q1569 : (Jvm.Cond.methodLink "LabelPlacer$Search" (72 : Nat) ({ cls := "LabelPlacer$Search", name := "isOpen", desc := "(LLabelPlacer$Box;)Z" } : Jvm.MethodName)) ∈ lw_all := lw_g (lw_at lw_m7 40 rfl) rfl
theorem q1570 : (Jvm.Cond.privateMethod ({ cls := "LabelPlacer$Search", name := "isOpen", desc := "(LLabelPlacer$Box;)Z" } : Jvm.MethodName)) ∈ lw_tbl := lw_at lw_m7 41 rfl
theorem q1571 : (Jvm.Cond.instanceMethod ({ cls := "LabelPlacer$Search", name := "isOpen", desc := "(LLabelPlacer$Box;)Z" } : Jvm.MethodName)) ∈ lw_all := lw_g (lw_at lw_m7 42 rfl) rfl
theorem q1572 : (Jvm.Cond.code ({ cls := "LabelPlacer$Search", name := "isOpen", desc := "(LLabelPlacer$Box;)Z" } : Jvm.MethodName) prog_11_method_3_code (4 : Nat) (Option.some Jvm.ClassFile.FieldType.boolean)) ∈ lw_all := lw_g (lw_at lw_m7 43 rfl) rfl
theorem q1573 : (Jvm.Cond.methodLink "LabelPlacer$Search" (49 : Nat) ({ cls := "java/util/ArrayList", name := "size", desc := "()I" } : Jvm.MethodName)) ∈ lw_all := lw_g (lw_at lw_m7 44 rfl) rfl
theorem q1574 : (Jvm.Cond.methodLink "LabelPlacer$Search" (53 : Nat) ({ cls := "LabelPlacer$Box", name := "meets", desc := "(LLabelPlacer$Box;)Z" } : Jvm.MethodName)) ∈ lw_all := lw_g (lw_at lw_m7 45 rfl) rfl
theorem q1575 : (Jvm.Cond.methodLink "LabelPlacer$Search" (75 : Nat) ({ cls := "java/util/ArrayList", name := "add", desc := "(Ljava/lang/Object;)Z" } : Jvm.MethodName)) ∈ lw_all := lw_g (lw_at lw_m7 46 rfl) rfl
theorem q1576 : (Jvm.Cond.methodLink "LabelPlacer$Search" (79 : Nat) ({ cls := "LabelPlacer$Search", name := "search", desc := "(II)V" } : Jvm.MethodName)) ∈ lw_all := lw_g (lw_at lw_m7 47 rfl) rfl
theorem q1577 : (Jvm.Cond.methodLink "LabelPlacer$Search" (83 : Nat) ({ cls := "java/util/ArrayList", name := "remove", desc := "(I)Ljava/lang/Object;" } : Jvm.MethodName)) ∈ lw_all := lw_g (lw_at lw_m7 48 rfl) rfl
theorem q2472 : (Jvm.Cond.castable "LabelPlacer$Search" "java/lang/Object") ∈ lw_tbl := lw_at lw_m10 223 rfl
theorem in_X6 : ∀ w ∈ wsX60, w ∈ lw_all := lw_in wsX60 [1542, 1544, 1546, 1548, 1550] (by decide +kernel) (by decide +kernel)

/-! LabelPlacer$Leader -/
set_option maxRecDepth 100000
def RX7 : String := "LabelPlacer$Leader"
def TX7 : u_T := fun k => match k with
  | 0 => ("LabelPlacer$Leader", "point", "I", true)
  | 1 => ("LabelPlacer$Leader", "slot", "I", true)
  | 2 => ("LabelPlacer$Leader", "bend", "I", true)
  | _ => ("LabelPlacer$Leader", "length", "I", true)
def tyX7 : Nat → FieldType := fun k => match k with
  | 0 => .int
  | 1 => .int
  | 2 => .int
  | _ => .int
abbrev wsX70 : List Cond := u_ws RX7 TX7 4
theorem nmX7 : ∀ a, a < 4 → ∀ b, b < 4 → a ≠ b → (TX7 a).2.1 ≠ (TX7 b).2.1 := by decide +kernel
theorem tyX7_ok : ∀ k, k < 4 → parseFieldDescriptor (TX7 k).2.2.1 = some (tyX7 k) := by decide +kernel
abbrev cX7_init : ByteArray := prog_8_method_1_code
def yX7_init : MethodName := ⟨RX7, "<init>", "(IIII)V"⟩
def dkwX7_init_1 : List UInt8 := [181, 0, 19, 177]
abbrev dktX7_init_1 : List UInt8 := dkwX7_init_1 ++ []
def dkwX7_init_0 : List UInt8 := [42, 183, 0, 1, 42, 27, 181, 0, 7, 42, 28, 181, 0, 13, 42, 29, 181, 0, 16, 42, 21, 4]
abbrev dktX7_init_0 : List UInt8 := dkwX7_init_0 ++ dktX7_init_1
theorem dksX7_init_0 : cX7_init.data.toList.drop 0 = dktX7_init_0 := by decide +kernel
theorem dksX7_init_1 : cX7_init.data.toList.drop 22 = dktX7_init_1 := dk_seg dksX7_init_0 22 rfl rfl
theorem dX7_init_0 : decode cX7_init 0 = .ok (.aload_n 0, 1) := dk_42 (dk_at dksX7_init_0 0 rfl rfl)
theorem dX7_init_1 : decode cX7_init 1 = .ok (.invokespecial 1, 3) := dk_183 0 1 (dk_at dksX7_init_0 1 rfl rfl)
theorem dX7_init_4 : decode cX7_init 4 = .ok (.aload_n 0, 1) := dk_42 (dk_at dksX7_init_0 4 rfl rfl)
theorem dX7_init_5 : decode cX7_init 5 = .ok (.iload_n 1, 1) := dk_27 (dk_at dksX7_init_0 5 rfl rfl)
theorem dX7_init_6 : decode cX7_init 6 = .ok (.putfield 7, 3) := dk_181 0 7 (dk_at dksX7_init_0 6 rfl rfl)
theorem dX7_init_9 : decode cX7_init 9 = .ok (.aload_n 0, 1) := dk_42 (dk_at dksX7_init_0 9 rfl rfl)
theorem dX7_init_10 : decode cX7_init 10 = .ok (.iload_n 2, 1) := dk_28 (dk_at dksX7_init_0 10 rfl rfl)
theorem dX7_init_11 : decode cX7_init 11 = .ok (.putfield 13, 3) := dk_181 0 13 (dk_at dksX7_init_0 11 rfl rfl)
theorem dX7_init_14 : decode cX7_init 14 = .ok (.aload_n 0, 1) := dk_42 (dk_at dksX7_init_0 14 rfl rfl)
theorem dX7_init_15 : decode cX7_init 15 = .ok (.iload_n 3, 1) := dk_29 (dk_at dksX7_init_0 15 rfl rfl)
theorem dX7_init_16 : decode cX7_init 16 = .ok (.putfield 16, 3) := dk_181 0 16 (dk_at dksX7_init_0 16 rfl rfl)
theorem dX7_init_19 : decode cX7_init 19 = .ok (.aload_n 0, 1) := dk_42 (dk_at dksX7_init_0 19 rfl rfl)
theorem dX7_init_20 : decode cX7_init 20 = .ok (.iload 4, 2) := dk_21 4 (dk_at dksX7_init_0 20 rfl rfl)
theorem dX7_init_22 : decode cX7_init 22 = .ok (.putfield 19, 3) := dk_181 0 19 (dk_at dksX7_init_1 0 rfl rfl)
theorem dX7_init_25 : decode cX7_init 25 = .ok (.return_, 1) := dk_177 (dk_at dksX7_init_1 3 rfl rfl)
theorem q132 : (Jvm.Cond.initialized "LabelPlacer$Leader") ∈ lw_all := lw_g (lw_at lw_m1 43 rfl) rfl
theorem q364 : (Jvm.Cond.selects "LabelPlacer$Leader" ({ cls := "java/lang/Object", name := "getClass", desc := "()Ljava/lang/Class;" } : Jvm.MethodName) ({ cls := "java/lang/Object", name := "getClass", desc := "()Ljava/lang/Class;" } : Jvm.MethodName)) ∈ lw_all := lw_g (lw_at lw_m2 35 rfl) rfl
theorem q527 : (Jvm.Cond.selects "LabelPlacer$Leader" ({ cls := "java/lang/Object", name := "hashCode", desc := "()I" } : Jvm.MethodName) ({ cls := "java/lang/Object", name := "hashCode", desc := "()I" } : Jvm.MethodName)) ∈ lw_all := lw_g (lw_at lw_m2 198 rfl) rfl
theorem q962 : (Jvm.Cond.selects "LabelPlacer$Leader" ({ cls := "java/lang/Object", name := "equals", desc := "(Ljava/lang/Object;)Z" } : Jvm.MethodName) ({ cls := "java/lang/Object", name := "equals", desc := "(Ljava/lang/Object;)Z" } : Jvm.MethodName)) ∈ lw_all := lw_g (lw_at lw_m4 153 rfl) rfl
theorem q1591 : (Jvm.Cond.instantiable "LabelPlacer$Leader" (4 : Nat)) ∈ lw_all := lw_g (lw_at lw_m7 62 rfl) rfl
theorem q1596 : (Jvm.Cond.instanceMethod ({ cls := "LabelPlacer$Leader", name := "<init>", desc := "(IIII)V" } : Jvm.MethodName)) ∈ lw_all := lw_g (lw_at lw_m7 67 rfl) rfl
theorem q1597 : (Jvm.Cond.code ({ cls := "LabelPlacer$Leader", name := "<init>", desc := "(IIII)V" } : Jvm.MethodName) prog_8_method_1_code (5 : Nat) (Option.none : Option Jvm.ClassFile.FieldType)) ∈ lw_all := lw_g (lw_at lw_m7 68 rfl) rfl
theorem q1598 : (Jvm.Cond.methodLink "LabelPlacer$Leader" (1 : Nat) ({ cls := "java/lang/Object", name := "<init>", desc := "()V" } : Jvm.MethodName)) ∈ lw_all := lw_g (lw_at lw_m7 69 rfl) rfl
theorem q1599 : (Jvm.Cond.fieldLink "LabelPlacer$Leader" (7 : Nat) "LabelPlacer$Leader" "point" "I") ∈ lw_all := lw_g (lw_at lw_m7 70 rfl) rfl
theorem q1601 : (Jvm.Cond.fieldLink "LabelPlacer$Leader" (13 : Nat) "LabelPlacer$Leader" "slot" "I") ∈ lw_all := lw_g (lw_at lw_m7 72 rfl) rfl
theorem q1603 : (Jvm.Cond.fieldLink "LabelPlacer$Leader" (16 : Nat) "LabelPlacer$Leader" "bend" "I") ∈ lw_all := lw_g (lw_at lw_m7 74 rfl) rfl
theorem q1605 : (Jvm.Cond.fieldLink "LabelPlacer$Leader" (19 : Nat) "LabelPlacer$Leader" "length" "I") ∈ lw_all := lw_g (lw_at lw_m7 76 rfl) rfl
theorem q1607 : (Jvm.Cond.laysFinal "LabelPlacer$Leader" "LabelPlacer$Leader" "point" "I") ∈ lw_all := lw_g (lw_at lw_m7 78 rfl) rfl
theorem q1608 : (Jvm.Cond.soleField "LabelPlacer$Leader" "point") ∈ lw_all := lw_g (lw_at lw_m7 79 rfl) rfl
theorem q1609 : (Jvm.Cond.laysFinal "LabelPlacer$Leader" "LabelPlacer$Leader" "slot" "I") ∈ lw_all := lw_g (lw_at lw_m7 80 rfl) rfl
theorem q1610 : (Jvm.Cond.soleField "LabelPlacer$Leader" "slot") ∈ lw_all := lw_g (lw_at lw_m7 81 rfl) rfl
theorem q1611 : (Jvm.Cond.laysFinal "LabelPlacer$Leader" "LabelPlacer$Leader" "bend" "I") ∈ lw_all := lw_g (lw_at lw_m7 82 rfl) rfl
theorem q1612 : (Jvm.Cond.soleField "LabelPlacer$Leader" "bend") ∈ lw_all := lw_g (lw_at lw_m7 83 rfl) rfl
theorem q1613 : (Jvm.Cond.laysFinal "LabelPlacer$Leader" "LabelPlacer$Leader" "length" "I") ∈ lw_all := lw_g (lw_at lw_m7 84 rfl) rfl
theorem q1614 : (Jvm.Cond.soleField "LabelPlacer$Leader" "length") ∈ lw_all := lw_g (lw_at lw_m7 85 rfl) rfl
theorem q1615 : (Jvm.Cond.superclass "LabelPlacer$Leader" "java/lang/Object") ∈ lw_all := lw_g (lw_at lw_m7 86 rfl) rfl
theorem q2473 : (Jvm.Cond.castable "LabelPlacer$Leader" "java/lang/Object") ∈ lw_tbl := lw_at lw_m10 224 rfl
theorem in_X7 : ∀ w ∈ wsX70, w ∈ lw_all := lw_in wsX70 [1607, 1609, 1611, 1613] (by decide +kernel) (by decide +kernel)

/-! LabelPlacer$CommandReader -/
set_option maxRecDepth 100000
def RX8 : String := "LabelPlacer$CommandReader"
def TX8 : u_T := fun k => match k with
  | 0 => ("LabelPlacer$CommandReader", "at", "I", false)
  | 1 => ("LabelPlacer$CommandReader", "command", "LLabelPlacer$Command;", false)
  | 2 => ("LabelPlacer$CommandReader", "numbers", "[I", false)
  | _ => ("LabelPlacer$CommandReader", "this$0", "LLabelPlacer;", true)
def tyX8 : Nat → FieldType := fun k => match k with
  | 0 => .int
  | 1 => .object "LabelPlacer$Command"
  | 2 => .array .int
  | _ => .object "LabelPlacer"
abbrev wsX80 : List Cond := u_ws RX8 TX8 4
theorem nmX8 : ∀ a, a < 4 → ∀ b, b < 4 → a ≠ b → (TX8 a).2.1 ≠ (TX8 b).2.1 := by decide +kernel
theorem tyX8_ok : ∀ k, k < 4 → parseFieldDescriptor (TX8 k).2.2.1 = some (tyX8 k) := by decide +kernel
abbrev cX8_init : ByteArray := prog_6_method_1_code
def yX8_init : MethodName := ⟨RX8, "<init>", "(LLabelPlacer;)V"⟩
def dkwX8_init_0 : List UInt8 := [42, 43, 181, 0, 3, 42, 183, 0, 9, 177]
abbrev dktX8_init_0 : List UInt8 := dkwX8_init_0 ++ []
theorem dksX8_init_0 : cX8_init.data.toList.drop 0 = dktX8_init_0 := by decide +kernel
theorem dX8_init_0 : decode cX8_init 0 = .ok (.aload_n 0, 1) := dk_42 (dk_at dksX8_init_0 0 rfl rfl)
theorem dX8_init_1 : decode cX8_init 1 = .ok (.aload_n 1, 1) := dk_43 (dk_at dksX8_init_0 1 rfl rfl)
theorem dX8_init_2 : decode cX8_init 2 = .ok (.putfield 3, 3) := dk_181 0 3 (dk_at dksX8_init_0 2 rfl rfl)
theorem dX8_init_5 : decode cX8_init 5 = .ok (.aload_n 0, 1) := dk_42 (dk_at dksX8_init_0 5 rfl rfl)
theorem dX8_init_6 : decode cX8_init 6 = .ok (.invokespecial 9, 3) := dk_183 0 9 (dk_at dksX8_init_0 6 rfl rfl)
theorem dX8_init_9 : decode cX8_init 9 = .ok (.return_, 1) := dk_177 (dk_at dksX8_init_0 9 rfl rfl)
abbrev cX8_read : ByteArray := prog_6_method_7_code
def yX8_read : MethodName := ⟨RX8, "read", "()V"⟩
def dkwX8_read_6 : List UInt8 := [167, 0, 4, 3, 182, 0, 61, 177]
abbrev dktX8_read_6 : List UInt8 := dkwX8_read_6 ++ []
def dkwX8_read_5 : List UInt8 := [167, 255, 234, 42, 42, 180, 0, 15, 42, 180, 0, 3, 180, 0, 19, 180, 0, 23, 160, 0, 7, 4]
abbrev dktX8_read_5 : List UInt8 := dkwX8_read_5 ++ dktX8_read_6
def dkwX8_read_4 : List UInt8 := [61, 28, 42, 180, 0, 76, 190, 162, 0, 19, 42, 180, 0, 76, 28, 42, 182, 0, 79, 79, 132, 2, 1]
abbrev dktX8_read_4 : List UInt8 := dkwX8_read_4 ++ dktX8_read_5
def dkwX8_read_3 : List UInt8 := [183, 0, 38, 191, 42, 182, 0, 55, 42, 42, 180, 0, 45, 185, 0, 73, 1, 0, 188, 10, 181, 0, 76, 3]
abbrev dktX8_read_3 : List UInt8 := dkwX8_read_3 ++ dktX8_read_4
def dkwX8_read_2 : List UInt8 := [180, 0, 15, 182, 0, 65, 184, 0, 69, 181, 0, 45, 42, 180, 0, 45, 199, 0, 12, 187, 0, 36, 89, 27]
abbrev dktX8_read_2 : List UInt8 := dkwX8_read_2 ++ dktX8_read_3
def dkwX8_read_1 : List UInt8 := [89, 180, 0, 15, 4, 96, 181, 0, 15, 167, 255, 232, 42, 42, 180, 0, 3, 180, 0, 19, 27, 42]
abbrev dktX8_read_1 : List UInt8 := dkwX8_read_1 ++ dktX8_read_2
def dkwX8_read_0 : List UInt8 := [42, 182, 0, 55, 42, 180, 0, 15, 60, 42, 182, 0, 32, 16, 97, 16, 122, 184, 0, 41, 153, 0, 16, 42]
abbrev dktX8_read_0 : List UInt8 := dkwX8_read_0 ++ dktX8_read_1
theorem dksX8_read_0 : cX8_read.data.toList.drop 0 = dktX8_read_0 := by decide +kernel
theorem dksX8_read_1 : cX8_read.data.toList.drop 24 = dktX8_read_1 := dk_seg dksX8_read_0 24 rfl rfl
theorem dksX8_read_2 : cX8_read.data.toList.drop 46 = dktX8_read_2 := dk_seg dksX8_read_1 22 rfl rfl
theorem dksX8_read_3 : cX8_read.data.toList.drop 70 = dktX8_read_3 := dk_seg dksX8_read_2 24 rfl rfl
theorem dksX8_read_4 : cX8_read.data.toList.drop 94 = dktX8_read_4 := dk_seg dksX8_read_3 24 rfl rfl
theorem dksX8_read_5 : cX8_read.data.toList.drop 117 = dktX8_read_5 := dk_seg dksX8_read_4 23 rfl rfl
theorem dksX8_read_6 : cX8_read.data.toList.drop 139 = dktX8_read_6 := dk_seg dksX8_read_5 22 rfl rfl
theorem dX8_read_0 : decode cX8_read 0 = .ok (.aload_n 0, 1) := dk_42 (dk_at dksX8_read_0 0 rfl rfl)
theorem dX8_read_1 : decode cX8_read 1 = .ok (.invokevirtual 55, 3) := dk_182 0 55 (dk_at dksX8_read_0 1 rfl rfl)
theorem dX8_read_4 : decode cX8_read 4 = .ok (.aload_n 0, 1) := dk_42 (dk_at dksX8_read_0 4 rfl rfl)
theorem dX8_read_5 : decode cX8_read 5 = .ok (.getfield 15, 3) := dk_180 0 15 (dk_at dksX8_read_0 5 rfl rfl)
theorem dX8_read_8 : decode cX8_read 8 = .ok (.istore_n 1, 1) := dk_60 (dk_at dksX8_read_0 8 rfl rfl)
theorem dX8_read_9 : decode cX8_read 9 = .ok (.aload_n 0, 1) := dk_42 (dk_at dksX8_read_0 9 rfl rfl)
theorem dX8_read_10 : decode cX8_read 10 = .ok (.invokevirtual 32, 3) := dk_182 0 32 (dk_at dksX8_read_0 10 rfl rfl)
theorem dX8_read_13 : decode cX8_read 13 = .ok (.bipush 97, 2) := dk_16 97 (dk_at dksX8_read_0 13 rfl rfl)
theorem dX8_read_15 : decode cX8_read 15 = .ok (.bipush 122, 2) := dk_16 122 (dk_at dksX8_read_0 15 rfl rfl)
theorem dX8_read_17 : decode cX8_read 17 = .ok (.invokestatic 41, 3) := dk_184 0 41 (dk_at dksX8_read_0 17 rfl rfl)
theorem dX8_read_20 : decode cX8_read 20 = .ok (.ifCond .eq 16, 3) := dk_153 0 16 (dk_at dksX8_read_0 20 rfl rfl)
theorem dX8_read_23 : decode cX8_read 23 = .ok (.aload_n 0, 1) := dk_42 (dk_at dksX8_read_0 23 rfl rfl)
theorem dX8_read_24 : decode cX8_read 24 = .ok (.dup, 1) := dk_89 (dk_at dksX8_read_1 0 rfl rfl)
theorem dX8_read_25 : decode cX8_read 25 = .ok (.getfield 15, 3) := dk_180 0 15 (dk_at dksX8_read_1 1 rfl rfl)
theorem dX8_read_28 : decode cX8_read 28 = .ok (.iconst 1, 1) := dk_4 (dk_at dksX8_read_1 4 rfl rfl)
theorem dX8_read_29 : decode cX8_read 29 = .ok (.iadd, 1) := dk_96 (dk_at dksX8_read_1 5 rfl rfl)
theorem dX8_read_30 : decode cX8_read 30 = .ok (.putfield 15, 3) := dk_181 0 15 (dk_at dksX8_read_1 6 rfl rfl)
theorem dX8_read_33 : decode cX8_read 33 = .ok (.goto (-24), 3) := dk_167 255 232 (dk_at dksX8_read_1 9 rfl rfl)
theorem dX8_read_36 : decode cX8_read 36 = .ok (.aload_n 0, 1) := dk_42 (dk_at dksX8_read_1 12 rfl rfl)
theorem dX8_read_37 : decode cX8_read 37 = .ok (.aload_n 0, 1) := dk_42 (dk_at dksX8_read_1 13 rfl rfl)
theorem dX8_read_38 : decode cX8_read 38 = .ok (.getfield 3, 3) := dk_180 0 3 (dk_at dksX8_read_1 14 rfl rfl)
theorem dX8_read_41 : decode cX8_read 41 = .ok (.getfield 19, 3) := dk_180 0 19 (dk_at dksX8_read_1 17 rfl rfl)
theorem dX8_read_44 : decode cX8_read 44 = .ok (.iload_n 1, 1) := dk_27 (dk_at dksX8_read_1 20 rfl rfl)
theorem dX8_read_45 : decode cX8_read 45 = .ok (.aload_n 0, 1) := dk_42 (dk_at dksX8_read_1 21 rfl rfl)
theorem dX8_read_46 : decode cX8_read 46 = .ok (.getfield 15, 3) := dk_180 0 15 (dk_at dksX8_read_2 0 rfl rfl)
theorem dX8_read_49 : decode cX8_read 49 = .ok (.invokevirtual 65, 3) := dk_182 0 65 (dk_at dksX8_read_2 3 rfl rfl)
theorem dX8_read_52 : decode cX8_read 52 = .ok (.invokestatic 69, 3) := dk_184 0 69 (dk_at dksX8_read_2 6 rfl rfl)
theorem dX8_read_55 : decode cX8_read 55 = .ok (.putfield 45, 3) := dk_181 0 45 (dk_at dksX8_read_2 9 rfl rfl)
theorem dX8_read_58 : decode cX8_read 58 = .ok (.aload_n 0, 1) := dk_42 (dk_at dksX8_read_2 12 rfl rfl)
theorem dX8_read_59 : decode cX8_read 59 = .ok (.getfield 45, 3) := dk_180 0 45 (dk_at dksX8_read_2 13 rfl rfl)
theorem dX8_read_62 : decode cX8_read 62 = .ok (.ifnonnull 12, 3) := dk_199 0 12 (dk_at dksX8_read_2 16 rfl rfl)
theorem dX8_read_65 : decode cX8_read 65 = .ok (.new 36, 3) := dk_187 0 36 (dk_at dksX8_read_2 19 rfl rfl)
theorem dX8_read_68 : decode cX8_read 68 = .ok (.dup, 1) := dk_89 (dk_at dksX8_read_2 22 rfl rfl)
theorem dX8_read_69 : decode cX8_read 69 = .ok (.iload_n 1, 1) := dk_27 (dk_at dksX8_read_2 23 rfl rfl)
theorem dX8_read_70 : decode cX8_read 70 = .ok (.invokespecial 38, 3) := dk_183 0 38 (dk_at dksX8_read_3 0 rfl rfl)
theorem dX8_read_73 : decode cX8_read 73 = .ok (.athrow, 1) := dk_191 (dk_at dksX8_read_3 3 rfl rfl)
theorem dX8_read_74 : decode cX8_read 74 = .ok (.aload_n 0, 1) := dk_42 (dk_at dksX8_read_3 4 rfl rfl)
theorem dX8_read_75 : decode cX8_read 75 = .ok (.invokevirtual 55, 3) := dk_182 0 55 (dk_at dksX8_read_3 5 rfl rfl)
theorem dX8_read_78 : decode cX8_read 78 = .ok (.aload_n 0, 1) := dk_42 (dk_at dksX8_read_3 8 rfl rfl)
theorem dX8_read_79 : decode cX8_read 79 = .ok (.aload_n 0, 1) := dk_42 (dk_at dksX8_read_3 9 rfl rfl)
theorem dX8_read_80 : decode cX8_read 80 = .ok (.getfield 45, 3) := dk_180 0 45 (dk_at dksX8_read_3 10 rfl rfl)
theorem dX8_read_83 : decode cX8_read 83 = .ok (.invokeinterface 73 1, 5) := by decide +kernel
theorem dX8_read_88 : decode cX8_read 88 = .ok (.newarray .int, 2) := dk_188_10 (dk_at dksX8_read_3 18 rfl rfl)
theorem dX8_read_90 : decode cX8_read 90 = .ok (.putfield 76, 3) := dk_181 0 76 (dk_at dksX8_read_3 20 rfl rfl)
theorem dX8_read_93 : decode cX8_read 93 = .ok (.iconst 0, 1) := dk_3 (dk_at dksX8_read_3 23 rfl rfl)
theorem dX8_read_94 : decode cX8_read 94 = .ok (.istore_n 2, 1) := dk_61 (dk_at dksX8_read_4 0 rfl rfl)
theorem dX8_read_95 : decode cX8_read 95 = .ok (.iload_n 2, 1) := dk_28 (dk_at dksX8_read_4 1 rfl rfl)
theorem dX8_read_96 : decode cX8_read 96 = .ok (.aload_n 0, 1) := dk_42 (dk_at dksX8_read_4 2 rfl rfl)
theorem dX8_read_97 : decode cX8_read 97 = .ok (.getfield 76, 3) := dk_180 0 76 (dk_at dksX8_read_4 3 rfl rfl)
theorem dX8_read_100 : decode cX8_read 100 = .ok (.arraylength, 1) := dk_190 (dk_at dksX8_read_4 6 rfl rfl)
theorem dX8_read_101 : decode cX8_read 101 = .ok (.if_icmp .ge 19, 3) := dk_162 0 19 (dk_at dksX8_read_4 7 rfl rfl)
theorem dX8_read_104 : decode cX8_read 104 = .ok (.aload_n 0, 1) := dk_42 (dk_at dksX8_read_4 10 rfl rfl)
theorem dX8_read_105 : decode cX8_read 105 = .ok (.getfield 76, 3) := dk_180 0 76 (dk_at dksX8_read_4 11 rfl rfl)
theorem dX8_read_108 : decode cX8_read 108 = .ok (.iload_n 2, 1) := dk_28 (dk_at dksX8_read_4 14 rfl rfl)
theorem dX8_read_109 : decode cX8_read 109 = .ok (.aload_n 0, 1) := dk_42 (dk_at dksX8_read_4 15 rfl rfl)
theorem dX8_read_110 : decode cX8_read 110 = .ok (.invokevirtual 79, 3) := dk_182 0 79 (dk_at dksX8_read_4 16 rfl rfl)
theorem dX8_read_113 : decode cX8_read 113 = .ok (.iastore, 1) := dk_79 (dk_at dksX8_read_4 19 rfl rfl)
theorem dX8_read_114 : decode cX8_read 114 = .ok (.iinc 2 1, 3) := dk_132 2 1 (dk_at dksX8_read_4 20 rfl rfl)
theorem dX8_read_117 : decode cX8_read 117 = .ok (.goto (-22), 3) := dk_167 255 234 (dk_at dksX8_read_5 0 rfl rfl)
theorem dX8_read_120 : decode cX8_read 120 = .ok (.aload_n 0, 1) := dk_42 (dk_at dksX8_read_5 3 rfl rfl)
theorem dX8_read_121 : decode cX8_read 121 = .ok (.aload_n 0, 1) := dk_42 (dk_at dksX8_read_5 4 rfl rfl)
theorem dX8_read_122 : decode cX8_read 122 = .ok (.getfield 15, 3) := dk_180 0 15 (dk_at dksX8_read_5 5 rfl rfl)
theorem dX8_read_125 : decode cX8_read 125 = .ok (.aload_n 0, 1) := dk_42 (dk_at dksX8_read_5 8 rfl rfl)
theorem dX8_read_126 : decode cX8_read 126 = .ok (.getfield 3, 3) := dk_180 0 3 (dk_at dksX8_read_5 9 rfl rfl)
theorem dX8_read_129 : decode cX8_read 129 = .ok (.getfield 19, 3) := dk_180 0 19 (dk_at dksX8_read_5 12 rfl rfl)
theorem dX8_read_132 : decode cX8_read 132 = .ok (.getfield 23, 3) := dk_180 0 23 (dk_at dksX8_read_5 15 rfl rfl)
theorem dX8_read_135 : decode cX8_read 135 = .ok (.if_icmp .ne 7, 3) := dk_160 0 7 (dk_at dksX8_read_5 18 rfl rfl)
theorem dX8_read_138 : decode cX8_read 138 = .ok (.iconst 1, 1) := dk_4 (dk_at dksX8_read_5 21 rfl rfl)
theorem dX8_read_139 : decode cX8_read 139 = .ok (.goto 4, 3) := dk_167 0 4 (dk_at dksX8_read_6 0 rfl rfl)
theorem dX8_read_142 : decode cX8_read 142 = .ok (.iconst 0, 1) := dk_3 (dk_at dksX8_read_6 3 rfl rfl)
theorem dX8_read_143 : decode cX8_read 143 = .ok (.invokevirtual 61, 3) := dk_182 0 61 (dk_at dksX8_read_6 4 rfl rfl)
theorem dX8_read_146 : decode cX8_read 146 = .ok (.return_, 1) := dk_177 (dk_at dksX8_read_6 7 rfl rfl)
abbrev cX8_blanks : ByteArray := prog_6_method_3_code
def yX8_blanks : MethodName := ⟨RX8, "blanks", "()V"⟩
def dkwX8_blanks_0 : List UInt8 := [42, 182, 0, 32, 16, 32, 160, 0, 16, 42, 89, 180, 0, 15, 4, 96, 181, 0, 15, 167, 255, 237, 177]
abbrev dktX8_blanks_0 : List UInt8 := dkwX8_blanks_0 ++ []
theorem dksX8_blanks_0 : cX8_blanks.data.toList.drop 0 = dktX8_blanks_0 := by decide +kernel
theorem dX8_blanks_0 : decode cX8_blanks 0 = .ok (.aload_n 0, 1) := dk_42 (dk_at dksX8_blanks_0 0 rfl rfl)
theorem dX8_blanks_1 : decode cX8_blanks 1 = .ok (.invokevirtual 32, 3) := dk_182 0 32 (dk_at dksX8_blanks_0 1 rfl rfl)
theorem dX8_blanks_4 : decode cX8_blanks 4 = .ok (.bipush 32, 2) := dk_16 32 (dk_at dksX8_blanks_0 4 rfl rfl)
theorem dX8_blanks_6 : decode cX8_blanks 6 = .ok (.if_icmp .ne 16, 3) := dk_160 0 16 (dk_at dksX8_blanks_0 6 rfl rfl)
theorem dX8_blanks_9 : decode cX8_blanks 9 = .ok (.aload_n 0, 1) := dk_42 (dk_at dksX8_blanks_0 9 rfl rfl)
theorem dX8_blanks_10 : decode cX8_blanks 10 = .ok (.dup, 1) := dk_89 (dk_at dksX8_blanks_0 10 rfl rfl)
theorem dX8_blanks_11 : decode cX8_blanks 11 = .ok (.getfield 15, 3) := dk_180 0 15 (dk_at dksX8_blanks_0 11 rfl rfl)
theorem dX8_blanks_14 : decode cX8_blanks 14 = .ok (.iconst 1, 1) := dk_4 (dk_at dksX8_blanks_0 14 rfl rfl)
theorem dX8_blanks_15 : decode cX8_blanks 15 = .ok (.iadd, 1) := dk_96 (dk_at dksX8_blanks_0 15 rfl rfl)
theorem dX8_blanks_16 : decode cX8_blanks 16 = .ok (.putfield 15, 3) := dk_181 0 15 (dk_at dksX8_blanks_0 16 rfl rfl)
theorem dX8_blanks_19 : decode cX8_blanks 19 = .ok (.goto (-19), 3) := dk_167 255 237 (dk_at dksX8_blanks_0 19 rfl rfl)
theorem dX8_blanks_22 : decode cX8_blanks 22 = .ok (.return_, 1) := dk_177 (dk_at dksX8_blanks_0 22 rfl rfl)
abbrev cX8_look : ByteArray := prog_6_method_2_code
def yX8_look : MethodName := ⟨RX8, "look", "()I"⟩
def dkwX8_look_1 : List UInt8 := [42, 180, 0, 15, 182, 0, 28, 167, 0, 4, 2, 172]
abbrev dktX8_look_1 : List UInt8 := dkwX8_look_1 ++ []
def dkwX8_look_0 : List UInt8 := [42, 180, 0, 15, 42, 180, 0, 3, 180, 0, 19, 180, 0, 23, 162, 0, 20, 42, 180, 0, 3, 180, 0, 19]
abbrev dktX8_look_0 : List UInt8 := dkwX8_look_0 ++ dktX8_look_1
theorem dksX8_look_0 : cX8_look.data.toList.drop 0 = dktX8_look_0 := by decide +kernel
theorem dksX8_look_1 : cX8_look.data.toList.drop 24 = dktX8_look_1 := dk_seg dksX8_look_0 24 rfl rfl
theorem dX8_look_0 : decode cX8_look 0 = .ok (.aload_n 0, 1) := dk_42 (dk_at dksX8_look_0 0 rfl rfl)
theorem dX8_look_1 : decode cX8_look 1 = .ok (.getfield 15, 3) := dk_180 0 15 (dk_at dksX8_look_0 1 rfl rfl)
theorem dX8_look_4 : decode cX8_look 4 = .ok (.aload_n 0, 1) := dk_42 (dk_at dksX8_look_0 4 rfl rfl)
theorem dX8_look_5 : decode cX8_look 5 = .ok (.getfield 3, 3) := dk_180 0 3 (dk_at dksX8_look_0 5 rfl rfl)
theorem dX8_look_8 : decode cX8_look 8 = .ok (.getfield 19, 3) := dk_180 0 19 (dk_at dksX8_look_0 8 rfl rfl)
theorem dX8_look_11 : decode cX8_look 11 = .ok (.getfield 23, 3) := dk_180 0 23 (dk_at dksX8_look_0 11 rfl rfl)
theorem dX8_look_14 : decode cX8_look 14 = .ok (.if_icmp .ge 20, 3) := dk_162 0 20 (dk_at dksX8_look_0 14 rfl rfl)
theorem dX8_look_17 : decode cX8_look 17 = .ok (.aload_n 0, 1) := dk_42 (dk_at dksX8_look_0 17 rfl rfl)
theorem dX8_look_18 : decode cX8_look 18 = .ok (.getfield 3, 3) := dk_180 0 3 (dk_at dksX8_look_0 18 rfl rfl)
theorem dX8_look_21 : decode cX8_look 21 = .ok (.getfield 19, 3) := dk_180 0 19 (dk_at dksX8_look_0 21 rfl rfl)
theorem dX8_look_24 : decode cX8_look 24 = .ok (.aload_n 0, 1) := dk_42 (dk_at dksX8_look_1 0 rfl rfl)
theorem dX8_look_25 : decode cX8_look 25 = .ok (.getfield 15, 3) := dk_180 0 15 (dk_at dksX8_look_1 1 rfl rfl)
theorem dX8_look_28 : decode cX8_look 28 = .ok (.invokevirtual 28, 3) := dk_182 0 28 (dk_at dksX8_look_1 4 rfl rfl)
theorem dX8_look_31 : decode cX8_look 31 = .ok (.goto 4, 3) := dk_167 0 4 (dk_at dksX8_look_1 7 rfl rfl)
theorem dX8_look_34 : decode cX8_look 34 = .ok (.iconst (-1), 1) := dk_2 (dk_at dksX8_look_1 10 rfl rfl)
theorem dX8_look_35 : decode cX8_look 35 = .ok (.ireturn, 1) := dk_172 (dk_at dksX8_look_1 11 rfl rfl)
abbrev cX8_number : ByteArray := prog_6_method_6_code
def yX8_number : MethodName := ⟨RX8, "number", "()I"⟩
def dkwX8_number_5 : List UInt8 := [182, 0, 55, 27, 153, 0, 8, 28, 116, 167, 0, 4, 28, 172]
abbrev dktX8_number_5 : List UInt8 := dkwX8_number_5 ++ []
def dkwX8_number_4 : List UInt8 := [132, 3, 1, 167, 255, 218, 42, 42, 182, 0, 58, 154, 0, 7, 4, 167, 0, 4, 3, 182, 0, 61, 42]
abbrev dktX8_number_4 : List UInt8 := dkwX8_number_4 ++ dktX8_number_5
def dkwX8_number_3 : List UInt8 := [16, 10, 28, 104, 42, 182, 0, 32, 96, 16, 48, 100, 61, 42, 89, 180, 0, 15, 4, 96, 181, 0, 15]
abbrev dktX8_number_3 : List UInt8 := dkwX8_number_3 ++ dktX8_number_4
def dkwX8_number_2 : List UInt8 := [42, 182, 0, 58, 182, 0, 61, 3, 61, 3, 62, 29, 6, 162, 0, 39, 42, 182, 0, 58, 153, 0, 32]
abbrev dktX8_number_2 : List UInt8 := dkwX8_number_2 ++ dktX8_number_3
def dkwX8_number_1 : List UInt8 := [167, 0, 4, 3, 60, 27, 153, 0, 17, 42, 89, 180, 0, 15, 4, 96, 181, 0, 15, 42, 182, 0, 55, 42]
abbrev dktX8_number_1 : List UInt8 := dkwX8_number_1 ++ dktX8_number_2
def dkwX8_number_0 : List UInt8 := [42, 180, 0, 45, 185, 0, 49, 1, 0, 153, 0, 16, 42, 182, 0, 32, 16, 45, 160, 0, 7, 4]
abbrev dktX8_number_0 : List UInt8 := dkwX8_number_0 ++ dktX8_number_1
theorem dksX8_number_0 : cX8_number.data.toList.drop 0 = dktX8_number_0 := by decide +kernel
theorem dksX8_number_1 : cX8_number.data.toList.drop 22 = dktX8_number_1 := dk_seg dksX8_number_0 22 rfl rfl
theorem dksX8_number_2 : cX8_number.data.toList.drop 46 = dktX8_number_2 := dk_seg dksX8_number_1 24 rfl rfl
theorem dksX8_number_3 : cX8_number.data.toList.drop 69 = dktX8_number_3 := dk_seg dksX8_number_2 23 rfl rfl
theorem dksX8_number_4 : cX8_number.data.toList.drop 92 = dktX8_number_4 := dk_seg dksX8_number_3 23 rfl rfl
theorem dksX8_number_5 : cX8_number.data.toList.drop 115 = dktX8_number_5 := dk_seg dksX8_number_4 23 rfl rfl
theorem dX8_number_0 : decode cX8_number 0 = .ok (.aload_n 0, 1) := dk_42 (dk_at dksX8_number_0 0 rfl rfl)
theorem dX8_number_1 : decode cX8_number 1 = .ok (.getfield 45, 3) := dk_180 0 45 (dk_at dksX8_number_0 1 rfl rfl)
theorem dX8_number_4 : decode cX8_number 4 = .ok (.invokeinterface 49 1, 5) := by decide +kernel
theorem dX8_number_9 : decode cX8_number 9 = .ok (.ifCond .eq 16, 3) := dk_153 0 16 (dk_at dksX8_number_0 9 rfl rfl)
theorem dX8_number_12 : decode cX8_number 12 = .ok (.aload_n 0, 1) := dk_42 (dk_at dksX8_number_0 12 rfl rfl)
theorem dX8_number_13 : decode cX8_number 13 = .ok (.invokevirtual 32, 3) := dk_182 0 32 (dk_at dksX8_number_0 13 rfl rfl)
theorem dX8_number_16 : decode cX8_number 16 = .ok (.bipush 45, 2) := dk_16 45 (dk_at dksX8_number_0 16 rfl rfl)
theorem dX8_number_18 : decode cX8_number 18 = .ok (.if_icmp .ne 7, 3) := dk_160 0 7 (dk_at dksX8_number_0 18 rfl rfl)
theorem dX8_number_21 : decode cX8_number 21 = .ok (.iconst 1, 1) := dk_4 (dk_at dksX8_number_0 21 rfl rfl)
theorem dX8_number_22 : decode cX8_number 22 = .ok (.goto 4, 3) := dk_167 0 4 (dk_at dksX8_number_1 0 rfl rfl)
theorem dX8_number_25 : decode cX8_number 25 = .ok (.iconst 0, 1) := dk_3 (dk_at dksX8_number_1 3 rfl rfl)
theorem dX8_number_26 : decode cX8_number 26 = .ok (.istore_n 1, 1) := dk_60 (dk_at dksX8_number_1 4 rfl rfl)
theorem dX8_number_27 : decode cX8_number 27 = .ok (.iload_n 1, 1) := dk_27 (dk_at dksX8_number_1 5 rfl rfl)
theorem dX8_number_28 : decode cX8_number 28 = .ok (.ifCond .eq 17, 3) := dk_153 0 17 (dk_at dksX8_number_1 6 rfl rfl)
theorem dX8_number_31 : decode cX8_number 31 = .ok (.aload_n 0, 1) := dk_42 (dk_at dksX8_number_1 9 rfl rfl)
theorem dX8_number_32 : decode cX8_number 32 = .ok (.dup, 1) := dk_89 (dk_at dksX8_number_1 10 rfl rfl)
theorem dX8_number_33 : decode cX8_number 33 = .ok (.getfield 15, 3) := dk_180 0 15 (dk_at dksX8_number_1 11 rfl rfl)
theorem dX8_number_36 : decode cX8_number 36 = .ok (.iconst 1, 1) := dk_4 (dk_at dksX8_number_1 14 rfl rfl)
theorem dX8_number_37 : decode cX8_number 37 = .ok (.iadd, 1) := dk_96 (dk_at dksX8_number_1 15 rfl rfl)
theorem dX8_number_38 : decode cX8_number 38 = .ok (.putfield 15, 3) := dk_181 0 15 (dk_at dksX8_number_1 16 rfl rfl)
theorem dX8_number_41 : decode cX8_number 41 = .ok (.aload_n 0, 1) := dk_42 (dk_at dksX8_number_1 19 rfl rfl)
theorem dX8_number_42 : decode cX8_number 42 = .ok (.invokevirtual 55, 3) := dk_182 0 55 (dk_at dksX8_number_1 20 rfl rfl)
theorem dX8_number_45 : decode cX8_number 45 = .ok (.aload_n 0, 1) := dk_42 (dk_at dksX8_number_1 23 rfl rfl)
theorem dX8_number_46 : decode cX8_number 46 = .ok (.aload_n 0, 1) := dk_42 (dk_at dksX8_number_2 0 rfl rfl)
theorem dX8_number_47 : decode cX8_number 47 = .ok (.invokevirtual 58, 3) := dk_182 0 58 (dk_at dksX8_number_2 1 rfl rfl)
theorem dX8_number_50 : decode cX8_number 50 = .ok (.invokevirtual 61, 3) := dk_182 0 61 (dk_at dksX8_number_2 4 rfl rfl)
theorem dX8_number_53 : decode cX8_number 53 = .ok (.iconst 0, 1) := dk_3 (dk_at dksX8_number_2 7 rfl rfl)
theorem dX8_number_54 : decode cX8_number 54 = .ok (.istore_n 2, 1) := dk_61 (dk_at dksX8_number_2 8 rfl rfl)
theorem dX8_number_55 : decode cX8_number 55 = .ok (.iconst 0, 1) := dk_3 (dk_at dksX8_number_2 9 rfl rfl)
theorem dX8_number_56 : decode cX8_number 56 = .ok (.istore_n 3, 1) := dk_62 (dk_at dksX8_number_2 10 rfl rfl)
theorem dX8_number_57 : decode cX8_number 57 = .ok (.iload_n 3, 1) := dk_29 (dk_at dksX8_number_2 11 rfl rfl)
theorem dX8_number_58 : decode cX8_number 58 = .ok (.iconst 3, 1) := dk_6 (dk_at dksX8_number_2 12 rfl rfl)
theorem dX8_number_59 : decode cX8_number 59 = .ok (.if_icmp .ge 39, 3) := dk_162 0 39 (dk_at dksX8_number_2 13 rfl rfl)
theorem dX8_number_62 : decode cX8_number 62 = .ok (.aload_n 0, 1) := dk_42 (dk_at dksX8_number_2 16 rfl rfl)
theorem dX8_number_63 : decode cX8_number 63 = .ok (.invokevirtual 58, 3) := dk_182 0 58 (dk_at dksX8_number_2 17 rfl rfl)
theorem dX8_number_66 : decode cX8_number 66 = .ok (.ifCond .eq 32, 3) := dk_153 0 32 (dk_at dksX8_number_2 20 rfl rfl)
theorem dX8_number_69 : decode cX8_number 69 = .ok (.bipush 10, 2) := dk_16 10 (dk_at dksX8_number_3 0 rfl rfl)
theorem dX8_number_71 : decode cX8_number 71 = .ok (.iload_n 2, 1) := dk_28 (dk_at dksX8_number_3 2 rfl rfl)
theorem dX8_number_72 : decode cX8_number 72 = .ok (.imul, 1) := dk_104 (dk_at dksX8_number_3 3 rfl rfl)
theorem dX8_number_73 : decode cX8_number 73 = .ok (.aload_n 0, 1) := dk_42 (dk_at dksX8_number_3 4 rfl rfl)
theorem dX8_number_74 : decode cX8_number 74 = .ok (.invokevirtual 32, 3) := dk_182 0 32 (dk_at dksX8_number_3 5 rfl rfl)
theorem dX8_number_77 : decode cX8_number 77 = .ok (.iadd, 1) := dk_96 (dk_at dksX8_number_3 8 rfl rfl)
theorem dX8_number_78 : decode cX8_number 78 = .ok (.bipush 48, 2) := dk_16 48 (dk_at dksX8_number_3 9 rfl rfl)
theorem dX8_number_80 : decode cX8_number 80 = .ok (.isub, 1) := dk_100 (dk_at dksX8_number_3 11 rfl rfl)
theorem dX8_number_81 : decode cX8_number 81 = .ok (.istore_n 2, 1) := dk_61 (dk_at dksX8_number_3 12 rfl rfl)
theorem dX8_number_82 : decode cX8_number 82 = .ok (.aload_n 0, 1) := dk_42 (dk_at dksX8_number_3 13 rfl rfl)
theorem dX8_number_83 : decode cX8_number 83 = .ok (.dup, 1) := dk_89 (dk_at dksX8_number_3 14 rfl rfl)
theorem dX8_number_84 : decode cX8_number 84 = .ok (.getfield 15, 3) := dk_180 0 15 (dk_at dksX8_number_3 15 rfl rfl)
theorem dX8_number_87 : decode cX8_number 87 = .ok (.iconst 1, 1) := dk_4 (dk_at dksX8_number_3 18 rfl rfl)
theorem dX8_number_88 : decode cX8_number 88 = .ok (.iadd, 1) := dk_96 (dk_at dksX8_number_3 19 rfl rfl)
theorem dX8_number_89 : decode cX8_number 89 = .ok (.putfield 15, 3) := dk_181 0 15 (dk_at dksX8_number_3 20 rfl rfl)
theorem dX8_number_92 : decode cX8_number 92 = .ok (.iinc 3 1, 3) := dk_132 3 1 (dk_at dksX8_number_4 0 rfl rfl)
theorem dX8_number_95 : decode cX8_number 95 = .ok (.goto (-38), 3) := dk_167 255 218 (dk_at dksX8_number_4 3 rfl rfl)
theorem dX8_number_98 : decode cX8_number 98 = .ok (.aload_n 0, 1) := dk_42 (dk_at dksX8_number_4 6 rfl rfl)
theorem dX8_number_99 : decode cX8_number 99 = .ok (.aload_n 0, 1) := dk_42 (dk_at dksX8_number_4 7 rfl rfl)
theorem dX8_number_100 : decode cX8_number 100 = .ok (.invokevirtual 58, 3) := dk_182 0 58 (dk_at dksX8_number_4 8 rfl rfl)
theorem dX8_number_103 : decode cX8_number 103 = .ok (.ifCond .ne 7, 3) := dk_154 0 7 (dk_at dksX8_number_4 11 rfl rfl)
theorem dX8_number_106 : decode cX8_number 106 = .ok (.iconst 1, 1) := dk_4 (dk_at dksX8_number_4 14 rfl rfl)
theorem dX8_number_107 : decode cX8_number 107 = .ok (.goto 4, 3) := dk_167 0 4 (dk_at dksX8_number_4 15 rfl rfl)
theorem dX8_number_110 : decode cX8_number 110 = .ok (.iconst 0, 1) := dk_3 (dk_at dksX8_number_4 18 rfl rfl)
theorem dX8_number_111 : decode cX8_number 111 = .ok (.invokevirtual 61, 3) := dk_182 0 61 (dk_at dksX8_number_4 19 rfl rfl)
theorem dX8_number_114 : decode cX8_number 114 = .ok (.aload_n 0, 1) := dk_42 (dk_at dksX8_number_4 22 rfl rfl)
theorem dX8_number_115 : decode cX8_number 115 = .ok (.invokevirtual 55, 3) := dk_182 0 55 (dk_at dksX8_number_5 0 rfl rfl)
theorem dX8_number_118 : decode cX8_number 118 = .ok (.iload_n 1, 1) := dk_27 (dk_at dksX8_number_5 3 rfl rfl)
theorem dX8_number_119 : decode cX8_number 119 = .ok (.ifCond .eq 8, 3) := dk_153 0 8 (dk_at dksX8_number_5 4 rfl rfl)
theorem dX8_number_122 : decode cX8_number 122 = .ok (.iload_n 2, 1) := dk_28 (dk_at dksX8_number_5 7 rfl rfl)
theorem dX8_number_123 : decode cX8_number 123 = .ok (.ineg, 1) := dk_116 (dk_at dksX8_number_5 8 rfl rfl)
theorem dX8_number_124 : decode cX8_number 124 = .ok (.goto 4, 3) := dk_167 0 4 (dk_at dksX8_number_5 9 rfl rfl)
theorem dX8_number_127 : decode cX8_number 127 = .ok (.iload_n 2, 1) := dk_28 (dk_at dksX8_number_5 12 rfl rfl)
theorem dX8_number_128 : decode cX8_number 128 = .ok (.ireturn, 1) := dk_172 (dk_at dksX8_number_5 13 rfl rfl)
abbrev cX8_isDigit : ByteArray := prog_6_method_5_code
def yX8_isDigit : MethodName := ⟨RX8, "isDigit", "()Z"⟩
def dkwX8_isDigit_0 : List UInt8 := [42, 182, 0, 32, 16, 48, 16, 57, 184, 0, 41, 172]
abbrev dktX8_isDigit_0 : List UInt8 := dkwX8_isDigit_0 ++ []
theorem dksX8_isDigit_0 : cX8_isDigit.data.toList.drop 0 = dktX8_isDigit_0 := by decide +kernel
theorem dX8_isDigit_0 : decode cX8_isDigit 0 = .ok (.aload_n 0, 1) := dk_42 (dk_at dksX8_isDigit_0 0 rfl rfl)
theorem dX8_isDigit_1 : decode cX8_isDigit 1 = .ok (.invokevirtual 32, 3) := dk_182 0 32 (dk_at dksX8_isDigit_0 1 rfl rfl)
theorem dX8_isDigit_4 : decode cX8_isDigit 4 = .ok (.bipush 48, 2) := dk_16 48 (dk_at dksX8_isDigit_0 4 rfl rfl)
theorem dX8_isDigit_6 : decode cX8_isDigit 6 = .ok (.bipush 57, 2) := dk_16 57 (dk_at dksX8_isDigit_0 6 rfl rfl)
theorem dX8_isDigit_8 : decode cX8_isDigit 8 = .ok (.invokestatic 41, 3) := dk_184 0 41 (dk_at dksX8_isDigit_0 8 rfl rfl)
theorem dX8_isDigit_11 : decode cX8_isDigit 11 = .ok (.ireturn, 1) := dk_172 (dk_at dksX8_isDigit_0 11 rfl rfl)
abbrev cX8_expect : ByteArray := prog_6_method_4_code
def yX8_expect : MethodName := ⟨RX8, "expect", "(Z)V"⟩
def dkwX8_expect_0 : List UInt8 := [27, 154, 0, 15, 187, 0, 36, 89, 42, 180, 0, 15, 183, 0, 38, 191, 177]
abbrev dktX8_expect_0 : List UInt8 := dkwX8_expect_0 ++ []
theorem dksX8_expect_0 : cX8_expect.data.toList.drop 0 = dktX8_expect_0 := by decide +kernel
theorem dX8_expect_0 : decode cX8_expect 0 = .ok (.iload_n 1, 1) := dk_27 (dk_at dksX8_expect_0 0 rfl rfl)
theorem dX8_expect_1 : decode cX8_expect 1 = .ok (.ifCond .ne 15, 3) := dk_154 0 15 (dk_at dksX8_expect_0 1 rfl rfl)
theorem dX8_expect_4 : decode cX8_expect 4 = .ok (.new 36, 3) := dk_187 0 36 (dk_at dksX8_expect_0 4 rfl rfl)
theorem dX8_expect_7 : decode cX8_expect 7 = .ok (.dup, 1) := dk_89 (dk_at dksX8_expect_0 7 rfl rfl)
theorem dX8_expect_8 : decode cX8_expect 8 = .ok (.aload_n 0, 1) := dk_42 (dk_at dksX8_expect_0 8 rfl rfl)
theorem dX8_expect_9 : decode cX8_expect 9 = .ok (.getfield 15, 3) := dk_180 0 15 (dk_at dksX8_expect_0 9 rfl rfl)
theorem dX8_expect_12 : decode cX8_expect 12 = .ok (.invokespecial 38, 3) := dk_183 0 38 (dk_at dksX8_expect_0 12 rfl rfl)
theorem dX8_expect_15 : decode cX8_expect 15 = .ok (.athrow, 1) := dk_191 (dk_at dksX8_expect_0 15 rfl rfl)
theorem dX8_expect_16 : decode cX8_expect 16 = .ok (.return_, 1) := dk_177 (dk_at dksX8_expect_0 16 rfl rfl)
theorem q133 : (Jvm.Cond.initialized "LabelPlacer$CommandReader") ∈ lw_all := lw_g (lw_at lw_m1 44 rfl) rfl
theorem q214 : (Jvm.Cond.fieldLinkNest "LabelPlacer$CommandReader" (23 : Nat) "LabelPlacer$Tape" "length" "I" "LabelPlacer") ∈ lw_tbl := lw_at lw_m1 125 rfl
theorem q242 : (Jvm.Cond.fieldLinkNest "LabelPlacer$CommandReader" (19 : Nat) "LabelPlacer" "tape" "LLabelPlacer$Tape;" "LabelPlacer") ∈ lw_tbl := lw_at lw_m1 153 rfl
theorem q362 : (Jvm.Cond.selects "LabelPlacer$CommandReader" ({ cls := "java/lang/Object", name := "getClass", desc := "()Ljava/lang/Class;" } : Jvm.MethodName) ({ cls := "java/lang/Object", name := "getClass", desc := "()Ljava/lang/Class;" } : Jvm.MethodName)) ∈ lw_all := lw_g (lw_at lw_m2 33 rfl) rfl
theorem q523 : (Jvm.Cond.selects "LabelPlacer$CommandReader" ({ cls := "java/lang/Object", name := "hashCode", desc := "()I" } : Jvm.MethodName) ({ cls := "java/lang/Object", name := "hashCode", desc := "()I" } : Jvm.MethodName)) ∈ lw_all := lw_g (lw_at lw_m2 194 rfl) rfl
theorem q957 : (Jvm.Cond.selects "LabelPlacer$CommandReader" ({ cls := "java/lang/Object", name := "equals", desc := "(Ljava/lang/Object;)Z" } : Jvm.MethodName) ({ cls := "java/lang/Object", name := "equals", desc := "(Ljava/lang/Object;)Z" } : Jvm.MethodName)) ∈ lw_all := lw_g (lw_at lw_m4 148 rfl) rfl
theorem q1634 : (Jvm.Cond.instantiable "LabelPlacer$CommandReader" (4 : Nat)) ∈ lw_all := lw_g (lw_at lw_m7 105 rfl) rfl
theorem q1636 : (Jvm.Cond.instanceMethod ({ cls := "LabelPlacer$CommandReader", name := "<init>", desc := "(LLabelPlacer;)V" } : Jvm.MethodName)) ∈ lw_all := lw_g (lw_at lw_m7 107 rfl) rfl
theorem q1637 : (Jvm.Cond.code ({ cls := "LabelPlacer$CommandReader", name := "<init>", desc := "(LLabelPlacer;)V" } : Jvm.MethodName) prog_6_method_1_code (2 : Nat) (Option.none : Option Jvm.ClassFile.FieldType)) ∈ lw_all := lw_g (lw_at lw_m7 108 rfl) rfl
theorem q1638 : (Jvm.Cond.methodLink "LabelPlacer$CommandReader" (9 : Nat) ({ cls := "java/lang/Object", name := "<init>", desc := "()V" } : Jvm.MethodName)) ∈ lw_all := lw_g (lw_at lw_m7 109 rfl) rfl
theorem q1639 : (Jvm.Cond.fieldLink "LabelPlacer$CommandReader" (15 : Nat) "LabelPlacer$CommandReader" "at" "I") ∈ lw_all := lw_g (lw_at lw_m7 110 rfl) rfl
theorem q1640 : (Jvm.Cond.fieldLink "LabelPlacer$CommandReader" (45 : Nat) "LabelPlacer$CommandReader" "command" "LLabelPlacer$Command;") ∈ lw_all := lw_g (lw_at lw_m7 111 rfl) rfl
theorem q1642 : (Jvm.Cond.fieldLink "LabelPlacer$CommandReader" (76 : Nat) "LabelPlacer$CommandReader" "numbers" "[I") ∈ lw_all := lw_g (lw_at lw_m7 113 rfl) rfl
theorem q1644 : (Jvm.Cond.fieldLink "LabelPlacer$CommandReader" (3 : Nat) "LabelPlacer$CommandReader" "this$0" "LLabelPlacer;") ∈ lw_all := lw_g (lw_at lw_m7 115 rfl) rfl
theorem q1645 : (Jvm.Cond.lays "LabelPlacer$CommandReader" "LabelPlacer$CommandReader" "at" "I") ∈ lw_all := lw_g (lw_at lw_m7 116 rfl) rfl
theorem q1646 : (Jvm.Cond.soleField "LabelPlacer$CommandReader" "at") ∈ lw_all := lw_g (lw_at lw_m7 117 rfl) rfl
theorem q1647 : (Jvm.Cond.lays "LabelPlacer$CommandReader" "LabelPlacer$CommandReader" "command" "LLabelPlacer$Command;") ∈ lw_all := lw_g (lw_at lw_m7 118 rfl) rfl
theorem q1648 : (Jvm.Cond.soleField "LabelPlacer$CommandReader" "command") ∈ lw_all := lw_g (lw_at lw_m7 119 rfl) rfl
theorem q1649 : (Jvm.Cond.lays "LabelPlacer$CommandReader" "LabelPlacer$CommandReader" "numbers" "[I") ∈ lw_all := lw_g (lw_at lw_m7 120 rfl) rfl
theorem q1650 : (Jvm.Cond.soleField "LabelPlacer$CommandReader" "numbers") ∈ lw_all := lw_g (lw_at lw_m7 121 rfl) rfl
theorem q1651 : (Jvm.Cond.laysFinal "LabelPlacer$CommandReader" "LabelPlacer$CommandReader" "this$0" "LLabelPlacer;") ∈ lw_all := lw_g (lw_at lw_m7 122 rfl) rfl
theorem q1652 : (Jvm.Cond.soleField "LabelPlacer$CommandReader" "this$0") ∈ lw_all := lw_g (lw_at lw_m7 123 rfl) rfl
theorem q1653 : (Jvm.Cond.superclass "LabelPlacer$CommandReader" "java/lang/Object") ∈ lw_all := lw_g (lw_at lw_m7 124 rfl) rfl
theorem q1655 : (Jvm.Cond.instanceMethod ({ cls := "LabelPlacer$CommandReader", name := "read", desc := "()V" } : Jvm.MethodName)) ∈ lw_all := lw_g (lw_at lw_m7 126 rfl) rfl
theorem q1656 : (Jvm.Cond.selects "LabelPlacer$CommandReader" ({ cls := "LabelPlacer$CommandReader", name := "read", desc := "()V" } : Jvm.MethodName) ({ cls := "LabelPlacer$CommandReader", name := "read", desc := "()V" } : Jvm.MethodName)) ∈ lw_all := lw_g (lw_at lw_m7 127 rfl) rfl
theorem q1657 : (Jvm.Cond.code ({ cls := "LabelPlacer$CommandReader", name := "read", desc := "()V" } : Jvm.MethodName) prog_6_method_7_code (3 : Nat) (Option.none : Option Jvm.ClassFile.FieldType)) ∈ lw_all := lw_g (lw_at lw_m7 128 rfl) rfl
theorem q1658 : (Jvm.Cond.methodLink "LabelPlacer$CommandReader" (55 : Nat) ({ cls := "LabelPlacer$CommandReader", name := "blanks", desc := "()V" } : Jvm.MethodName)) ∈ lw_all := lw_g (lw_at lw_m7 129 rfl) rfl
theorem q1659 : (Jvm.Cond.privateMethod ({ cls := "LabelPlacer$CommandReader", name := "blanks", desc := "()V" } : Jvm.MethodName)) ∈ lw_tbl := lw_at lw_m7 130 rfl
theorem q1660 : (Jvm.Cond.instanceMethod ({ cls := "LabelPlacer$CommandReader", name := "blanks", desc := "()V" } : Jvm.MethodName)) ∈ lw_all := lw_g (lw_at lw_m7 131 rfl) rfl
theorem q1661 : (Jvm.Cond.code ({ cls := "LabelPlacer$CommandReader", name := "blanks", desc := "()V" } : Jvm.MethodName) prog_6_method_3_code (1 : Nat) (Option.none : Option Jvm.ClassFile.FieldType)) ∈ lw_all := lw_g (lw_at lw_m7 132 rfl) rfl
theorem q1662 : (Jvm.Cond.methodLink "LabelPlacer$CommandReader" (32 : Nat) ({ cls := "LabelPlacer$CommandReader", name := "look", desc := "()I" } : Jvm.MethodName)) ∈ lw_all := lw_g (lw_at lw_m7 133 rfl) rfl
theorem q1663 : (Jvm.Cond.privateMethod ({ cls := "LabelPlacer$CommandReader", name := "look", desc := "()I" } : Jvm.MethodName)) ∈ lw_tbl := lw_at lw_m7 134 rfl
theorem q1664 : (Jvm.Cond.instanceMethod ({ cls := "LabelPlacer$CommandReader", name := "look", desc := "()I" } : Jvm.MethodName)) ∈ lw_all := lw_g (lw_at lw_m7 135 rfl) rfl
theorem q1665 : (Jvm.Cond.code ({ cls := "LabelPlacer$CommandReader", name := "look", desc := "()I" } : Jvm.MethodName) prog_6_method_2_code (1 : Nat) (Option.some Jvm.ClassFile.FieldType.int)) ∈ lw_all := lw_g (lw_at lw_m7 136 rfl) rfl
theorem q1666 : (Jvm.Cond.methodLink "LabelPlacer$CommandReader" (28 : Nat) ({ cls := "LabelPlacer$Tape", name := "charAt", desc := "(I)C" } : Jvm.MethodName)) ∈ lw_all := lw_g (lw_at lw_m7 137 rfl) rfl
theorem q1670 : (Jvm.Cond.methodLinkNest "LabelPlacer$CommandReader" (41 : Nat) ({ cls := "LabelPlacer", name := "isIn", desc := "(III)Z" } : Jvm.MethodName) "LabelPlacer") ∈ lw_tbl := lw_at lw_m7 141 rfl
theorem q1671 : (Jvm.Cond.methodLink "LabelPlacer$CommandReader" (65 : Nat) ({ cls := "LabelPlacer$Tape", name := "subSequence", desc := "(II)Ljava/lang/CharSequence;" } : Jvm.MethodName)) ∈ lw_all := lw_g (lw_at lw_m7 142 rfl) rfl
theorem q1678 : (Jvm.Cond.methodLink "LabelPlacer$CommandReader" (69 : Nat) ({ cls := "LabelPlacer$Command", name := "named", desc := "(Ljava/lang/CharSequence;)LLabelPlacer$Command;" } : Jvm.MethodName)) ∈ lw_all := lw_g (lw_at lw_m7 149 rfl) rfl
theorem q1888 : (Jvm.Cond.classLink "LabelPlacer$CommandReader" (36 : Nat) "LabelPlacer$TextFault") ∈ lw_all := lw_g (lw_at lw_m8 119 rfl) rfl
theorem q1925 : (Jvm.Cond.methodLink "LabelPlacer$CommandReader" (38 : Nat) ({ cls := "LabelPlacer$TextFault", name := "<init>", desc := "(I)V" } : Jvm.MethodName)) ∈ lw_all := lw_g (lw_at lw_m8 156 rfl) rfl
theorem q1951 : (Jvm.Cond.interfaceEntry "LabelPlacer$CommandReader" (73 : Nat)) ∈ lw_tbl := lw_at lw_m8 182 rfl
theorem q1952 : (Jvm.Cond.methodLink "LabelPlacer$CommandReader" (73 : Nat) ({ cls := "LabelPlacer$Command", name := "numbers", desc := "()I" } : Jvm.MethodName)) ∈ lw_all := lw_g (lw_at lw_m8 183 rfl) rfl
theorem q1979 : (Jvm.Cond.methodLink "LabelPlacer$CommandReader" (79 : Nat) ({ cls := "LabelPlacer$CommandReader", name := "number", desc := "()I" } : Jvm.MethodName)) ∈ lw_all := lw_g (lw_at lw_m8 210 rfl) rfl
theorem q1980 : (Jvm.Cond.privateMethod ({ cls := "LabelPlacer$CommandReader", name := "number", desc := "()I" } : Jvm.MethodName)) ∈ lw_tbl := lw_at lw_m8 211 rfl
theorem q1981 : (Jvm.Cond.instanceMethod ({ cls := "LabelPlacer$CommandReader", name := "number", desc := "()I" } : Jvm.MethodName)) ∈ lw_all := lw_g (lw_at lw_m8 212 rfl) rfl
theorem q1982 : (Jvm.Cond.code ({ cls := "LabelPlacer$CommandReader", name := "number", desc := "()I" } : Jvm.MethodName) prog_6_method_6_code (4 : Nat) (Option.some Jvm.ClassFile.FieldType.int)) ∈ lw_all := lw_g (lw_at lw_m8 213 rfl) rfl
theorem q1983 : (Jvm.Cond.interfaceEntry "LabelPlacer$CommandReader" (49 : Nat)) ∈ lw_tbl := lw_at lw_m8 214 rfl
theorem q1984 : (Jvm.Cond.methodLink "LabelPlacer$CommandReader" (49 : Nat) ({ cls := "LabelPlacer$Command", name := "isSigned", desc := "()Z" } : Jvm.MethodName)) ∈ lw_all := lw_g (lw_at lw_m8 215 rfl) rfl
theorem q1998 : (Jvm.Cond.methodLink "LabelPlacer$CommandReader" (58 : Nat) ({ cls := "LabelPlacer$CommandReader", name := "isDigit", desc := "()Z" } : Jvm.MethodName)) ∈ lw_all := lw_g (lw_at lw_m8 229 rfl) rfl
theorem q1999 : (Jvm.Cond.privateMethod ({ cls := "LabelPlacer$CommandReader", name := "isDigit", desc := "()Z" } : Jvm.MethodName)) ∈ lw_tbl := lw_at lw_m8 230 rfl
theorem q2000 : (Jvm.Cond.instanceMethod ({ cls := "LabelPlacer$CommandReader", name := "isDigit", desc := "()Z" } : Jvm.MethodName)) ∈ lw_all := lw_g (lw_at lw_m8 231 rfl) rfl
theorem q2001 : (Jvm.Cond.code ({ cls := "LabelPlacer$CommandReader", name := "isDigit", desc := "()Z" } : Jvm.MethodName) prog_6_method_5_code (1 : Nat) (Option.some Jvm.ClassFile.FieldType.boolean)) ∈ lw_all := lw_g (lw_at lw_m8 232 rfl) rfl
theorem q2002 : (Jvm.Cond.methodLink "LabelPlacer$CommandReader" (61 : Nat) ({ cls := "LabelPlacer$CommandReader", name := "expect", desc := "(Z)V" } : Jvm.MethodName)) ∈ lw_all := lw_g (lw_at lw_m8 233 rfl) rfl
theorem q2003 : (Jvm.Cond.privateMethod ({ cls := "LabelPlacer$CommandReader", name := "expect", desc := "(Z)V" } : Jvm.MethodName)) ∈ lw_tbl := lw_at lw_m8 234 rfl
theorem q2004 : (Jvm.Cond.instanceMethod ({ cls := "LabelPlacer$CommandReader", name := "expect", desc := "(Z)V" } : Jvm.MethodName)) ∈ lw_all := lw_g (lw_at lw_m8 235 rfl) rfl
theorem q2005 : (Jvm.Cond.code ({ cls := "LabelPlacer$CommandReader", name := "expect", desc := "(Z)V" } : Jvm.MethodName) prog_6_method_4_code (2 : Nat) (Option.none : Option Jvm.ClassFile.FieldType)) ∈ lw_all := lw_g (lw_at lw_m8 236 rfl) rfl
theorem q2474 : (Jvm.Cond.castable "LabelPlacer$CommandReader" "java/lang/Object") ∈ lw_tbl := lw_at lw_m10 225 rfl
theorem in_X8 : ∀ w ∈ wsX80, w ∈ lw_all := lw_in wsX80 [1645, 1647, 1649, 1651] (by decide +kernel) (by decide +kernel)

/-! LabelPlacer$Command -/
set_option maxRecDepth 100000
def RX9 : String := "LabelPlacer$Command"
abbrev cX9_named : ByteArray := prog_5_method_4_code
def yX9_named : MethodName := ⟨RX9, "named", "(Ljava/lang/CharSequence;)LLabelPlacer$Command;"⟩
def dkwX9_named_9 : List UInt8 := [183, 0, 43, 167, 0, 16, 187, 0, 41, 89, 16, 104, 183, 0, 43, 167, 0, 4, 1, 176]
abbrev dktX9_named_9 : List UInt8 := dkwX9_named_9 ++ []
def dkwX9_named_8 : List UInt8 := [183, 0, 40, 167, 0, 40, 187, 0, 41, 89, 16, 108, 183, 0, 43, 167, 0, 28, 187, 0, 41, 89, 16, 105]
abbrev dktX9_named_8 : List UInt8 := dkwX9_named_8 ++ dktX9_named_9
def dkwX9_named_7 : List UInt8 := [187, 0, 29, 89, 183, 0, 31, 167, 0, 60, 187, 0, 35, 89, 183, 0, 37, 167, 0, 50, 187, 0, 38, 89]
abbrev dktX9_named_7 : List UInt8 := dkwX9_named_7 ++ dktX9_named_8
def dkwX9_named_6 : List UInt8 := [170, 0, 0, 0, 0, 104, 0, 0, 0, 0, 0, 0, 0, 5, 0, 0, 0, 38, 0, 0, 0, 48, 0, 0, 0, 58, 0, 0, 0, 68, 0, 0, 0, 80, 0, 0, 0, 92]
abbrev dktX9_named_6 : List UInt8 := dkwX9_named_6 ++ dktX9_named_7
def dkwX9_named_5 : List UInt8 := [18, 27, 182, 0, 15, 153, 0, 5, 8, 61, 28]
abbrev dktX9_named_5 : List UInt8 := dkwX9_named_5 ++ dktX9_named_6
def dkwX9_named_4 : List UInt8 := [153, 0, 33, 6, 61, 167, 0, 28, 43, 18, 25, 182, 0, 15, 153, 0, 19, 7, 61, 167, 0, 14, 43]
abbrev dktX9_named_4 : List UInt8 := dkwX9_named_4 ++ dktX9_named_5
def dkwX9_named_3 : List UInt8 := [61, 167, 0, 56, 43, 18, 21, 182, 0, 15, 153, 0, 47, 5, 61, 167, 0, 42, 43, 18, 23, 182, 0, 15]
abbrev dktX9_named_3 : List UInt8 := dkwX9_named_3 ++ dktX9_named_4
def dkwX9_named_2 : List UInt8 := [43, 18, 13, 182, 0, 15, 153, 0, 75, 3, 61, 167, 0, 70, 43, 18, 19, 182, 0, 15, 153, 0, 61, 4]
abbrev dktX9_named_2 : List UInt8 := dkwX9_named_2 ++ dktX9_named_3
def dkwX9_named_1 : List UInt8 := [171, 0, 0, 0, 0, 0, 140, 0, 0, 0, 6, 209, 11, 219, 240, 0, 0, 0, 73, 0, 1, 176, 157, 0, 0, 0, 87, 0, 48, 221, 66, 0, 0, 0, 129, 6, 31, 126, 244, 0, 0, 0, 101, 6, 94, 85, 144, 0, 0, 0, 59, 114, 206, 83, 120, 0, 0, 0, 115]
abbrev dktX9_named_1 : List UInt8 := dkwX9_named_1 ++ dktX9_named_2
def dkwX9_named_0 : List UInt8 := [42, 185, 0, 1, 1, 0, 76, 2, 61, 43, 182, 0, 7]
abbrev dktX9_named_0 : List UInt8 := dkwX9_named_0 ++ dktX9_named_1
theorem dksX9_named_0 : cX9_named.data.toList.drop 0 = dktX9_named_0 := by decide +kernel
theorem dksX9_named_1 : cX9_named.data.toList.drop 13 = dktX9_named_1 := dk_seg dksX9_named_0 13 rfl rfl
theorem dksX9_named_2 : cX9_named.data.toList.drop 72 = dktX9_named_2 := dk_seg dksX9_named_1 59 rfl rfl
theorem dksX9_named_3 : cX9_named.data.toList.drop 96 = dktX9_named_3 := dk_seg dksX9_named_2 24 rfl rfl
theorem dksX9_named_4 : cX9_named.data.toList.drop 120 = dktX9_named_4 := dk_seg dksX9_named_3 24 rfl rfl
theorem dksX9_named_5 : cX9_named.data.toList.drop 143 = dktX9_named_5 := dk_seg dksX9_named_4 23 rfl rfl
theorem dksX9_named_6 : cX9_named.data.toList.drop 154 = dktX9_named_6 := dk_seg dksX9_named_5 11 rfl rfl
theorem dksX9_named_7 : cX9_named.data.toList.drop 192 = dktX9_named_7 := dk_seg dksX9_named_6 38 rfl rfl
theorem dksX9_named_8 : cX9_named.data.toList.drop 216 = dktX9_named_8 := dk_seg dksX9_named_7 24 rfl rfl
theorem dksX9_named_9 : cX9_named.data.toList.drop 240 = dktX9_named_9 := dk_seg dksX9_named_8 24 rfl rfl
theorem dX9_named_0 : decode cX9_named 0 = .ok (.aload_n 0, 1) := dk_42 (dk_at dksX9_named_0 0 rfl rfl)
theorem dX9_named_1 : decode cX9_named 1 = .ok (.invokeinterface 1 1, 5) := by decide +kernel
theorem dX9_named_6 : decode cX9_named 6 = .ok (.astore_n 1, 1) := dk_76 (dk_at dksX9_named_0 6 rfl rfl)
theorem dX9_named_7 : decode cX9_named 7 = .ok (.iconst (-1), 1) := dk_2 (dk_at dksX9_named_0 7 rfl rfl)
theorem dX9_named_8 : decode cX9_named 8 = .ok (.istore_n 2, 1) := dk_61 (dk_at dksX9_named_0 8 rfl rfl)
theorem dX9_named_9 : decode cX9_named 9 = .ok (.aload_n 1, 1) := dk_43 (dk_at dksX9_named_0 9 rfl rfl)
theorem dX9_named_10 : decode cX9_named 10 = .ok (.invokevirtual 7, 3) := dk_182 0 7 (dk_at dksX9_named_0 10 rfl rfl)
theorem dX9_named_13 : decode cX9_named 13 = .ok (.lookupswitch 140 #[(-787751952, 73), (110749, 87), (3202370, 129), (102727412, 101), (106845584, 59), (1926124408, 115)], 59) := by decide +kernel
theorem dX9_named_72 : decode cX9_named 72 = .ok (.aload_n 1, 1) := dk_43 (dk_at dksX9_named_2 0 rfl rfl)
theorem dX9_named_73 : decode cX9_named 73 = .ok (.ldc 13, 2) := dk_18 13 (dk_at dksX9_named_2 1 rfl rfl)
theorem dX9_named_75 : decode cX9_named 75 = .ok (.invokevirtual 15, 3) := dk_182 0 15 (dk_at dksX9_named_2 3 rfl rfl)
theorem dX9_named_78 : decode cX9_named 78 = .ok (.ifCond .eq 75, 3) := dk_153 0 75 (dk_at dksX9_named_2 6 rfl rfl)
theorem dX9_named_81 : decode cX9_named 81 = .ok (.iconst 0, 1) := dk_3 (dk_at dksX9_named_2 9 rfl rfl)
theorem dX9_named_82 : decode cX9_named 82 = .ok (.istore_n 2, 1) := dk_61 (dk_at dksX9_named_2 10 rfl rfl)
theorem dX9_named_83 : decode cX9_named 83 = .ok (.goto 70, 3) := dk_167 0 70 (dk_at dksX9_named_2 11 rfl rfl)
theorem dX9_named_86 : decode cX9_named 86 = .ok (.aload_n 1, 1) := dk_43 (dk_at dksX9_named_2 14 rfl rfl)
theorem dX9_named_87 : decode cX9_named 87 = .ok (.ldc 19, 2) := dk_18 19 (dk_at dksX9_named_2 15 rfl rfl)
theorem dX9_named_89 : decode cX9_named 89 = .ok (.invokevirtual 15, 3) := dk_182 0 15 (dk_at dksX9_named_2 17 rfl rfl)
theorem dX9_named_92 : decode cX9_named 92 = .ok (.ifCond .eq 61, 3) := dk_153 0 61 (dk_at dksX9_named_2 20 rfl rfl)
theorem dX9_named_95 : decode cX9_named 95 = .ok (.iconst 1, 1) := dk_4 (dk_at dksX9_named_2 23 rfl rfl)
theorem dX9_named_96 : decode cX9_named 96 = .ok (.istore_n 2, 1) := dk_61 (dk_at dksX9_named_3 0 rfl rfl)
theorem dX9_named_97 : decode cX9_named 97 = .ok (.goto 56, 3) := dk_167 0 56 (dk_at dksX9_named_3 1 rfl rfl)
theorem dX9_named_100 : decode cX9_named 100 = .ok (.aload_n 1, 1) := dk_43 (dk_at dksX9_named_3 4 rfl rfl)
theorem dX9_named_101 : decode cX9_named 101 = .ok (.ldc 21, 2) := dk_18 21 (dk_at dksX9_named_3 5 rfl rfl)
theorem dX9_named_103 : decode cX9_named 103 = .ok (.invokevirtual 15, 3) := dk_182 0 15 (dk_at dksX9_named_3 7 rfl rfl)
theorem dX9_named_106 : decode cX9_named 106 = .ok (.ifCond .eq 47, 3) := dk_153 0 47 (dk_at dksX9_named_3 10 rfl rfl)
theorem dX9_named_109 : decode cX9_named 109 = .ok (.iconst 2, 1) := dk_5 (dk_at dksX9_named_3 13 rfl rfl)
theorem dX9_named_110 : decode cX9_named 110 = .ok (.istore_n 2, 1) := dk_61 (dk_at dksX9_named_3 14 rfl rfl)
theorem dX9_named_111 : decode cX9_named 111 = .ok (.goto 42, 3) := dk_167 0 42 (dk_at dksX9_named_3 15 rfl rfl)
theorem dX9_named_114 : decode cX9_named 114 = .ok (.aload_n 1, 1) := dk_43 (dk_at dksX9_named_3 18 rfl rfl)
theorem dX9_named_115 : decode cX9_named 115 = .ok (.ldc 23, 2) := dk_18 23 (dk_at dksX9_named_3 19 rfl rfl)
theorem dX9_named_117 : decode cX9_named 117 = .ok (.invokevirtual 15, 3) := dk_182 0 15 (dk_at dksX9_named_3 21 rfl rfl)
theorem dX9_named_120 : decode cX9_named 120 = .ok (.ifCond .eq 33, 3) := dk_153 0 33 (dk_at dksX9_named_4 0 rfl rfl)
theorem dX9_named_123 : decode cX9_named 123 = .ok (.iconst 3, 1) := dk_6 (dk_at dksX9_named_4 3 rfl rfl)
theorem dX9_named_124 : decode cX9_named 124 = .ok (.istore_n 2, 1) := dk_61 (dk_at dksX9_named_4 4 rfl rfl)
theorem dX9_named_125 : decode cX9_named 125 = .ok (.goto 28, 3) := dk_167 0 28 (dk_at dksX9_named_4 5 rfl rfl)
theorem dX9_named_128 : decode cX9_named 128 = .ok (.aload_n 1, 1) := dk_43 (dk_at dksX9_named_4 8 rfl rfl)
theorem dX9_named_129 : decode cX9_named 129 = .ok (.ldc 25, 2) := dk_18 25 (dk_at dksX9_named_4 9 rfl rfl)
theorem dX9_named_131 : decode cX9_named 131 = .ok (.invokevirtual 15, 3) := dk_182 0 15 (dk_at dksX9_named_4 11 rfl rfl)
theorem dX9_named_134 : decode cX9_named 134 = .ok (.ifCond .eq 19, 3) := dk_153 0 19 (dk_at dksX9_named_4 14 rfl rfl)
theorem dX9_named_137 : decode cX9_named 137 = .ok (.iconst 4, 1) := dk_7 (dk_at dksX9_named_4 17 rfl rfl)
theorem dX9_named_138 : decode cX9_named 138 = .ok (.istore_n 2, 1) := dk_61 (dk_at dksX9_named_4 18 rfl rfl)
theorem dX9_named_139 : decode cX9_named 139 = .ok (.goto 14, 3) := dk_167 0 14 (dk_at dksX9_named_4 19 rfl rfl)
theorem dX9_named_142 : decode cX9_named 142 = .ok (.aload_n 1, 1) := dk_43 (dk_at dksX9_named_4 22 rfl rfl)
theorem dX9_named_143 : decode cX9_named 143 = .ok (.ldc 27, 2) := dk_18 27 (dk_at dksX9_named_5 0 rfl rfl)
theorem dX9_named_145 : decode cX9_named 145 = .ok (.invokevirtual 15, 3) := dk_182 0 15 (dk_at dksX9_named_5 2 rfl rfl)
theorem dX9_named_148 : decode cX9_named 148 = .ok (.ifCond .eq 5, 3) := dk_153 0 5 (dk_at dksX9_named_5 5 rfl rfl)
theorem dX9_named_151 : decode cX9_named 151 = .ok (.iconst 5, 1) := dk_8 (dk_at dksX9_named_5 8 rfl rfl)
theorem dX9_named_152 : decode cX9_named 152 = .ok (.istore_n 2, 1) := dk_61 (dk_at dksX9_named_5 9 rfl rfl)
theorem dX9_named_153 : decode cX9_named 153 = .ok (.iload_n 2, 1) := dk_28 (dk_at dksX9_named_5 10 rfl rfl)
theorem dX9_named_154 : decode cX9_named 154 = .ok (.tableswitch 104 0 5 #[38, 48, 58, 68, 80, 92], 38) := by decide +kernel
theorem dX9_named_192 : decode cX9_named 192 = .ok (.new 29, 3) := dk_187 0 29 (dk_at dksX9_named_7 0 rfl rfl)
theorem dX9_named_195 : decode cX9_named 195 = .ok (.dup, 1) := dk_89 (dk_at dksX9_named_7 3 rfl rfl)
theorem dX9_named_196 : decode cX9_named 196 = .ok (.invokespecial 31, 3) := dk_183 0 31 (dk_at dksX9_named_7 4 rfl rfl)
theorem dX9_named_199 : decode cX9_named 199 = .ok (.goto 60, 3) := dk_167 0 60 (dk_at dksX9_named_7 7 rfl rfl)
theorem dX9_named_202 : decode cX9_named 202 = .ok (.new 35, 3) := dk_187 0 35 (dk_at dksX9_named_7 10 rfl rfl)
theorem dX9_named_205 : decode cX9_named 205 = .ok (.dup, 1) := dk_89 (dk_at dksX9_named_7 13 rfl rfl)
theorem dX9_named_206 : decode cX9_named 206 = .ok (.invokespecial 37, 3) := dk_183 0 37 (dk_at dksX9_named_7 14 rfl rfl)
theorem dX9_named_209 : decode cX9_named 209 = .ok (.goto 50, 3) := dk_167 0 50 (dk_at dksX9_named_7 17 rfl rfl)
theorem dX9_named_212 : decode cX9_named 212 = .ok (.new 38, 3) := dk_187 0 38 (dk_at dksX9_named_7 20 rfl rfl)
theorem dX9_named_215 : decode cX9_named 215 = .ok (.dup, 1) := dk_89 (dk_at dksX9_named_7 23 rfl rfl)
theorem dX9_named_216 : decode cX9_named 216 = .ok (.invokespecial 40, 3) := dk_183 0 40 (dk_at dksX9_named_8 0 rfl rfl)
theorem dX9_named_219 : decode cX9_named 219 = .ok (.goto 40, 3) := dk_167 0 40 (dk_at dksX9_named_8 3 rfl rfl)
theorem dX9_named_222 : decode cX9_named 222 = .ok (.new 41, 3) := dk_187 0 41 (dk_at dksX9_named_8 6 rfl rfl)
theorem dX9_named_225 : decode cX9_named 225 = .ok (.dup, 1) := dk_89 (dk_at dksX9_named_8 9 rfl rfl)
theorem dX9_named_226 : decode cX9_named 226 = .ok (.bipush 108, 2) := dk_16 108 (dk_at dksX9_named_8 10 rfl rfl)
theorem dX9_named_228 : decode cX9_named 228 = .ok (.invokespecial 43, 3) := dk_183 0 43 (dk_at dksX9_named_8 12 rfl rfl)
theorem dX9_named_231 : decode cX9_named 231 = .ok (.goto 28, 3) := dk_167 0 28 (dk_at dksX9_named_8 15 rfl rfl)
theorem dX9_named_234 : decode cX9_named 234 = .ok (.new 41, 3) := dk_187 0 41 (dk_at dksX9_named_8 18 rfl rfl)
theorem dX9_named_237 : decode cX9_named 237 = .ok (.dup, 1) := dk_89 (dk_at dksX9_named_8 21 rfl rfl)
theorem dX9_named_238 : decode cX9_named 238 = .ok (.bipush 105, 2) := dk_16 105 (dk_at dksX9_named_8 22 rfl rfl)
theorem dX9_named_240 : decode cX9_named 240 = .ok (.invokespecial 43, 3) := dk_183 0 43 (dk_at dksX9_named_9 0 rfl rfl)
theorem dX9_named_243 : decode cX9_named 243 = .ok (.goto 16, 3) := dk_167 0 16 (dk_at dksX9_named_9 3 rfl rfl)
theorem dX9_named_246 : decode cX9_named 246 = .ok (.new 41, 3) := dk_187 0 41 (dk_at dksX9_named_9 6 rfl rfl)
theorem dX9_named_249 : decode cX9_named 249 = .ok (.dup, 1) := dk_89 (dk_at dksX9_named_9 9 rfl rfl)
theorem dX9_named_250 : decode cX9_named 250 = .ok (.bipush 104, 2) := dk_16 104 (dk_at dksX9_named_9 10 rfl rfl)
theorem dX9_named_252 : decode cX9_named 252 = .ok (.invokespecial 43, 3) := dk_183 0 43 (dk_at dksX9_named_9 12 rfl rfl)
theorem dX9_named_255 : decode cX9_named 255 = .ok (.goto 4, 3) := dk_167 0 4 (dk_at dksX9_named_9 15 rfl rfl)
theorem dX9_named_258 : decode cX9_named 258 = .ok (.aconst_null, 1) := dk_1 (dk_at dksX9_named_9 18 rfl rfl)
theorem dX9_named_259 : decode cX9_named 259 = .ok (.areturn, 1) := dk_176 (dk_at dksX9_named_9 19 rfl rfl)
abbrev cX9_isSigned : ByteArray := prog_5_method_3_code
def yX9_isSigned : MethodName := ⟨RX9, "isSigned", "()Z"⟩
theorem dX9_isSigned_0 : decode cX9_isSigned 0 = .ok (.iconst 0, 1) := by decide +kernel
theorem dX9_isSigned_1 : decode cX9_isSigned 1 = .ok (.ireturn, 1) := by decide +kernel
theorem q134 : (Jvm.Cond.initialized "LabelPlacer$Command") ∈ lw_all := lw_g (lw_at lw_m1 45 rfl) rfl
theorem q1679 : (Jvm.Cond.static ({ cls := "LabelPlacer$Command", name := "named", desc := "(Ljava/lang/CharSequence;)LLabelPlacer$Command;" } : Jvm.MethodName)) ∈ lw_all := lw_g (lw_at lw_m7 150 rfl) rfl
theorem q1680 : (Jvm.Cond.code ({ cls := "LabelPlacer$Command", name := "named", desc := "(Ljava/lang/CharSequence;)LLabelPlacer$Command;" } : Jvm.MethodName) prog_5_method_4_code (3 : Nat) (Option.some (Jvm.ClassFile.FieldType.object "LabelPlacer$Command"))) ∈ lw_all := lw_g (lw_at lw_m7 151 rfl) rfl
theorem q1681 : (Jvm.Cond.interfaceEntry "LabelPlacer$Command" (1 : Nat)) ∈ lw_tbl := lw_at lw_m7 152 rfl
theorem q1682 : (Jvm.Cond.methodLink "LabelPlacer$Command" (1 : Nat) ({ cls := "java/lang/CharSequence", name := "toString", desc := "()Ljava/lang/String;" } : Jvm.MethodName)) ∈ lw_all := lw_g (lw_at lw_m7 153 rfl) rfl
theorem q1849 : (Jvm.Cond.methodLink "LabelPlacer$Command" (7 : Nat) ({ cls := "java/lang/String", name := "hashCode", desc := "()I" } : Jvm.MethodName)) ∈ lw_all := lw_g (lw_at lw_m8 80 rfl) rfl
theorem q1850 : (Jvm.Cond.stringRef "LabelPlacer$Command" (13 : Nat) "point") ∈ lw_tbl := lw_at lw_m8 81 rfl
theorem q1851 : (Jvm.Cond.methodLink "LabelPlacer$Command" (15 : Nat) ({ cls := "java/lang/String", name := "equals", desc := "(Ljava/lang/Object;)Z" } : Jvm.MethodName)) ∈ lw_all := lw_g (lw_at lw_m8 82 rfl) rfl
theorem q1852 : (Jvm.Cond.stringRef "LabelPlacer$Command" (19 : Nat) "window") ∈ lw_tbl := lw_at lw_m8 83 rfl
theorem q1853 : (Jvm.Cond.stringRef "LabelPlacer$Command" (21 : Nat) "pan") ∈ lw_tbl := lw_at lw_m8 84 rfl
theorem q1854 : (Jvm.Cond.stringRef "LabelPlacer$Command" (23 : Nat) "label") ∈ lw_tbl := lw_at lw_m8 85 rfl
theorem q1855 : (Jvm.Cond.stringRef "LabelPlacer$Command" (25 : Nat) "improve") ∈ lw_tbl := lw_at lw_m8 86 rfl
theorem q1856 : (Jvm.Cond.stringRef "LabelPlacer$Command" (27 : Nat) "hide") ∈ lw_tbl := lw_at lw_m8 87 rfl
theorem q1857 : (Jvm.Cond.classLink "LabelPlacer$Command" (29 : Nat) "LabelPlacer$AddPoint") ∈ lw_all := lw_g (lw_at lw_m8 88 rfl) rfl
theorem q1859 : (Jvm.Cond.methodLinkNest "LabelPlacer$Command" (31 : Nat) ({ cls := "LabelPlacer$AddPoint", name := "<init>", desc := "()V" } : Jvm.MethodName) "LabelPlacer") ∈ lw_tbl := lw_at lw_m8 90 rfl
theorem q1864 : (Jvm.Cond.classLink "LabelPlacer$Command" (35 : Nat) "LabelPlacer$SetWindow") ∈ lw_all := lw_g (lw_at lw_m8 95 rfl) rfl
theorem q1866 : (Jvm.Cond.methodLinkNest "LabelPlacer$Command" (37 : Nat) ({ cls := "LabelPlacer$SetWindow", name := "<init>", desc := "()V" } : Jvm.MethodName) "LabelPlacer") ∈ lw_tbl := lw_at lw_m8 97 rfl
theorem q1871 : (Jvm.Cond.classLink "LabelPlacer$Command" (38 : Nat) "LabelPlacer$Pan") ∈ lw_all := lw_g (lw_at lw_m8 102 rfl) rfl
theorem q1873 : (Jvm.Cond.methodLinkNest "LabelPlacer$Command" (40 : Nat) ({ cls := "LabelPlacer$Pan", name := "<init>", desc := "()V" } : Jvm.MethodName) "LabelPlacer") ∈ lw_tbl := lw_at lw_m8 104 rfl
theorem q1878 : (Jvm.Cond.classLink "LabelPlacer$Command" (41 : Nat) "LabelPlacer$Simple") ∈ lw_all := lw_g (lw_at lw_m8 109 rfl) rfl
theorem q1880 : (Jvm.Cond.methodLink "LabelPlacer$Command" (43 : Nat) ({ cls := "LabelPlacer$Simple", name := "<init>", desc := "(C)V" } : Jvm.MethodName)) ∈ lw_all := lw_g (lw_at lw_m8 111 rfl) rfl
theorem q1953 : (Jvm.Cond.interfaceMethod "LabelPlacer$Command" "LabelPlacer$Command" "numbers" "()I") ∈ lw_tbl := lw_at lw_m8 184 rfl
theorem q1954 : (Jvm.Cond.declares ({ cls := "LabelPlacer$Command", name := "numbers", desc := "()I" } : Jvm.MethodName)) ∈ lw_tbl := lw_at lw_m8 185 rfl
theorem q1985 : (Jvm.Cond.interfaceMethod "LabelPlacer$Command" "LabelPlacer$Command" "isSigned" "()Z") ∈ lw_tbl := lw_at lw_m8 216 rfl
theorem q1986 : (Jvm.Cond.declares ({ cls := "LabelPlacer$Command", name := "isSigned", desc := "()Z" } : Jvm.MethodName)) ∈ lw_tbl := lw_at lw_m8 217 rfl
theorem q1988 : (Jvm.Cond.instanceMethod ({ cls := "LabelPlacer$Command", name := "isSigned", desc := "()Z" } : Jvm.MethodName)) ∈ lw_all := lw_g (lw_at lw_m8 219 rfl) rfl
theorem q1989 : (Jvm.Cond.publicMethod ({ cls := "LabelPlacer$Command", name := "isSigned", desc := "()Z" } : Jvm.MethodName)) ∈ lw_tbl := lw_at lw_m8 220 rfl
theorem q1990 : (Jvm.Cond.code ({ cls := "LabelPlacer$Command", name := "isSigned", desc := "()Z" } : Jvm.MethodName) prog_5_method_3_code (1 : Nat) (Option.some Jvm.ClassFile.FieldType.boolean)) ∈ lw_all := lw_g (lw_at lw_m8 221 rfl) rfl
theorem q2008 : (Jvm.Cond.interfaceMethod "LabelPlacer$Command" "LabelPlacer$Command" "run" "(LLabelPlacer;[I)I") ∈ lw_tbl := lw_at lw_m8 239 rfl
theorem q2009 : (Jvm.Cond.declares ({ cls := "LabelPlacer$Command", name := "run", desc := "(LLabelPlacer;[I)I" } : Jvm.MethodName)) ∈ lw_tbl := lw_at lw_m9 0 rfl

/-! LabelPlacer$AddPoint -/
set_option maxRecDepth 100000
def RX10 : String := "LabelPlacer$AddPoint"
abbrev cX10_init : ByteArray := prog_2_method_1_code
def yX10_init : MethodName := ⟨RX10, "<init>", "()V"⟩
theorem dX10_init_0 : decode cX10_init 0 = .ok (.aload_n 0, 1) := by decide +kernel
theorem dX10_init_1 : decode cX10_init 1 = .ok (.invokespecial 3, 3) := by decide +kernel
theorem dX10_init_4 : decode cX10_init 4 = .ok (.return_, 1) := by decide +kernel
abbrev cX10_numbers : ByteArray := prog_2_method_2_code
def yX10_numbers : MethodName := ⟨RX10, "numbers", "()I"⟩
theorem dX10_numbers_0 : decode cX10_numbers 0 = .ok (.iconst 5, 1) := by decide +kernel
theorem dX10_numbers_1 : decode cX10_numbers 1 = .ok (.ireturn, 1) := by decide +kernel
abbrev cX10_run : ByteArray := prog_2_method_3_code
def yX10_run : MethodName := ⟨RX10, "run", "(LLabelPlacer;[I)I"⟩
def dkwX10_run_0 : List UInt8 := [43, 44, 3, 46, 44, 4, 46, 44, 5, 46, 44, 6, 46, 44, 7, 46, 17, 0, 255, 182, 0, 9, 172]
abbrev dktX10_run_0 : List UInt8 := dkwX10_run_0 ++ []
theorem dksX10_run_0 : cX10_run.data.toList.drop 0 = dktX10_run_0 := by decide +kernel
theorem dX10_run_0 : decode cX10_run 0 = .ok (.aload_n 1, 1) := dk_43 (dk_at dksX10_run_0 0 rfl rfl)
theorem dX10_run_1 : decode cX10_run 1 = .ok (.aload_n 2, 1) := dk_44 (dk_at dksX10_run_0 1 rfl rfl)
theorem dX10_run_2 : decode cX10_run 2 = .ok (.iconst 0, 1) := dk_3 (dk_at dksX10_run_0 2 rfl rfl)
theorem dX10_run_3 : decode cX10_run 3 = .ok (.iaload, 1) := dk_46 (dk_at dksX10_run_0 3 rfl rfl)
theorem dX10_run_4 : decode cX10_run 4 = .ok (.aload_n 2, 1) := dk_44 (dk_at dksX10_run_0 4 rfl rfl)
theorem dX10_run_5 : decode cX10_run 5 = .ok (.iconst 1, 1) := dk_4 (dk_at dksX10_run_0 5 rfl rfl)
theorem dX10_run_6 : decode cX10_run 6 = .ok (.iaload, 1) := dk_46 (dk_at dksX10_run_0 6 rfl rfl)
theorem dX10_run_7 : decode cX10_run 7 = .ok (.aload_n 2, 1) := dk_44 (dk_at dksX10_run_0 7 rfl rfl)
theorem dX10_run_8 : decode cX10_run 8 = .ok (.iconst 2, 1) := dk_5 (dk_at dksX10_run_0 8 rfl rfl)
theorem dX10_run_9 : decode cX10_run 9 = .ok (.iaload, 1) := dk_46 (dk_at dksX10_run_0 9 rfl rfl)
theorem dX10_run_10 : decode cX10_run 10 = .ok (.aload_n 2, 1) := dk_44 (dk_at dksX10_run_0 10 rfl rfl)
theorem dX10_run_11 : decode cX10_run 11 = .ok (.iconst 3, 1) := dk_6 (dk_at dksX10_run_0 11 rfl rfl)
theorem dX10_run_12 : decode cX10_run 12 = .ok (.iaload, 1) := dk_46 (dk_at dksX10_run_0 12 rfl rfl)
theorem dX10_run_13 : decode cX10_run 13 = .ok (.aload_n 2, 1) := dk_44 (dk_at dksX10_run_0 13 rfl rfl)
theorem dX10_run_14 : decode cX10_run 14 = .ok (.iconst 4, 1) := dk_7 (dk_at dksX10_run_0 14 rfl rfl)
theorem dX10_run_15 : decode cX10_run 15 = .ok (.iaload, 1) := dk_46 (dk_at dksX10_run_0 15 rfl rfl)
theorem dX10_run_16 : decode cX10_run 16 = .ok (.sipush 255, 3) := dk_17 0 255 (dk_at dksX10_run_0 16 rfl rfl)
theorem dX10_run_19 : decode cX10_run 19 = .ok (.invokevirtual 9, 3) := dk_182 0 9 (dk_at dksX10_run_0 19 rfl rfl)
theorem dX10_run_22 : decode cX10_run 22 = .ok (.ireturn, 1) := dk_172 (dk_at dksX10_run_0 22 rfl rfl)
theorem q137 : (Jvm.Cond.initialized "LabelPlacer$AddPoint") ∈ lw_all := lw_g (lw_at lw_m1 48 rfl) rfl
theorem q360 : (Jvm.Cond.selects "LabelPlacer$AddPoint" ({ cls := "java/lang/Object", name := "getClass", desc := "()Ljava/lang/Class;" } : Jvm.MethodName) ({ cls := "java/lang/Object", name := "getClass", desc := "()Ljava/lang/Class;" } : Jvm.MethodName)) ∈ lw_all := lw_g (lw_at lw_m2 31 rfl) rfl
theorem q521 : (Jvm.Cond.selects "LabelPlacer$AddPoint" ({ cls := "java/lang/Object", name := "hashCode", desc := "()I" } : Jvm.MethodName) ({ cls := "java/lang/Object", name := "hashCode", desc := "()I" } : Jvm.MethodName)) ∈ lw_all := lw_g (lw_at lw_m2 192 rfl) rfl
theorem q955 : (Jvm.Cond.selects "LabelPlacer$AddPoint" ({ cls := "java/lang/Object", name := "equals", desc := "(Ljava/lang/Object;)Z" } : Jvm.MethodName) ({ cls := "java/lang/Object", name := "equals", desc := "(Ljava/lang/Object;)Z" } : Jvm.MethodName)) ∈ lw_all := lw_g (lw_at lw_m4 146 rfl) rfl
theorem q1858 : (Jvm.Cond.instantiable "LabelPlacer$AddPoint" (0 : Nat)) ∈ lw_all := lw_g (lw_at lw_m8 89 rfl) rfl
theorem q1860 : (Jvm.Cond.instanceMethod ({ cls := "LabelPlacer$AddPoint", name := "<init>", desc := "()V" } : Jvm.MethodName)) ∈ lw_all := lw_g (lw_at lw_m8 91 rfl) rfl
theorem q1861 : (Jvm.Cond.code ({ cls := "LabelPlacer$AddPoint", name := "<init>", desc := "()V" } : Jvm.MethodName) prog_2_method_1_code (1 : Nat) (Option.none : Option Jvm.ClassFile.FieldType)) ∈ lw_all := lw_g (lw_at lw_m8 92 rfl) rfl
theorem q1862 : (Jvm.Cond.methodLink "LabelPlacer$AddPoint" (3 : Nat) ({ cls := "java/lang/Object", name := "<init>", desc := "()V" } : Jvm.MethodName)) ∈ lw_all := lw_g (lw_at lw_m8 93 rfl) rfl
theorem q1863 : (Jvm.Cond.superclass "LabelPlacer$AddPoint" "java/lang/Object") ∈ lw_all := lw_g (lw_at lw_m8 94 rfl) rfl
theorem q1955 : (Jvm.Cond.castable "LabelPlacer$AddPoint" "LabelPlacer$Command") ∈ lw_tbl := lw_at lw_m8 186 rfl
theorem q1956 : (Jvm.Cond.selects "LabelPlacer$AddPoint" ({ cls := "LabelPlacer$Command", name := "numbers", desc := "()I" } : Jvm.MethodName) ({ cls := "LabelPlacer$AddPoint", name := "numbers", desc := "()I" } : Jvm.MethodName)) ∈ lw_all := lw_g (lw_at lw_m8 187 rfl) rfl
theorem q1957 : (Jvm.Cond.unhidden "LabelPlacer$AddPoint" "numbers" "()I") ∈ lw_tbl := lw_at lw_m8 188 rfl
theorem q1958 : (Jvm.Cond.instanceMethod ({ cls := "LabelPlacer$AddPoint", name := "numbers", desc := "()I" } : Jvm.MethodName)) ∈ lw_all := lw_g (lw_at lw_m8 189 rfl) rfl
theorem q1959 : (Jvm.Cond.publicMethod ({ cls := "LabelPlacer$AddPoint", name := "numbers", desc := "()I" } : Jvm.MethodName)) ∈ lw_tbl := lw_at lw_m8 190 rfl
theorem q1960 : (Jvm.Cond.code ({ cls := "LabelPlacer$AddPoint", name := "numbers", desc := "()I" } : Jvm.MethodName) prog_2_method_2_code (1 : Nat) (Option.some Jvm.ClassFile.FieldType.int)) ∈ lw_all := lw_g (lw_at lw_m8 191 rfl) rfl
theorem q1987 : (Jvm.Cond.unhidden "LabelPlacer$AddPoint" "isSigned" "()Z") ∈ lw_tbl := lw_at lw_m8 218 rfl
theorem q2010 : (Jvm.Cond.selects "LabelPlacer$AddPoint" ({ cls := "LabelPlacer$Command", name := "run", desc := "(LLabelPlacer;[I)I" } : Jvm.MethodName) ({ cls := "LabelPlacer$AddPoint", name := "run", desc := "(LLabelPlacer;[I)I" } : Jvm.MethodName)) ∈ lw_all := lw_g (lw_at lw_m9 1 rfl) rfl
theorem q2011 : (Jvm.Cond.unhidden "LabelPlacer$AddPoint" "run" "(LLabelPlacer;[I)I") ∈ lw_tbl := lw_at lw_m9 2 rfl
theorem q2012 : (Jvm.Cond.instanceMethod ({ cls := "LabelPlacer$AddPoint", name := "run", desc := "(LLabelPlacer;[I)I" } : Jvm.MethodName)) ∈ lw_all := lw_g (lw_at lw_m9 3 rfl) rfl
theorem q2013 : (Jvm.Cond.publicMethod ({ cls := "LabelPlacer$AddPoint", name := "run", desc := "(LLabelPlacer;[I)I" } : Jvm.MethodName)) ∈ lw_tbl := lw_at lw_m9 4 rfl
theorem q2014 : (Jvm.Cond.code ({ cls := "LabelPlacer$AddPoint", name := "run", desc := "(LLabelPlacer;[I)I" } : Jvm.MethodName) prog_2_method_3_code (3 : Nat) (Option.some Jvm.ClassFile.FieldType.int)) ∈ lw_all := lw_g (lw_at lw_m9 5 rfl) rfl
theorem q2015 : (Jvm.Cond.methodLink "LabelPlacer$AddPoint" (9 : Nat) ({ cls := "LabelPlacer", name := "addPoint", desc := "(IIIIII)I" } : Jvm.MethodName)) ∈ lw_all := lw_g (lw_at lw_m9 6 rfl) rfl
theorem q2478 : (Jvm.Cond.castable "LabelPlacer$AddPoint" "java/lang/Object") ∈ lw_tbl := lw_at lw_m10 229 rfl

/-! LabelPlacer$SetWindow -/
set_option maxRecDepth 100000
def RX11 : String := "LabelPlacer$SetWindow"
abbrev cX11_init : ByteArray := prog_12_method_1_code
def yX11_init : MethodName := ⟨RX11, "<init>", "()V"⟩
theorem dX11_init_0 : decode cX11_init 0 = .ok (.aload_n 0, 1) := by decide +kernel
theorem dX11_init_1 : decode cX11_init 1 = .ok (.invokespecial 1, 3) := by decide +kernel
theorem dX11_init_4 : decode cX11_init 4 = .ok (.return_, 1) := by decide +kernel
abbrev cX11_numbers : ByteArray := prog_12_method_2_code
def yX11_numbers : MethodName := ⟨RX11, "numbers", "()I"⟩
theorem dX11_numbers_0 : decode cX11_numbers 0 = .ok (.iconst 4, 1) := by decide +kernel
theorem dX11_numbers_1 : decode cX11_numbers 1 = .ok (.ireturn, 1) := by decide +kernel
abbrev cX11_run : ByteArray := prog_12_method_3_code
def yX11_run : MethodName := ⟨RX11, "run", "(LLabelPlacer;[I)I"⟩
def dkwX11_run_0 : List UInt8 := [43, 44, 3, 46, 44, 4, 46, 44, 5, 46, 44, 6, 46, 182, 0, 7, 172]
abbrev dktX11_run_0 : List UInt8 := dkwX11_run_0 ++ []
theorem dksX11_run_0 : cX11_run.data.toList.drop 0 = dktX11_run_0 := by decide +kernel
theorem dX11_run_0 : decode cX11_run 0 = .ok (.aload_n 1, 1) := dk_43 (dk_at dksX11_run_0 0 rfl rfl)
theorem dX11_run_1 : decode cX11_run 1 = .ok (.aload_n 2, 1) := dk_44 (dk_at dksX11_run_0 1 rfl rfl)
theorem dX11_run_2 : decode cX11_run 2 = .ok (.iconst 0, 1) := dk_3 (dk_at dksX11_run_0 2 rfl rfl)
theorem dX11_run_3 : decode cX11_run 3 = .ok (.iaload, 1) := dk_46 (dk_at dksX11_run_0 3 rfl rfl)
theorem dX11_run_4 : decode cX11_run 4 = .ok (.aload_n 2, 1) := dk_44 (dk_at dksX11_run_0 4 rfl rfl)
theorem dX11_run_5 : decode cX11_run 5 = .ok (.iconst 1, 1) := dk_4 (dk_at dksX11_run_0 5 rfl rfl)
theorem dX11_run_6 : decode cX11_run 6 = .ok (.iaload, 1) := dk_46 (dk_at dksX11_run_0 6 rfl rfl)
theorem dX11_run_7 : decode cX11_run 7 = .ok (.aload_n 2, 1) := dk_44 (dk_at dksX11_run_0 7 rfl rfl)
theorem dX11_run_8 : decode cX11_run 8 = .ok (.iconst 2, 1) := dk_5 (dk_at dksX11_run_0 8 rfl rfl)
theorem dX11_run_9 : decode cX11_run 9 = .ok (.iaload, 1) := dk_46 (dk_at dksX11_run_0 9 rfl rfl)
theorem dX11_run_10 : decode cX11_run 10 = .ok (.aload_n 2, 1) := dk_44 (dk_at dksX11_run_0 10 rfl rfl)
theorem dX11_run_11 : decode cX11_run 11 = .ok (.iconst 3, 1) := dk_6 (dk_at dksX11_run_0 11 rfl rfl)
theorem dX11_run_12 : decode cX11_run 12 = .ok (.iaload, 1) := dk_46 (dk_at dksX11_run_0 12 rfl rfl)
theorem dX11_run_13 : decode cX11_run 13 = .ok (.invokevirtual 7, 3) := dk_182 0 7 (dk_at dksX11_run_0 13 rfl rfl)
theorem dX11_run_16 : decode cX11_run 16 = .ok (.ireturn, 1) := dk_172 (dk_at dksX11_run_0 16 rfl rfl)
theorem q138 : (Jvm.Cond.initialized "LabelPlacer$SetWindow") ∈ lw_all := lw_g (lw_at lw_m1 49 rfl) rfl
theorem q368 : (Jvm.Cond.selects "LabelPlacer$SetWindow" ({ cls := "java/lang/Object", name := "getClass", desc := "()Ljava/lang/Class;" } : Jvm.MethodName) ({ cls := "java/lang/Object", name := "getClass", desc := "()Ljava/lang/Class;" } : Jvm.MethodName)) ∈ lw_all := lw_g (lw_at lw_m2 39 rfl) rfl
theorem q531 : (Jvm.Cond.selects "LabelPlacer$SetWindow" ({ cls := "java/lang/Object", name := "hashCode", desc := "()I" } : Jvm.MethodName) ({ cls := "java/lang/Object", name := "hashCode", desc := "()I" } : Jvm.MethodName)) ∈ lw_all := lw_g (lw_at lw_m2 202 rfl) rfl
theorem q966 : (Jvm.Cond.selects "LabelPlacer$SetWindow" ({ cls := "java/lang/Object", name := "equals", desc := "(Ljava/lang/Object;)Z" } : Jvm.MethodName) ({ cls := "java/lang/Object", name := "equals", desc := "(Ljava/lang/Object;)Z" } : Jvm.MethodName)) ∈ lw_all := lw_g (lw_at lw_m4 157 rfl) rfl
theorem q1865 : (Jvm.Cond.instantiable "LabelPlacer$SetWindow" (0 : Nat)) ∈ lw_all := lw_g (lw_at lw_m8 96 rfl) rfl
theorem q1867 : (Jvm.Cond.instanceMethod ({ cls := "LabelPlacer$SetWindow", name := "<init>", desc := "()V" } : Jvm.MethodName)) ∈ lw_all := lw_g (lw_at lw_m8 98 rfl) rfl
theorem q1868 : (Jvm.Cond.code ({ cls := "LabelPlacer$SetWindow", name := "<init>", desc := "()V" } : Jvm.MethodName) prog_12_method_1_code (1 : Nat) (Option.none : Option Jvm.ClassFile.FieldType)) ∈ lw_all := lw_g (lw_at lw_m8 99 rfl) rfl
theorem q1869 : (Jvm.Cond.methodLink "LabelPlacer$SetWindow" (1 : Nat) ({ cls := "java/lang/Object", name := "<init>", desc := "()V" } : Jvm.MethodName)) ∈ lw_all := lw_g (lw_at lw_m8 100 rfl) rfl
theorem q1870 : (Jvm.Cond.superclass "LabelPlacer$SetWindow" "java/lang/Object") ∈ lw_all := lw_g (lw_at lw_m8 101 rfl) rfl
theorem q1967 : (Jvm.Cond.castable "LabelPlacer$SetWindow" "LabelPlacer$Command") ∈ lw_tbl := lw_at lw_m8 198 rfl
theorem q1968 : (Jvm.Cond.selects "LabelPlacer$SetWindow" ({ cls := "LabelPlacer$Command", name := "numbers", desc := "()I" } : Jvm.MethodName) ({ cls := "LabelPlacer$SetWindow", name := "numbers", desc := "()I" } : Jvm.MethodName)) ∈ lw_all := lw_g (lw_at lw_m8 199 rfl) rfl
theorem q1969 : (Jvm.Cond.unhidden "LabelPlacer$SetWindow" "numbers" "()I") ∈ lw_tbl := lw_at lw_m8 200 rfl
theorem q1970 : (Jvm.Cond.instanceMethod ({ cls := "LabelPlacer$SetWindow", name := "numbers", desc := "()I" } : Jvm.MethodName)) ∈ lw_all := lw_g (lw_at lw_m8 201 rfl) rfl
theorem q1971 : (Jvm.Cond.publicMethod ({ cls := "LabelPlacer$SetWindow", name := "numbers", desc := "()I" } : Jvm.MethodName)) ∈ lw_tbl := lw_at lw_m8 202 rfl
theorem q1972 : (Jvm.Cond.code ({ cls := "LabelPlacer$SetWindow", name := "numbers", desc := "()I" } : Jvm.MethodName) prog_12_method_2_code (1 : Nat) (Option.some Jvm.ClassFile.FieldType.int)) ∈ lw_all := lw_g (lw_at lw_m8 203 rfl) rfl
theorem q1996 : (Jvm.Cond.unhidden "LabelPlacer$SetWindow" "isSigned" "()Z") ∈ lw_tbl := lw_at lw_m8 227 rfl
theorem q2022 : (Jvm.Cond.selects "LabelPlacer$SetWindow" ({ cls := "LabelPlacer$Command", name := "run", desc := "(LLabelPlacer;[I)I" } : Jvm.MethodName) ({ cls := "LabelPlacer$SetWindow", name := "run", desc := "(LLabelPlacer;[I)I" } : Jvm.MethodName)) ∈ lw_all := lw_g (lw_at lw_m9 13 rfl) rfl
theorem q2023 : (Jvm.Cond.unhidden "LabelPlacer$SetWindow" "run" "(LLabelPlacer;[I)I") ∈ lw_tbl := lw_at lw_m9 14 rfl
theorem q2024 : (Jvm.Cond.instanceMethod ({ cls := "LabelPlacer$SetWindow", name := "run", desc := "(LLabelPlacer;[I)I" } : Jvm.MethodName)) ∈ lw_all := lw_g (lw_at lw_m9 15 rfl) rfl
theorem q2025 : (Jvm.Cond.publicMethod ({ cls := "LabelPlacer$SetWindow", name := "run", desc := "(LLabelPlacer;[I)I" } : Jvm.MethodName)) ∈ lw_tbl := lw_at lw_m9 16 rfl
theorem q2026 : (Jvm.Cond.code ({ cls := "LabelPlacer$SetWindow", name := "run", desc := "(LLabelPlacer;[I)I" } : Jvm.MethodName) prog_12_method_3_code (3 : Nat) (Option.some Jvm.ClassFile.FieldType.int)) ∈ lw_all := lw_g (lw_at lw_m9 17 rfl) rfl
theorem q2027 : (Jvm.Cond.methodLink "LabelPlacer$SetWindow" (7 : Nat) ({ cls := "LabelPlacer", name := "setWindow", desc := "(IIII)I" } : Jvm.MethodName)) ∈ lw_all := lw_g (lw_at lw_m9 18 rfl) rfl
theorem q2479 : (Jvm.Cond.castable "LabelPlacer$SetWindow" "java/lang/Object") ∈ lw_tbl := lw_at lw_m10 230 rfl

/-! LabelPlacer$Pan -/
set_option maxRecDepth 100000
def RX12 : String := "LabelPlacer$Pan"
abbrev cX12_init : ByteArray := prog_9_method_1_code
def yX12_init : MethodName := ⟨RX12, "<init>", "()V"⟩
theorem dX12_init_0 : decode cX12_init 0 = .ok (.aload_n 0, 1) := by decide +kernel
theorem dX12_init_1 : decode cX12_init 1 = .ok (.invokespecial 1, 3) := by decide +kernel
theorem dX12_init_4 : decode cX12_init 4 = .ok (.return_, 1) := by decide +kernel
abbrev cX12_numbers : ByteArray := prog_9_method_2_code
def yX12_numbers : MethodName := ⟨RX12, "numbers", "()I"⟩
theorem dX12_numbers_0 : decode cX12_numbers 0 = .ok (.iconst 2, 1) := by decide +kernel
theorem dX12_numbers_1 : decode cX12_numbers 1 = .ok (.ireturn, 1) := by decide +kernel
abbrev cX12_isSigned : ByteArray := prog_9_method_3_code
def yX12_isSigned : MethodName := ⟨RX12, "isSigned", "()Z"⟩
theorem dX12_isSigned_0 : decode cX12_isSigned 0 = .ok (.iconst 1, 1) := by decide +kernel
theorem dX12_isSigned_1 : decode cX12_isSigned 1 = .ok (.ireturn, 1) := by decide +kernel
abbrev cX12_run : ByteArray := prog_9_method_4_code
def yX12_run : MethodName := ⟨RX12, "run", "(LLabelPlacer;[I)I"⟩
def dkwX12_run_0 : List UInt8 := [43, 44, 3, 46, 44, 4, 46, 182, 0, 7, 172]
abbrev dktX12_run_0 : List UInt8 := dkwX12_run_0 ++ []
theorem dksX12_run_0 : cX12_run.data.toList.drop 0 = dktX12_run_0 := by decide +kernel
theorem dX12_run_0 : decode cX12_run 0 = .ok (.aload_n 1, 1) := dk_43 (dk_at dksX12_run_0 0 rfl rfl)
theorem dX12_run_1 : decode cX12_run 1 = .ok (.aload_n 2, 1) := dk_44 (dk_at dksX12_run_0 1 rfl rfl)
theorem dX12_run_2 : decode cX12_run 2 = .ok (.iconst 0, 1) := dk_3 (dk_at dksX12_run_0 2 rfl rfl)
theorem dX12_run_3 : decode cX12_run 3 = .ok (.iaload, 1) := dk_46 (dk_at dksX12_run_0 3 rfl rfl)
theorem dX12_run_4 : decode cX12_run 4 = .ok (.aload_n 2, 1) := dk_44 (dk_at dksX12_run_0 4 rfl rfl)
theorem dX12_run_5 : decode cX12_run 5 = .ok (.iconst 1, 1) := dk_4 (dk_at dksX12_run_0 5 rfl rfl)
theorem dX12_run_6 : decode cX12_run 6 = .ok (.iaload, 1) := dk_46 (dk_at dksX12_run_0 6 rfl rfl)
theorem dX12_run_7 : decode cX12_run 7 = .ok (.invokevirtual 7, 3) := dk_182 0 7 (dk_at dksX12_run_0 7 rfl rfl)
theorem dX12_run_10 : decode cX12_run 10 = .ok (.ireturn, 1) := dk_172 (dk_at dksX12_run_0 10 rfl rfl)
theorem q139 : (Jvm.Cond.initialized "LabelPlacer$Pan") ∈ lw_all := lw_g (lw_at lw_m1 50 rfl) rfl
theorem q365 : (Jvm.Cond.selects "LabelPlacer$Pan" ({ cls := "java/lang/Object", name := "getClass", desc := "()Ljava/lang/Class;" } : Jvm.MethodName) ({ cls := "java/lang/Object", name := "getClass", desc := "()Ljava/lang/Class;" } : Jvm.MethodName)) ∈ lw_all := lw_g (lw_at lw_m2 36 rfl) rfl
theorem q528 : (Jvm.Cond.selects "LabelPlacer$Pan" ({ cls := "java/lang/Object", name := "hashCode", desc := "()I" } : Jvm.MethodName) ({ cls := "java/lang/Object", name := "hashCode", desc := "()I" } : Jvm.MethodName)) ∈ lw_all := lw_g (lw_at lw_m2 199 rfl) rfl
theorem q963 : (Jvm.Cond.selects "LabelPlacer$Pan" ({ cls := "java/lang/Object", name := "equals", desc := "(Ljava/lang/Object;)Z" } : Jvm.MethodName) ({ cls := "java/lang/Object", name := "equals", desc := "(Ljava/lang/Object;)Z" } : Jvm.MethodName)) ∈ lw_all := lw_g (lw_at lw_m4 154 rfl) rfl
theorem q1872 : (Jvm.Cond.instantiable "LabelPlacer$Pan" (0 : Nat)) ∈ lw_all := lw_g (lw_at lw_m8 103 rfl) rfl
theorem q1874 : (Jvm.Cond.instanceMethod ({ cls := "LabelPlacer$Pan", name := "<init>", desc := "()V" } : Jvm.MethodName)) ∈ lw_all := lw_g (lw_at lw_m8 105 rfl) rfl
theorem q1875 : (Jvm.Cond.code ({ cls := "LabelPlacer$Pan", name := "<init>", desc := "()V" } : Jvm.MethodName) prog_9_method_1_code (1 : Nat) (Option.none : Option Jvm.ClassFile.FieldType)) ∈ lw_all := lw_g (lw_at lw_m8 106 rfl) rfl
theorem q1876 : (Jvm.Cond.methodLink "LabelPlacer$Pan" (1 : Nat) ({ cls := "java/lang/Object", name := "<init>", desc := "()V" } : Jvm.MethodName)) ∈ lw_all := lw_g (lw_at lw_m8 107 rfl) rfl
theorem q1877 : (Jvm.Cond.superclass "LabelPlacer$Pan" "java/lang/Object") ∈ lw_all := lw_g (lw_at lw_m8 108 rfl) rfl
theorem q1961 : (Jvm.Cond.castable "LabelPlacer$Pan" "LabelPlacer$Command") ∈ lw_tbl := lw_at lw_m8 192 rfl
theorem q1962 : (Jvm.Cond.selects "LabelPlacer$Pan" ({ cls := "LabelPlacer$Command", name := "numbers", desc := "()I" } : Jvm.MethodName) ({ cls := "LabelPlacer$Pan", name := "numbers", desc := "()I" } : Jvm.MethodName)) ∈ lw_all := lw_g (lw_at lw_m8 193 rfl) rfl
theorem q1963 : (Jvm.Cond.unhidden "LabelPlacer$Pan" "numbers" "()I") ∈ lw_tbl := lw_at lw_m8 194 rfl
theorem q1964 : (Jvm.Cond.instanceMethod ({ cls := "LabelPlacer$Pan", name := "numbers", desc := "()I" } : Jvm.MethodName)) ∈ lw_all := lw_g (lw_at lw_m8 195 rfl) rfl
theorem q1965 : (Jvm.Cond.publicMethod ({ cls := "LabelPlacer$Pan", name := "numbers", desc := "()I" } : Jvm.MethodName)) ∈ lw_tbl := lw_at lw_m8 196 rfl
theorem q1966 : (Jvm.Cond.code ({ cls := "LabelPlacer$Pan", name := "numbers", desc := "()I" } : Jvm.MethodName) prog_9_method_2_code (1 : Nat) (Option.some Jvm.ClassFile.FieldType.int)) ∈ lw_all := lw_g (lw_at lw_m8 197 rfl) rfl
theorem q1991 : (Jvm.Cond.selects "LabelPlacer$Pan" ({ cls := "LabelPlacer$Command", name := "isSigned", desc := "()Z" } : Jvm.MethodName) ({ cls := "LabelPlacer$Pan", name := "isSigned", desc := "()Z" } : Jvm.MethodName)) ∈ lw_all := lw_g (lw_at lw_m8 222 rfl) rfl
theorem q1992 : (Jvm.Cond.unhidden "LabelPlacer$Pan" "isSigned" "()Z") ∈ lw_tbl := lw_at lw_m8 223 rfl
theorem q1993 : (Jvm.Cond.instanceMethod ({ cls := "LabelPlacer$Pan", name := "isSigned", desc := "()Z" } : Jvm.MethodName)) ∈ lw_all := lw_g (lw_at lw_m8 224 rfl) rfl
theorem q1994 : (Jvm.Cond.publicMethod ({ cls := "LabelPlacer$Pan", name := "isSigned", desc := "()Z" } : Jvm.MethodName)) ∈ lw_tbl := lw_at lw_m8 225 rfl
theorem q1995 : (Jvm.Cond.code ({ cls := "LabelPlacer$Pan", name := "isSigned", desc := "()Z" } : Jvm.MethodName) prog_9_method_3_code (1 : Nat) (Option.some Jvm.ClassFile.FieldType.boolean)) ∈ lw_all := lw_g (lw_at lw_m8 226 rfl) rfl
theorem q2016 : (Jvm.Cond.selects "LabelPlacer$Pan" ({ cls := "LabelPlacer$Command", name := "run", desc := "(LLabelPlacer;[I)I" } : Jvm.MethodName) ({ cls := "LabelPlacer$Pan", name := "run", desc := "(LLabelPlacer;[I)I" } : Jvm.MethodName)) ∈ lw_all := lw_g (lw_at lw_m9 7 rfl) rfl
theorem q2017 : (Jvm.Cond.unhidden "LabelPlacer$Pan" "run" "(LLabelPlacer;[I)I") ∈ lw_tbl := lw_at lw_m9 8 rfl
theorem q2018 : (Jvm.Cond.instanceMethod ({ cls := "LabelPlacer$Pan", name := "run", desc := "(LLabelPlacer;[I)I" } : Jvm.MethodName)) ∈ lw_all := lw_g (lw_at lw_m9 9 rfl) rfl
theorem q2019 : (Jvm.Cond.publicMethod ({ cls := "LabelPlacer$Pan", name := "run", desc := "(LLabelPlacer;[I)I" } : Jvm.MethodName)) ∈ lw_tbl := lw_at lw_m9 10 rfl
theorem q2020 : (Jvm.Cond.code ({ cls := "LabelPlacer$Pan", name := "run", desc := "(LLabelPlacer;[I)I" } : Jvm.MethodName) prog_9_method_4_code (3 : Nat) (Option.some Jvm.ClassFile.FieldType.int)) ∈ lw_all := lw_g (lw_at lw_m9 11 rfl) rfl
theorem q2021 : (Jvm.Cond.methodLink "LabelPlacer$Pan" (7 : Nat) ({ cls := "LabelPlacer", name := "pan", desc := "(II)I" } : Jvm.MethodName)) ∈ lw_all := lw_g (lw_at lw_m9 12 rfl) rfl
theorem q2480 : (Jvm.Cond.castable "LabelPlacer$Pan" "java/lang/Object") ∈ lw_tbl := lw_at lw_m10 231 rfl

/-! LabelPlacer$Simple -/
set_option maxRecDepth 100000
def RX13 : String := "LabelPlacer$Simple"
def TX13 : u_T := fun k => match k with
  | _ => ("LabelPlacer$Simple", "what", "C", true)
def tyX13 : Nat → FieldType := fun k => match k with
  | _ => .char
abbrev wsX130 : List Cond := u_ws RX13 TX13 1
theorem nmX13 : ∀ a, a < 1 → ∀ b, b < 1 → a ≠ b → (TX13 a).2.1 ≠ (TX13 b).2.1 := by decide +kernel
theorem tyX13_ok : ∀ k, k < 1 → parseFieldDescriptor (TX13 k).2.2.1 = some (tyX13 k) := by decide +kernel
abbrev cX13_init : ByteArray := prog_13_method_1_code
def yX13_init : MethodName := ⟨RX13, "<init>", "(C)V"⟩
def dkwX13_init_0 : List UInt8 := [42, 183, 0, 1, 42, 27, 181, 0, 7, 177]
abbrev dktX13_init_0 : List UInt8 := dkwX13_init_0 ++ []
theorem dksX13_init_0 : cX13_init.data.toList.drop 0 = dktX13_init_0 := by decide +kernel
theorem dX13_init_0 : decode cX13_init 0 = .ok (.aload_n 0, 1) := dk_42 (dk_at dksX13_init_0 0 rfl rfl)
theorem dX13_init_1 : decode cX13_init 1 = .ok (.invokespecial 1, 3) := dk_183 0 1 (dk_at dksX13_init_0 1 rfl rfl)
theorem dX13_init_4 : decode cX13_init 4 = .ok (.aload_n 0, 1) := dk_42 (dk_at dksX13_init_0 4 rfl rfl)
theorem dX13_init_5 : decode cX13_init 5 = .ok (.iload_n 1, 1) := dk_27 (dk_at dksX13_init_0 5 rfl rfl)
theorem dX13_init_6 : decode cX13_init 6 = .ok (.putfield 7, 3) := dk_181 0 7 (dk_at dksX13_init_0 6 rfl rfl)
theorem dX13_init_9 : decode cX13_init 9 = .ok (.return_, 1) := dk_177 (dk_at dksX13_init_0 9 rfl rfl)
abbrev cX13_numbers : ByteArray := prog_13_method_2_code
def yX13_numbers : MethodName := ⟨RX13, "numbers", "()I"⟩
theorem dX13_numbers_0 : decode cX13_numbers 0 = .ok (.iconst 0, 1) := by decide +kernel
theorem dX13_numbers_1 : decode cX13_numbers 1 = .ok (.ireturn, 1) := by decide +kernel
abbrev cX13_run : ByteArray := prog_13_method_3_code
def yX13_run : MethodName := ⟨RX13, "run", "(LLabelPlacer;[I)I"⟩
def dkwX13_run_1 : List UInt8 := [160, 0, 10, 43, 182, 0, 19, 167, 0, 7, 43, 182, 0, 22, 172]
abbrev dktX13_run_1 : List UInt8 := dkwX13_run_1 ++ []
def dkwX13_run_0 : List UInt8 := [42, 180, 0, 7, 16, 108, 160, 0, 10, 43, 182, 0, 13, 167, 0, 23, 42, 180, 0, 7, 16, 105]
abbrev dktX13_run_0 : List UInt8 := dkwX13_run_0 ++ dktX13_run_1
theorem dksX13_run_0 : cX13_run.data.toList.drop 0 = dktX13_run_0 := by decide +kernel
theorem dksX13_run_1 : cX13_run.data.toList.drop 22 = dktX13_run_1 := dk_seg dksX13_run_0 22 rfl rfl
theorem dX13_run_0 : decode cX13_run 0 = .ok (.aload_n 0, 1) := dk_42 (dk_at dksX13_run_0 0 rfl rfl)
theorem dX13_run_1 : decode cX13_run 1 = .ok (.getfield 7, 3) := dk_180 0 7 (dk_at dksX13_run_0 1 rfl rfl)
theorem dX13_run_4 : decode cX13_run 4 = .ok (.bipush 108, 2) := dk_16 108 (dk_at dksX13_run_0 4 rfl rfl)
theorem dX13_run_6 : decode cX13_run 6 = .ok (.if_icmp .ne 10, 3) := dk_160 0 10 (dk_at dksX13_run_0 6 rfl rfl)
theorem dX13_run_9 : decode cX13_run 9 = .ok (.aload_n 1, 1) := dk_43 (dk_at dksX13_run_0 9 rfl rfl)
theorem dX13_run_10 : decode cX13_run 10 = .ok (.invokevirtual 13, 3) := dk_182 0 13 (dk_at dksX13_run_0 10 rfl rfl)
theorem dX13_run_13 : decode cX13_run 13 = .ok (.goto 23, 3) := dk_167 0 23 (dk_at dksX13_run_0 13 rfl rfl)
theorem dX13_run_16 : decode cX13_run 16 = .ok (.aload_n 0, 1) := dk_42 (dk_at dksX13_run_0 16 rfl rfl)
theorem dX13_run_17 : decode cX13_run 17 = .ok (.getfield 7, 3) := dk_180 0 7 (dk_at dksX13_run_0 17 rfl rfl)
theorem dX13_run_20 : decode cX13_run 20 = .ok (.bipush 105, 2) := dk_16 105 (dk_at dksX13_run_0 20 rfl rfl)
theorem dX13_run_22 : decode cX13_run 22 = .ok (.if_icmp .ne 10, 3) := dk_160 0 10 (dk_at dksX13_run_1 0 rfl rfl)
theorem dX13_run_25 : decode cX13_run 25 = .ok (.aload_n 1, 1) := dk_43 (dk_at dksX13_run_1 3 rfl rfl)
theorem dX13_run_26 : decode cX13_run 26 = .ok (.invokevirtual 19, 3) := dk_182 0 19 (dk_at dksX13_run_1 4 rfl rfl)
theorem dX13_run_29 : decode cX13_run 29 = .ok (.goto 7, 3) := dk_167 0 7 (dk_at dksX13_run_1 7 rfl rfl)
theorem dX13_run_32 : decode cX13_run 32 = .ok (.aload_n 1, 1) := dk_43 (dk_at dksX13_run_1 10 rfl rfl)
theorem dX13_run_33 : decode cX13_run 33 = .ok (.invokevirtual 22, 3) := dk_182 0 22 (dk_at dksX13_run_1 11 rfl rfl)
theorem dX13_run_36 : decode cX13_run 36 = .ok (.ireturn, 1) := dk_172 (dk_at dksX13_run_1 14 rfl rfl)
theorem q140 : (Jvm.Cond.initialized "LabelPlacer$Simple") ∈ lw_all := lw_g (lw_at lw_m1 51 rfl) rfl
theorem q369 : (Jvm.Cond.selects "LabelPlacer$Simple" ({ cls := "java/lang/Object", name := "getClass", desc := "()Ljava/lang/Class;" } : Jvm.MethodName) ({ cls := "java/lang/Object", name := "getClass", desc := "()Ljava/lang/Class;" } : Jvm.MethodName)) ∈ lw_all := lw_g (lw_at lw_m2 40 rfl) rfl
theorem q532 : (Jvm.Cond.selects "LabelPlacer$Simple" ({ cls := "java/lang/Object", name := "hashCode", desc := "()I" } : Jvm.MethodName) ({ cls := "java/lang/Object", name := "hashCode", desc := "()I" } : Jvm.MethodName)) ∈ lw_all := lw_g (lw_at lw_m2 203 rfl) rfl
theorem q967 : (Jvm.Cond.selects "LabelPlacer$Simple" ({ cls := "java/lang/Object", name := "equals", desc := "(Ljava/lang/Object;)Z" } : Jvm.MethodName) ({ cls := "java/lang/Object", name := "equals", desc := "(Ljava/lang/Object;)Z" } : Jvm.MethodName)) ∈ lw_all := lw_g (lw_at lw_m4 158 rfl) rfl
theorem q1879 : (Jvm.Cond.instantiable "LabelPlacer$Simple" (1 : Nat)) ∈ lw_all := lw_g (lw_at lw_m8 110 rfl) rfl
theorem q1881 : (Jvm.Cond.instanceMethod ({ cls := "LabelPlacer$Simple", name := "<init>", desc := "(C)V" } : Jvm.MethodName)) ∈ lw_all := lw_g (lw_at lw_m8 112 rfl) rfl
theorem q1882 : (Jvm.Cond.code ({ cls := "LabelPlacer$Simple", name := "<init>", desc := "(C)V" } : Jvm.MethodName) prog_13_method_1_code (2 : Nat) (Option.none : Option Jvm.ClassFile.FieldType)) ∈ lw_all := lw_g (lw_at lw_m8 113 rfl) rfl
theorem q1883 : (Jvm.Cond.methodLink "LabelPlacer$Simple" (1 : Nat) ({ cls := "java/lang/Object", name := "<init>", desc := "()V" } : Jvm.MethodName)) ∈ lw_all := lw_g (lw_at lw_m8 114 rfl) rfl
theorem q1884 : (Jvm.Cond.fieldLink "LabelPlacer$Simple" (7 : Nat) "LabelPlacer$Simple" "what" "C") ∈ lw_all := lw_g (lw_at lw_m8 115 rfl) rfl
theorem q1885 : (Jvm.Cond.laysFinal "LabelPlacer$Simple" "LabelPlacer$Simple" "what" "C") ∈ lw_all := lw_g (lw_at lw_m8 116 rfl) rfl
theorem q1886 : (Jvm.Cond.soleField "LabelPlacer$Simple" "what") ∈ lw_all := lw_g (lw_at lw_m8 117 rfl) rfl
theorem q1887 : (Jvm.Cond.superclass "LabelPlacer$Simple" "java/lang/Object") ∈ lw_all := lw_g (lw_at lw_m8 118 rfl) rfl
theorem q1973 : (Jvm.Cond.castable "LabelPlacer$Simple" "LabelPlacer$Command") ∈ lw_tbl := lw_at lw_m8 204 rfl
theorem q1974 : (Jvm.Cond.selects "LabelPlacer$Simple" ({ cls := "LabelPlacer$Command", name := "numbers", desc := "()I" } : Jvm.MethodName) ({ cls := "LabelPlacer$Simple", name := "numbers", desc := "()I" } : Jvm.MethodName)) ∈ lw_all := lw_g (lw_at lw_m8 205 rfl) rfl
theorem q1975 : (Jvm.Cond.unhidden "LabelPlacer$Simple" "numbers" "()I") ∈ lw_tbl := lw_at lw_m8 206 rfl
theorem q1976 : (Jvm.Cond.instanceMethod ({ cls := "LabelPlacer$Simple", name := "numbers", desc := "()I" } : Jvm.MethodName)) ∈ lw_all := lw_g (lw_at lw_m8 207 rfl) rfl
theorem q1977 : (Jvm.Cond.publicMethod ({ cls := "LabelPlacer$Simple", name := "numbers", desc := "()I" } : Jvm.MethodName)) ∈ lw_tbl := lw_at lw_m8 208 rfl
theorem q1978 : (Jvm.Cond.code ({ cls := "LabelPlacer$Simple", name := "numbers", desc := "()I" } : Jvm.MethodName) prog_13_method_2_code (1 : Nat) (Option.some Jvm.ClassFile.FieldType.int)) ∈ lw_all := lw_g (lw_at lw_m8 209 rfl) rfl
theorem q1997 : (Jvm.Cond.unhidden "LabelPlacer$Simple" "isSigned" "()Z") ∈ lw_tbl := lw_at lw_m8 228 rfl
theorem q2028 : (Jvm.Cond.selects "LabelPlacer$Simple" ({ cls := "LabelPlacer$Command", name := "run", desc := "(LLabelPlacer;[I)I" } : Jvm.MethodName) ({ cls := "LabelPlacer$Simple", name := "run", desc := "(LLabelPlacer;[I)I" } : Jvm.MethodName)) ∈ lw_all := lw_g (lw_at lw_m9 19 rfl) rfl
theorem q2029 : (Jvm.Cond.unhidden "LabelPlacer$Simple" "run" "(LLabelPlacer;[I)I") ∈ lw_tbl := lw_at lw_m9 20 rfl
theorem q2030 : (Jvm.Cond.instanceMethod ({ cls := "LabelPlacer$Simple", name := "run", desc := "(LLabelPlacer;[I)I" } : Jvm.MethodName)) ∈ lw_all := lw_g (lw_at lw_m9 21 rfl) rfl
theorem q2031 : (Jvm.Cond.publicMethod ({ cls := "LabelPlacer$Simple", name := "run", desc := "(LLabelPlacer;[I)I" } : Jvm.MethodName)) ∈ lw_tbl := lw_at lw_m9 22 rfl
theorem q2032 : (Jvm.Cond.code ({ cls := "LabelPlacer$Simple", name := "run", desc := "(LLabelPlacer;[I)I" } : Jvm.MethodName) prog_13_method_3_code (3 : Nat) (Option.some Jvm.ClassFile.FieldType.int)) ∈ lw_all := lw_g (lw_at lw_m9 23 rfl) rfl
theorem q2033 : (Jvm.Cond.methodLink "LabelPlacer$Simple" (13 : Nat) ({ cls := "LabelPlacer", name := "fill", desc := "()I" } : Jvm.MethodName)) ∈ lw_all := lw_g (lw_at lw_m9 24 rfl) rfl
theorem q2034 : (Jvm.Cond.methodLink "LabelPlacer$Simple" (19 : Nat) ({ cls := "LabelPlacer", name := "improve", desc := "()I" } : Jvm.MethodName)) ∈ lw_all := lw_g (lw_at lw_m9 25 rfl) rfl
theorem q2035 : (Jvm.Cond.methodLink "LabelPlacer$Simple" (22 : Nat) ({ cls := "LabelPlacer", name := "hideAll", desc := "()I" } : Jvm.MethodName)) ∈ lw_all := lw_g (lw_at lw_m9 26 rfl) rfl
theorem q2481 : (Jvm.Cond.castable "LabelPlacer$Simple" "java/lang/Object") ∈ lw_tbl := lw_at lw_m10 232 rfl
theorem in_X13 : ∀ w ∈ wsX130, w ∈ lw_all := lw_in wsX130 [1885] (by decide +kernel) (by decide +kernel)

/-! LabelPlacer$TextFault -/
set_option maxRecDepth 100000
def RX14 : String := "LabelPlacer$TextFault"
def TX14 : u_T := fun k => match k with
  | 0 => ("java/lang/Throwable", "cause", "Ljava/lang/Throwable;", false)
  | 1 => ("java/lang/Throwable", "stackTrace", "[Ljava/lang/StackTraceElement;", false)
  | 2 => ("java/lang/Throwable", "suppressedExceptions", "Ljava/util/List;", false)
  | 3 => ("java/lang/Throwable", "detailMessage", "Ljava/lang/String;", false)
  | 4 => ("java/lang/Throwable", "backtrace", "Ljava/lang/Object;", false)
  | 5 => ("java/lang/Throwable", "depth", "I", false)
  | _ => ("LabelPlacer$TextFault", "index", "I", true)
def tyX14 : Nat → FieldType := fun k => match k with
  | 0 => .object "java/lang/Throwable"
  | 1 => .array (.object "java/lang/StackTraceElement")
  | 2 => .object "java/util/List"
  | 3 => .object "java/lang/String"
  | 4 => .object "java/lang/Object"
  | 5 => .int
  | _ => .int
abbrev wsX140 : List Cond := u_ws RX14 TX14 7
theorem nmX14 : ∀ a, a < 7 → ∀ b, b < 7 → a ≠ b → (TX14 a).2.1 ≠ (TX14 b).2.1 := by decide +kernel
theorem tyX14_ok : ∀ k, k < 7 → parseFieldDescriptor (TX14 k).2.2.1 = some (tyX14 k) := by decide +kernel
abbrev cX14_init : ByteArray := prog_15_method_1_code
def yX14_init : MethodName := ⟨RX14, "<init>", "(I)V"⟩
def dkwX14_init_0 : List UInt8 := [42, 1, 1, 3, 3, 183, 0, 1, 42, 27, 181, 0, 7, 177]
abbrev dktX14_init_0 : List UInt8 := dkwX14_init_0 ++ []
theorem dksX14_init_0 : cX14_init.data.toList.drop 0 = dktX14_init_0 := by decide +kernel
theorem dX14_init_0 : decode cX14_init 0 = .ok (.aload_n 0, 1) := dk_42 (dk_at dksX14_init_0 0 rfl rfl)
theorem dX14_init_1 : decode cX14_init 1 = .ok (.aconst_null, 1) := dk_1 (dk_at dksX14_init_0 1 rfl rfl)
theorem dX14_init_2 : decode cX14_init 2 = .ok (.aconst_null, 1) := dk_1 (dk_at dksX14_init_0 2 rfl rfl)
theorem dX14_init_3 : decode cX14_init 3 = .ok (.iconst 0, 1) := dk_3 (dk_at dksX14_init_0 3 rfl rfl)
theorem dX14_init_4 : decode cX14_init 4 = .ok (.iconst 0, 1) := dk_3 (dk_at dksX14_init_0 4 rfl rfl)
theorem dX14_init_5 : decode cX14_init 5 = .ok (.invokespecial 1, 3) := dk_183 0 1 (dk_at dksX14_init_0 5 rfl rfl)
theorem dX14_init_8 : decode cX14_init 8 = .ok (.aload_n 0, 1) := dk_42 (dk_at dksX14_init_0 8 rfl rfl)
theorem dX14_init_9 : decode cX14_init 9 = .ok (.iload_n 1, 1) := dk_27 (dk_at dksX14_init_0 9 rfl rfl)
theorem dX14_init_10 : decode cX14_init 10 = .ok (.putfield 7, 3) := dk_181 0 7 (dk_at dksX14_init_0 10 rfl rfl)
theorem dX14_init_13 : decode cX14_init 13 = .ok (.return_, 1) := dk_177 (dk_at dksX14_init_0 13 rfl rfl)
theorem q143 : (Jvm.Cond.initialized "LabelPlacer$TextFault") ∈ lw_all := lw_g (lw_at lw_m1 54 rfl) rfl
theorem q371 : (Jvm.Cond.selects "LabelPlacer$TextFault" ({ cls := "java/lang/Object", name := "getClass", desc := "()Ljava/lang/Class;" } : Jvm.MethodName) ({ cls := "java/lang/Object", name := "getClass", desc := "()Ljava/lang/Class;" } : Jvm.MethodName)) ∈ lw_all := lw_g (lw_at lw_m2 42 rfl) rfl
theorem q534 : (Jvm.Cond.selects "LabelPlacer$TextFault" ({ cls := "java/lang/Object", name := "hashCode", desc := "()I" } : Jvm.MethodName) ({ cls := "java/lang/Object", name := "hashCode", desc := "()I" } : Jvm.MethodName)) ∈ lw_all := lw_g (lw_at lw_m2 205 rfl) rfl
theorem q969 : (Jvm.Cond.selects "LabelPlacer$TextFault" ({ cls := "java/lang/Object", name := "equals", desc := "(Ljava/lang/Object;)Z" } : Jvm.MethodName) ({ cls := "java/lang/Object", name := "equals", desc := "(Ljava/lang/Object;)Z" } : Jvm.MethodName)) ∈ lw_all := lw_g (lw_at lw_m4 160 rfl) rfl
theorem q1889 : (Jvm.Cond.instantiable "LabelPlacer$TextFault" (7 : Nat)) ∈ lw_all := lw_g (lw_at lw_m8 120 rfl) rfl
theorem q1890 : (Jvm.Cond.castable "LabelPlacer$TextFault" "LabelPlacer$TextFault") ∈ lw_tbl := lw_at lw_m8 121 rfl
theorem q1895 : (Jvm.Cond.selects "LabelPlacer$TextFault" ({ cls := "java/lang/Throwable", name := "fillInStackTrace", desc := "(I)Ljava/lang/Throwable;" } : Jvm.MethodName) ({ cls := "java/lang/Throwable", name := "fillInStackTrace", desc := "(I)Ljava/lang/Throwable;" } : Jvm.MethodName)) ∈ lw_all := lw_g (lw_at lw_m8 126 rfl) rfl
theorem q1896 : (Jvm.Cond.selects "LabelPlacer$TextFault" ({ cls := "java/lang/Throwable", name := "fillInStackTrace", desc := "()Ljava/lang/Throwable;" } : Jvm.MethodName) ({ cls := "java/lang/Throwable", name := "fillInStackTrace", desc := "()Ljava/lang/Throwable;" } : Jvm.MethodName)) ∈ lw_all := lw_g (lw_at lw_m8 127 rfl) rfl
theorem q1897 : (Jvm.Cond.lays "LabelPlacer$TextFault" "java/lang/Throwable" "cause" "Ljava/lang/Throwable;") ∈ lw_all := lw_g (lw_at lw_m8 128 rfl) rfl
theorem q1899 : (Jvm.Cond.lays "LabelPlacer$TextFault" "java/lang/Throwable" "stackTrace" "[Ljava/lang/StackTraceElement;") ∈ lw_all := lw_g (lw_at lw_m8 130 rfl) rfl
theorem q1901 : (Jvm.Cond.lays "LabelPlacer$TextFault" "java/lang/Throwable" "suppressedExceptions" "Ljava/util/List;") ∈ lw_all := lw_g (lw_at lw_m8 132 rfl) rfl
theorem q1903 : (Jvm.Cond.lays "LabelPlacer$TextFault" "java/lang/Throwable" "detailMessage" "Ljava/lang/String;") ∈ lw_all := lw_g (lw_at lw_m8 134 rfl) rfl
theorem q1905 : (Jvm.Cond.lays "LabelPlacer$TextFault" "java/lang/Throwable" "backtrace" "Ljava/lang/Object;") ∈ lw_all := lw_g (lw_at lw_m8 136 rfl) rfl
theorem q1926 : (Jvm.Cond.instanceMethod ({ cls := "LabelPlacer$TextFault", name := "<init>", desc := "(I)V" } : Jvm.MethodName)) ∈ lw_all := lw_g (lw_at lw_m8 157 rfl) rfl
theorem q1927 : (Jvm.Cond.code ({ cls := "LabelPlacer$TextFault", name := "<init>", desc := "(I)V" } : Jvm.MethodName) prog_15_method_1_code (2 : Nat) (Option.none : Option Jvm.ClassFile.FieldType)) ∈ lw_all := lw_g (lw_at lw_m8 158 rfl) rfl
theorem q1928 : (Jvm.Cond.methodLink "LabelPlacer$TextFault" (1 : Nat) ({ cls := "java/lang/Exception", name := "<init>", desc := "(Ljava/lang/String;Ljava/lang/Throwable;ZZ)V" } : Jvm.MethodName)) ∈ lw_all := lw_g (lw_at lw_m8 159 rfl) rfl
theorem q1934 : (Jvm.Cond.fieldLink "LabelPlacer$TextFault" (7 : Nat) "LabelPlacer$TextFault" "index" "I") ∈ lw_all := lw_g (lw_at lw_m8 165 rfl) rfl
theorem q1941 : (Jvm.Cond.laysFinal "LabelPlacer$TextFault" "LabelPlacer$TextFault" "index" "I") ∈ lw_all := lw_g (lw_at lw_m8 172 rfl) rfl
theorem q1942 : (Jvm.Cond.soleField "LabelPlacer$TextFault" "index") ∈ lw_all := lw_g (lw_at lw_m8 173 rfl) rfl
theorem q1947 : (Jvm.Cond.lays "LabelPlacer$TextFault" "java/lang/Throwable" "depth" "I") ∈ lw_all := lw_g (lw_at lw_m8 178 rfl) rfl
theorem q1950 : (Jvm.Cond.superclass "LabelPlacer$TextFault" "java/lang/Exception") ∈ lw_all := lw_g (lw_at lw_m8 181 rfl) rfl
theorem q2482 : (Jvm.Cond.castable "LabelPlacer$TextFault" "java/lang/Object") ∈ lw_tbl := lw_at lw_m10 233 rfl
theorem in_X14 : ∀ w ∈ wsX140, w ∈ lw_all := lw_in wsX140 [1897, 1899, 1901, 1903, 1905, 1947, 1941] (by decide +kernel) (by decide +kernel)
theorem q89 : (Jvm.Cond.initialized "LabelPlacerLaw") ∈ lw_all := lw_g (lw_at lw_m1 0 rfl) rfl
set_option maxRecDepth 100000
theorem q144 : (Jvm.Cond.classLink "LabelPlacerLaw" (7 : Nat) "LabelPlacer") ∈ lw_all := lw_g (lw_at lw_m1 55 rfl) rfl
theorem q146 : (Jvm.Cond.methodLink "LabelPlacerLaw" (9 : Nat) ({ cls := "LabelPlacer", name := "<init>", desc := "()V" } : Jvm.MethodName)) ∈ lw_all := lw_g (lw_at lw_m1 57 rfl) rfl
theorem q260 : (Jvm.Cond.methodLink "LabelPlacerLaw" (13 : Nat) ({ cls := "LabelPlacer", name := "addPoint", desc := "(IIIIII)I" } : Jvm.MethodName)) ∈ lw_all := lw_g (lw_at lw_m1 171 rfl) rfl
theorem q1083 : (Jvm.Cond.methodLink "LabelPlacerLaw" (18 : Nat) ({ cls := "LabelPlacer", name := "removePoint", desc := "(I)I" } : Jvm.MethodName)) ∈ lw_all := lw_g (lw_at lw_m5 34 rfl) rfl
theorem q1100 : (Jvm.Cond.methodLink "LabelPlacerLaw" (23 : Nat) ({ cls := "LabelPlacer", name := "setPoint", desc := "(III)I" } : Jvm.MethodName)) ∈ lw_all := lw_g (lw_at lw_m5 51 rfl) rfl
theorem q1199 : (Jvm.Cond.methodLink "LabelPlacerLaw" (28 : Nat) ({ cls := "LabelPlacer", name := "point", desc := "(II)I" } : Jvm.MethodName)) ∈ lw_all := lw_g (lw_at lw_m5 150 rfl) rfl
theorem q1207 : (Jvm.Cond.methodLink "LabelPlacerLaw" (33 : Nat) ({ cls := "LabelPlacer", name := "setWindow", desc := "(IIII)I" } : Jvm.MethodName)) ∈ lw_all := lw_g (lw_at lw_m5 158 rfl) rfl
theorem q1215 : (Jvm.Cond.methodLink "LabelPlacerLaw" (38 : Nat) ({ cls := "LabelPlacer", name := "pan", desc := "(II)I" } : Jvm.MethodName)) ∈ lw_all := lw_g (lw_at lw_m5 166 rfl) rfl
theorem q1343 : (Jvm.Cond.methodLink "LabelPlacerLaw" (42 : Nat) ({ cls := "LabelPlacer", name := "place", desc := "(III)I" } : Jvm.MethodName)) ∈ lw_all := lw_g (lw_at lw_m6 54 rfl) rfl
theorem q1463 : (Jvm.Cond.methodLink "LabelPlacerLaw" (46 : Nat) ({ cls := "LabelPlacer", name := "clash", desc := "(IIII)I" } : Jvm.MethodName)) ∈ lw_all := lw_g (lw_at lw_m6 174 rfl) rfl
theorem q1467 : (Jvm.Cond.methodLink "LabelPlacerLaw" (50 : Nat) ({ cls := "LabelPlacer", name := "labelAt", desc := "(II)I" } : Jvm.MethodName)) ∈ lw_all := lw_g (lw_at lw_m6 178 rfl) rfl
theorem q1471 : (Jvm.Cond.methodLink "LabelPlacerLaw" (54 : Nat) ({ cls := "LabelPlacer", name := "fill", desc := "()I" } : Jvm.MethodName)) ∈ lw_all := lw_g (lw_at lw_m6 182 rfl) rfl
theorem q1472 : (Jvm.Cond.methodLink "LabelPlacerLaw" (59 : Nat) ({ cls := "LabelPlacer", name := "improve", desc := "()I" } : Jvm.MethodName)) ∈ lw_all := lw_g (lw_at lw_m6 183 rfl) rfl
theorem q1487 : (Jvm.Cond.methodLink "LabelPlacerLaw" (63 : Nat) ({ cls := "LabelPlacer", name := "push", desc := "()I" } : Jvm.MethodName)) ∈ lw_all := lw_g (lw_at lw_m6 198 rfl) rfl
theorem q1503 : (Jvm.Cond.methodLink "LabelPlacerLaw" (67 : Nat) ({ cls := "LabelPlacer", name := "show", desc := "(II)I" } : Jvm.MethodName)) ∈ lw_all := lw_g (lw_at lw_m6 214 rfl) rfl
theorem q1507 : (Jvm.Cond.methodLink "LabelPlacerLaw" (71 : Nat) ({ cls := "LabelPlacer", name := "hideAll", desc := "()I" } : Jvm.MethodName)) ∈ lw_all := lw_g (lw_at lw_m6 218 rfl) rfl
theorem q1511 : (Jvm.Cond.methodLink "LabelPlacerLaw" (75 : Nat) ({ cls := "LabelPlacer", name := "greatest", desc := "()I" } : Jvm.MethodName)) ∈ lw_all := lw_g (lw_at lw_m6 222 rfl) rfl
theorem q1578 : (Jvm.Cond.methodLink "LabelPlacerLaw" (79 : Nat) ({ cls := "LabelPlacer", name := "leaders", desc := "()I" } : Jvm.MethodName)) ∈ lw_all := lw_g (lw_at lw_m7 49 rfl) rfl
theorem q1616 : (Jvm.Cond.methodLink "LabelPlacerLaw" (83 : Nat) ({ cls := "LabelPlacer", name := "leader", desc := "(II)I" } : Jvm.MethodName)) ∈ lw_all := lw_g (lw_at lw_m7 87 rfl) rfl
theorem q1620 : (Jvm.Cond.methodLink "LabelPlacerLaw" (87 : Nat) ({ cls := "LabelPlacer", name := "type", desc := "(I)I" } : Jvm.MethodName)) ∈ lw_all := lw_g (lw_at lw_m7 91 rfl) rfl
theorem q1624 : (Jvm.Cond.methodLink "LabelPlacerLaw" (91 : Nat) ({ cls := "LabelPlacer", name := "clear", desc := "()I" } : Jvm.MethodName)) ∈ lw_all := lw_g (lw_at lw_m7 95 rfl) rfl
theorem q1628 : (Jvm.Cond.methodLink "LabelPlacerLaw" (95 : Nat) ({ cls := "LabelPlacer", name := "run", desc := "()I" } : Jvm.MethodName)) ∈ lw_all := lw_g (lw_at lw_m7 99 rfl) rfl
theorem q2036 : (Jvm.Cond.methodLink "LabelPlacerLaw" (99 : Nat) ({ cls := "LabelPlacer", name := "count", desc := "(I)I" } : Jvm.MethodName)) ∈ lw_all := lw_g (lw_at lw_m9 27 rfl) rfl
theorem q2056 : (Jvm.Cond.methodLink "LabelPlacerLaw" (103 : Nat) ({ cls := "LabelPlacer", name := "digest", desc := "()J" } : Jvm.MethodName)) ∈ lw_all := lw_g (lw_at lw_m9 47 rfl) rfl
theorem q2074 : (Jvm.Cond.classLink "LabelPlacerLaw" (10 : Nat) "LabelPlacerModel") ∈ lw_all := lw_g (lw_at lw_m9 65 rfl) rfl
theorem q2076 : (Jvm.Cond.methodLink "LabelPlacerLaw" (12 : Nat) ({ cls := "LabelPlacerModel", name := "<init>", desc := "()V" } : Jvm.MethodName)) ∈ lw_all := lw_g (lw_at lw_m9 67 rfl) rfl
theorem q2145 : (Jvm.Cond.methodLink "LabelPlacerLaw" (17 : Nat) ({ cls := "LabelPlacerModel", name := "addPoint", desc := "(IIIIII)I" } : Jvm.MethodName)) ∈ lw_all := lw_g (lw_at lw_m9 136 rfl) rfl
theorem q2192 : (Jvm.Cond.methodLink "LabelPlacerLaw" (22 : Nat) ({ cls := "LabelPlacerModel", name := "removePoint", desc := "(I)I" } : Jvm.MethodName)) ∈ lw_all := lw_g (lw_at lw_m9 183 rfl) rfl
theorem q2200 : (Jvm.Cond.methodLink "LabelPlacerLaw" (27 : Nat) ({ cls := "LabelPlacerModel", name := "setPoint", desc := "(III)I" } : Jvm.MethodName)) ∈ lw_all := lw_g (lw_at lw_m9 191 rfl) rfl
theorem q2212 : (Jvm.Cond.methodLink "LabelPlacerLaw" (32 : Nat) ({ cls := "LabelPlacerModel", name := "point", desc := "(II)I" } : Jvm.MethodName)) ∈ lw_all := lw_g (lw_at lw_m9 203 rfl) rfl
theorem q2225 : (Jvm.Cond.methodLink "LabelPlacerLaw" (37 : Nat) ({ cls := "LabelPlacerModel", name := "setWindow", desc := "(IIII)I" } : Jvm.MethodName)) ∈ lw_all := lw_g (lw_at lw_m9 216 rfl) rfl
theorem q2235 : (Jvm.Cond.methodLink "LabelPlacerLaw" (41 : Nat) ({ cls := "LabelPlacerModel", name := "pan", desc := "(II)I" } : Jvm.MethodName)) ∈ lw_all := lw_g (lw_at lw_m9 226 rfl) rfl
theorem q2255 : (Jvm.Cond.methodLink "LabelPlacerLaw" (45 : Nat) ({ cls := "LabelPlacerModel", name := "place", desc := "(III)I" } : Jvm.MethodName)) ∈ lw_all := lw_g (lw_at lw_m10 6 rfl) rfl
theorem q2272 : (Jvm.Cond.methodLink "LabelPlacerLaw" (49 : Nat) ({ cls := "LabelPlacerModel", name := "clash", desc := "(IIII)I" } : Jvm.MethodName)) ∈ lw_all := lw_g (lw_at lw_m10 23 rfl) rfl
theorem q2276 : (Jvm.Cond.methodLink "LabelPlacerLaw" (53 : Nat) ({ cls := "LabelPlacerModel", name := "labelAt", desc := "(II)I" } : Jvm.MethodName)) ∈ lw_all := lw_g (lw_at lw_m10 27 rfl) rfl
theorem q2280 : (Jvm.Cond.methodLink "LabelPlacerLaw" (58 : Nat) ({ cls := "LabelPlacerModel", name := "fill", desc := "()I" } : Jvm.MethodName)) ∈ lw_all := lw_g (lw_at lw_m10 31 rfl) rfl
theorem q2281 : (Jvm.Cond.methodLink "LabelPlacerLaw" (62 : Nat) ({ cls := "LabelPlacerModel", name := "improve", desc := "()I" } : Jvm.MethodName)) ∈ lw_all := lw_g (lw_at lw_m10 32 rfl) rfl
theorem q2297 : (Jvm.Cond.methodLink "LabelPlacerLaw" (66 : Nat) ({ cls := "LabelPlacerModel", name := "push", desc := "()I" } : Jvm.MethodName)) ∈ lw_all := lw_g (lw_at lw_m10 48 rfl) rfl
theorem q2313 : (Jvm.Cond.methodLink "LabelPlacerLaw" (70 : Nat) ({ cls := "LabelPlacerModel", name := "show", desc := "(II)I" } : Jvm.MethodName)) ∈ lw_all := lw_g (lw_at lw_m10 64 rfl) rfl
theorem q2317 : (Jvm.Cond.methodLink "LabelPlacerLaw" (74 : Nat) ({ cls := "LabelPlacerModel", name := "hideAll", desc := "()I" } : Jvm.MethodName)) ∈ lw_all := lw_g (lw_at lw_m10 68 rfl) rfl
theorem q2321 : (Jvm.Cond.methodLink "LabelPlacerLaw" (78 : Nat) ({ cls := "LabelPlacerModel", name := "greatest", desc := "()I" } : Jvm.MethodName)) ∈ lw_all := lw_g (lw_at lw_m10 72 rfl) rfl
theorem q2333 : (Jvm.Cond.methodLink "LabelPlacerLaw" (82 : Nat) ({ cls := "LabelPlacerModel", name := "leaders", desc := "()I" } : Jvm.MethodName)) ∈ lw_all := lw_g (lw_at lw_m10 84 rfl) rfl
theorem q2341 : (Jvm.Cond.methodLink "LabelPlacerLaw" (86 : Nat) ({ cls := "LabelPlacerModel", name := "leader", desc := "(II)I" } : Jvm.MethodName)) ∈ lw_all := lw_g (lw_at lw_m10 92 rfl) rfl
theorem q2346 : (Jvm.Cond.methodLink "LabelPlacerLaw" (90 : Nat) ({ cls := "LabelPlacerModel", name := "type", desc := "(I)I" } : Jvm.MethodName)) ∈ lw_all := lw_g (lw_at lw_m10 97 rfl) rfl
theorem q2351 : (Jvm.Cond.methodLink "LabelPlacerLaw" (94 : Nat) ({ cls := "LabelPlacerModel", name := "clear", desc := "()I" } : Jvm.MethodName)) ∈ lw_all := lw_g (lw_at lw_m10 102 rfl) rfl
theorem q2355 : (Jvm.Cond.methodLink "LabelPlacerLaw" (98 : Nat) ({ cls := "LabelPlacerModel", name := "run", desc := "()I" } : Jvm.MethodName)) ∈ lw_all := lw_g (lw_at lw_m10 106 rfl) rfl
theorem q2404 : (Jvm.Cond.methodLink "LabelPlacerLaw" (102 : Nat) ({ cls := "LabelPlacerModel", name := "count", desc := "(I)I" } : Jvm.MethodName)) ∈ lw_all := lw_g (lw_at lw_m10 155 rfl) rfl
theorem q2429 : (Jvm.Cond.methodLink "LabelPlacerLaw" (107 : Nat) ({ cls := "LabelPlacerModel", name := "digest", desc := "()J" } : Jvm.MethodName)) ∈ lw_all := lw_g (lw_at lw_m10 180 rfl) rfl

theorem q1341 : (Jvm.Cond.interfaceMethod "LabelPlacer$Attempt" "LabelPlacer$Attempt" "isDone" "(IILLabelPlacer$Box;)Z") ∈ lw_tbl := lw_at lw_m6 52 rfl
set_option maxRecDepth 100000
theorem q1342 : (Jvm.Cond.declares ({ cls := "LabelPlacer$Attempt", name := "isDone", desc := "(IILLabelPlacer$Box;)Z" } : Jvm.MethodName)) ∈ lw_tbl := lw_at lw_m6 53 rfl

theorem q1741 : (Jvm.Cond.sameMethod "[B" "java/lang/Object" "clone" "()Ljava/lang/Object;") ∈ lw_all := lw_g (lw_at lw_m7 212 rfl) rfl
set_option maxRecDepth 100000
theorem q1742 : (Jvm.Cond.selects "[B" ({ cls := "[B", name := "clone", desc := "()Ljava/lang/Object;" } : Jvm.MethodName) ({ cls := "java/lang/Object", name := "clone", desc := "()Ljava/lang/Object;" } : Jvm.MethodName)) ∈ lw_all := lw_g (lw_at lw_m7 213 rfl) rfl
theorem q1743 : (Jvm.Cond.castable "[B" "java/lang/Cloneable") ∈ lw_tbl := lw_at lw_m7 214 rfl
theorem q2491 : (Jvm.Cond.castable "[B" "java/lang/Object") ∈ lw_tbl := lw_at lw_m11 2 rfl

theorem q1521 : (Jvm.Cond.sameMethod "[I" "java/lang/Object" "clone" "()Ljava/lang/Object;") ∈ lw_all := lw_g (lw_at lw_m6 232 rfl) rfl
set_option maxRecDepth 100000
theorem q1524 : (Jvm.Cond.selects "[I" ({ cls := "[I", name := "clone", desc := "()Ljava/lang/Object;" } : Jvm.MethodName) ({ cls := "java/lang/Object", name := "clone", desc := "()Ljava/lang/Object;" } : Jvm.MethodName)) ∈ lw_all := lw_g (lw_at lw_m6 235 rfl) rfl
theorem q1525 : (Jvm.Cond.castable "[I" "java/lang/Cloneable") ∈ lw_tbl := lw_at lw_m6 236 rfl
theorem q2495 : (Jvm.Cond.castable "[I" "java/lang/Object") ∈ lw_tbl := lw_at lw_m11 6 rfl

theorem q2494 : (Jvm.Cond.castable "[LLabelPlacer$Box;" "java/lang/Object") ∈ lw_tbl := lw_at lw_m11 5 rfl
set_option maxRecDepth 100000

theorem q2490 : (Jvm.Cond.castable "[LLabelPlacer$Key;" "java/lang/Object") ∈ lw_tbl := lw_at lw_m11 1 rfl
set_option maxRecDepth 100000

theorem q2487 : (Jvm.Cond.sameMethod "[Ljava/lang/Object;" "java/lang/Object" "getClass" "()Ljava/lang/Class;") ∈ lw_all := lw_g (lw_at lw_m10 238 rfl) rfl
set_option maxRecDepth 100000
theorem q2488 : (Jvm.Cond.selects "[Ljava/lang/Object;" ({ cls := "java/lang/Object", name := "getClass", desc := "()Ljava/lang/Class;" } : Jvm.MethodName) ({ cls := "java/lang/Object", name := "getClass", desc := "()Ljava/lang/Class;" } : Jvm.MethodName)) ∈ lw_all := lw_g (lw_at lw_m10 239 rfl) rfl
theorem q2492 : (Jvm.Cond.castable "[Ljava/lang/Object;" "java/lang/Object") ∈ lw_tbl := lw_at lw_m11 3 rfl

theorem q2493 : (Jvm.Cond.castable "[Ljava/util/HashMap$Node;" "java/lang/Object") ∈ lw_tbl := lw_at lw_m11 4 rfl
set_option maxRecDepth 100000

theorem q2496 : (Jvm.Cond.castable "[Z" "java/lang/Object") ∈ lw_tbl := lw_at lw_m11 7 rfl
set_option maxRecDepth 100000

theorem q1683 : (Jvm.Cond.interfaceMethod "java/lang/CharSequence" "java/lang/CharSequence" "toString" "()Ljava/lang/String;") ∈ lw_tbl := lw_at lw_m7 154 rfl
set_option maxRecDepth 100000
theorem q1684 : (Jvm.Cond.declares ({ cls := "java/lang/CharSequence", name := "toString", desc := "()Ljava/lang/String;" } : Jvm.MethodName)) ∈ lw_tbl := lw_at lw_m7 155 rfl

theorem q714 : (Jvm.Cond.interfaceMethod "java/lang/Comparable" "java/lang/Comparable" "compareTo" "(Ljava/lang/Object;)I") ∈ lw_tbl := lw_at lw_m3 145 rfl
set_option maxRecDepth 100000
theorem q715 : (Jvm.Cond.declares ({ cls := "java/lang/Comparable", name := "compareTo", desc := "(Ljava/lang/Object;)I" } : Jvm.MethodName)) ∈ lw_tbl := lw_at lw_m3 146 rfl

theorem q123 : (Jvm.Cond.initialized "java/lang/Integer$IntegerCache") ∈ lw_all := lw_g (lw_at lw_m1 34 rfl) rfl
set_option maxRecDepth 100000
theorem q1164 : (Jvm.Cond.laysStatic "java/lang/Integer$IntegerCache" "high" "I") ∈ lw_tbl := lw_at lw_m5 115 rfl
theorem q1166 : (Jvm.Cond.laysStatic "java/lang/Integer$IntegerCache" "cache" "[Ljava/lang/Integer;") ∈ lw_tbl := lw_at lw_m5 117 rfl

theorem q104 : (Jvm.Cond.initialized "java/lang/System") ∈ lw_all := lw_g (lw_at lw_m1 15 rfl) rfl
set_option maxRecDepth 100000
theorem q400 : (Jvm.Cond.static ({ cls := "java/lang/System", name := "arraycopy", desc := "(Ljava/lang/Object;ILjava/lang/Object;II)V" } : Jvm.MethodName)) ∈ lw_all := lw_g (lw_at lw_m2 71 rfl) rfl
theorem q401 : (Jvm.Cond.native ({ cls := "java/lang/System", name := "arraycopy", desc := "(Ljava/lang/Object;ILjava/lang/Object;II)V" } : Jvm.MethodName)) ∈ lw_all := lw_g (lw_at lw_m2 72 rfl) rfl

theorem q1277 : (Jvm.Cond.interfaceMethod "java/util/Iterator" "java/util/Iterator" "hasNext" "()Z") ∈ lw_tbl := lw_at lw_m5 228 rfl
set_option maxRecDepth 100000
theorem q1278 : (Jvm.Cond.declares ({ cls := "java/util/Iterator", name := "hasNext", desc := "()Z" } : Jvm.MethodName)) ∈ lw_tbl := lw_at lw_m5 229 rfl
theorem q1299 : (Jvm.Cond.interfaceMethod "java/util/Iterator" "java/util/Iterator" "next" "()Ljava/lang/Object;") ∈ lw_tbl := lw_at lw_m6 10 rfl
theorem q1300 : (Jvm.Cond.declares ({ cls := "java/util/Iterator", name := "next", desc := "()Ljava/lang/Object;" } : Jvm.MethodName)) ∈ lw_tbl := lw_at lw_m6 11 rfl

theorem q1375 : (Jvm.Cond.interfaceMethod "java/util/Set" "java/util/Set" "iterator" "()Ljava/util/Iterator;") ∈ lw_tbl := lw_at lw_m6 86 rfl
set_option maxRecDepth 100000
theorem q1376 : (Jvm.Cond.declares ({ cls := "java/util/Set", name := "iterator", desc := "()Ljava/util/Iterator;" } : Jvm.MethodName)) ∈ lw_tbl := lw_at lw_m6 87 rfl

theorem q568 : (Jvm.Cond.interfaceMethod "jdk/internal/access/JavaLangAccess" "jdk/internal/access/JavaLangAccess" "getUTF16Char" "([BI)C") ∈ lw_tbl := lw_at lw_m2 239 rfl
set_option maxRecDepth 100000
theorem q569 : (Jvm.Cond.declares ({ cls := "jdk/internal/access/JavaLangAccess", name := "getUTF16Char", desc := "([BI)C" } : Jvm.MethodName)) ∈ lw_tbl := lw_at lw_m3 0 rfl

theorem q116 : (Jvm.Cond.initialized "jdk/internal/misc/UnsafeConstants") ∈ lw_all := lw_g (lw_at lw_m1 27 rfl) rfl
set_option maxRecDepth 100000
theorem q792 : (Jvm.Cond.laysStatic "jdk/internal/misc/UnsafeConstants" "BIG_ENDIAN" "Z") ∈ lw_tbl := lw_at lw_m3 223 rfl

theorem q205 : (Jvm.Cond.arrayOver (Jvm.ClassFile.FieldType.object "LabelPlacer$Key")) ∈ lw_tbl := lw_at lw_m1 116 rfl
set_option maxRecDepth 100000
theorem q222 : (Jvm.Cond.arrayClass Jvm.ClassFile.FieldType.byte) ∈ lw_all := lw_g (lw_at lw_m1 133 rfl) rfl
theorem q394 : (Jvm.Cond.arrayOver (Jvm.ClassFile.FieldType.object "java/lang/Object")) ∈ lw_tbl := lw_at lw_m2 65 rfl
theorem q626 : (Jvm.Cond.arrayOver (Jvm.ClassFile.FieldType.object "java/util/HashMap$Node")) ∈ lw_tbl := lw_at lw_m3 57 rfl
theorem q1534 : (Jvm.Cond.arrayOver (Jvm.ClassFile.FieldType.object "LabelPlacer$Box")) ∈ lw_tbl := lw_at lw_m7 5 rfl
theorem q1553 : (Jvm.Cond.arrayClass Jvm.ClassFile.FieldType.int) ∈ lw_all := lw_g (lw_at lw_m7 24 rfl) rfl
theorem q2144 : (Jvm.Cond.arrayClass Jvm.ClassFile.FieldType.boolean) ∈ lw_all := lw_g (lw_at lw_m9 135 rfl) rfl
theorem q2497 : (Jvm.Cond.arrayClass Jvm.ClassFile.FieldType.char) ∈ lw_all := lw_g (lw_at lw_m11 8 rfl) rfl
theorem q2498 : (Jvm.Cond.arrayClass Jvm.ClassFile.FieldType.short) ∈ lw_all := lw_g (lw_at lw_m11 9 rfl) rfl

