/-! java/util/AbstractCollection -/
set_option maxRecDepth 100000
def RJ0 : String := "java/util/AbstractCollection"
abbrev cJ0_init : ByteArray := prog_41_method_1_code
def yJ0_init : MethodName := ⟨RJ0, "<init>", "()V"⟩
theorem dJ0_init_0 : decode cJ0_init 0 = .ok (.aload_n 0, 1) := by decide +kernel
theorem dJ0_init_1 : decode cJ0_init 1 = .ok (.invokespecial 1, 3) := by decide +kernel
theorem dJ0_init_4 : decode cJ0_init 4 = .ok (.return_, 1) := by decide +kernel
theorem q91 : (Jvm.Cond.initialized "java/util/AbstractCollection") ∈ lw_all := lw_g (lw_at lw_m1 2 rfl) rfl
theorem q161 : (Jvm.Cond.instanceMethod ({ cls := "java/util/AbstractCollection", name := "<init>", desc := "()V" } : Jvm.MethodName)) ∈ lw_all := lw_g (lw_at lw_m1 72 rfl) rfl
theorem q162 : (Jvm.Cond.code ({ cls := "java/util/AbstractCollection", name := "<init>", desc := "()V" } : Jvm.MethodName) prog_41_method_1_code (1 : Nat) (Option.none : Option Jvm.ClassFile.FieldType)) ∈ lw_all := lw_g (lw_at lw_m1 73 rfl) rfl
theorem q163 : (Jvm.Cond.methodLink "java/util/AbstractCollection" (1 : Nat) ({ cls := "java/lang/Object", name := "<init>", desc := "()V" } : Jvm.MethodName)) ∈ lw_all := lw_g (lw_at lw_m1 74 rfl) rfl

/-! java/util/AbstractList -/
set_option maxRecDepth 100000
def RJ1 : String := "java/util/AbstractList"
abbrev cJ1_init : ByteArray := prog_42_method_1_code
def yJ1_init : MethodName := ⟨RJ1, "<init>", "()V"⟩
def dkwJ1_init_0 : List UInt8 := [42, 183, 0, 1, 42, 3, 181, 0, 7, 177]
abbrev dktJ1_init_0 : List UInt8 := dkwJ1_init_0 ++ []
theorem dksJ1_init_0 : cJ1_init.data.toList.drop 0 = dktJ1_init_0 := by decide +kernel
theorem dJ1_init_0 : decode cJ1_init 0 = .ok (.aload_n 0, 1) := dk_42 (dk_at dksJ1_init_0 0 rfl rfl)
theorem dJ1_init_1 : decode cJ1_init 1 = .ok (.invokespecial 1, 3) := dk_183 0 1 (dk_at dksJ1_init_0 1 rfl rfl)
theorem dJ1_init_4 : decode cJ1_init 4 = .ok (.aload_n 0, 1) := dk_42 (dk_at dksJ1_init_0 4 rfl rfl)
theorem dJ1_init_5 : decode cJ1_init 5 = .ok (.iconst 0, 1) := dk_3 (dk_at dksJ1_init_0 5 rfl rfl)
theorem dJ1_init_6 : decode cJ1_init 6 = .ok (.putfield 7, 3) := dk_181 0 7 (dk_at dksJ1_init_0 6 rfl rfl)
theorem dJ1_init_9 : decode cJ1_init 9 = .ok (.return_, 1) := dk_177 (dk_at dksJ1_init_0 9 rfl rfl)
theorem q92 : (Jvm.Cond.initialized "java/util/AbstractList") ∈ lw_all := lw_g (lw_at lw_m1 3 rfl) rfl
theorem q158 : (Jvm.Cond.instanceMethod ({ cls := "java/util/AbstractList", name := "<init>", desc := "()V" } : Jvm.MethodName)) ∈ lw_all := lw_g (lw_at lw_m1 69 rfl) rfl
theorem q159 : (Jvm.Cond.code ({ cls := "java/util/AbstractList", name := "<init>", desc := "()V" } : Jvm.MethodName) prog_42_method_1_code (1 : Nat) (Option.none : Option Jvm.ClassFile.FieldType)) ∈ lw_all := lw_g (lw_at lw_m1 70 rfl) rfl
theorem q160 : (Jvm.Cond.methodLink "java/util/AbstractList" (1 : Nat) ({ cls := "java/util/AbstractCollection", name := "<init>", desc := "()V" } : Jvm.MethodName)) ∈ lw_all := lw_g (lw_at lw_m1 71 rfl) rfl
theorem q170 : (Jvm.Cond.fieldLink "java/util/AbstractList" (7 : Nat) "java/util/AbstractList" "modCount" "I") ∈ lw_all := lw_g (lw_at lw_m1 81 rfl) rfl
theorem q179 : (Jvm.Cond.soleField "java/util/AbstractList" "modCount") ∈ lw_all := lw_g (lw_at lw_m1 90 rfl) rfl

/-! java/util/ArrayList -/
set_option maxRecDepth 100000
def RJ2 : String := "java/util/ArrayList"
def TJ2 : u_T := fun k => match k with
  | 0 => ("java/util/AbstractList", "modCount", "I", false)
  | 1 => ("java/util/ArrayList", "elementData", "[Ljava/lang/Object;", false)
  | _ => ("java/util/ArrayList", "size", "I", false)
def tyJ2 : Nat → FieldType := fun k => match k with
  | 0 => .int
  | 1 => .array (.object "java/lang/Object")
  | _ => .int
abbrev wsJ20 : List Cond := u_ws RJ2 TJ2 3
theorem nmJ2 : ∀ a, a < 3 → ∀ b, b < 3 → a ≠ b → (TJ2 a).2.1 ≠ (TJ2 b).2.1 := by decide +kernel
theorem tyJ2_ok : ∀ k, k < 3 → parseFieldDescriptor (TJ2 k).2.2.1 = some (tyJ2 k) := by decide +kernel
abbrev cJ2_init : ByteArray := prog_45_method_2_code
def yJ2_init : MethodName := ⟨RJ2, "<init>", "()V"⟩
def dkwJ2_init_0 : List UInt8 := [42, 183, 0, 1, 42, 178, 0, 39, 181, 0, 9, 177]
abbrev dktJ2_init_0 : List UInt8 := dkwJ2_init_0 ++ []
theorem dksJ2_init_0 : cJ2_init.data.toList.drop 0 = dktJ2_init_0 := by decide +kernel
theorem dJ2_init_0 : decode cJ2_init 0 = .ok (.aload_n 0, 1) := dk_42 (dk_at dksJ2_init_0 0 rfl rfl)
theorem dJ2_init_1 : decode cJ2_init 1 = .ok (.invokespecial 1, 3) := dk_183 0 1 (dk_at dksJ2_init_0 1 rfl rfl)
theorem dJ2_init_4 : decode cJ2_init 4 = .ok (.aload_n 0, 1) := dk_42 (dk_at dksJ2_init_0 4 rfl rfl)
theorem dJ2_init_5 : decode cJ2_init 5 = .ok (.getstatic 39, 3) := dk_178 0 39 (dk_at dksJ2_init_0 5 rfl rfl)
theorem dJ2_init_8 : decode cJ2_init 8 = .ok (.putfield 9, 3) := dk_181 0 9 (dk_at dksJ2_init_0 8 rfl rfl)
theorem dJ2_init_11 : decode cJ2_init 11 = .ok (.return_, 1) := dk_177 (dk_at dksJ2_init_0 11 rfl rfl)
abbrev cJ2_size : ByteArray := prog_45_method_8_code
def yJ2_size : MethodName := ⟨RJ2, "size", "()I"⟩
theorem dJ2_size_0 : decode cJ2_size 0 = .ok (.aload_n 0, 1) := by decide +kernel
theorem dJ2_size_1 : decode cJ2_size 1 = .ok (.getfield 48, 3) := by decide +kernel
theorem dJ2_size_4 : decode cJ2_size 4 = .ok (.ireturn, 1) := by decide +kernel
abbrev cJ2_get : ByteArray := prog_45_method_20_code
def yJ2_get : MethodName := ⟨RJ2, "get", "(I)Ljava/lang/Object;"⟩
def dkwJ2_get_0 : List UInt8 := [27, 42, 180, 0, 48, 184, 0, 118, 87, 42, 27, 182, 0, 123, 176]
abbrev dktJ2_get_0 : List UInt8 := dkwJ2_get_0 ++ []
theorem dksJ2_get_0 : cJ2_get.data.toList.drop 0 = dktJ2_get_0 := by decide +kernel
theorem dJ2_get_0 : decode cJ2_get 0 = .ok (.iload_n 1, 1) := dk_27 (dk_at dksJ2_get_0 0 rfl rfl)
theorem dJ2_get_1 : decode cJ2_get 1 = .ok (.aload_n 0, 1) := dk_42 (dk_at dksJ2_get_0 1 rfl rfl)
theorem dJ2_get_2 : decode cJ2_get 2 = .ok (.getfield 48, 3) := dk_180 0 48 (dk_at dksJ2_get_0 2 rfl rfl)
theorem dJ2_get_5 : decode cJ2_get 5 = .ok (.invokestatic 118, 3) := dk_184 0 118 (dk_at dksJ2_get_0 5 rfl rfl)
theorem dJ2_get_8 : decode cJ2_get 8 = .ok (.pop, 1) := dk_87 (dk_at dksJ2_get_0 8 rfl rfl)
theorem dJ2_get_9 : decode cJ2_get 9 = .ok (.aload_n 0, 1) := dk_42 (dk_at dksJ2_get_0 9 rfl rfl)
theorem dJ2_get_10 : decode cJ2_get 10 = .ok (.iload_n 1, 1) := dk_27 (dk_at dksJ2_get_0 10 rfl rfl)
theorem dJ2_get_11 : decode cJ2_get 11 = .ok (.invokevirtual 123, 3) := dk_182 0 123 (dk_at dksJ2_get_0 11 rfl rfl)
theorem dJ2_get_14 : decode cJ2_get 14 = .ok (.areturn, 1) := dk_176 (dk_at dksJ2_get_0 14 rfl rfl)
abbrev cJ2_elementData : ByteArray := prog_45_method_18_code
def yJ2_elementData : MethodName := ⟨RJ2, "elementData", "(I)Ljava/lang/Object;"⟩
def dkwJ2_elementData_0 : List UInt8 := [42, 180, 0, 9, 27, 50, 176]
abbrev dktJ2_elementData_0 : List UInt8 := dkwJ2_elementData_0 ++ []
theorem dksJ2_elementData_0 : cJ2_elementData.data.toList.drop 0 = dktJ2_elementData_0 := by decide +kernel
theorem dJ2_elementData_0 : decode cJ2_elementData 0 = .ok (.aload_n 0, 1) := dk_42 (dk_at dksJ2_elementData_0 0 rfl rfl)
theorem dJ2_elementData_1 : decode cJ2_elementData 1 = .ok (.getfield 9, 3) := dk_180 0 9 (dk_at dksJ2_elementData_0 1 rfl rfl)
theorem dJ2_elementData_4 : decode cJ2_elementData 4 = .ok (.iload_n 1, 1) := dk_27 (dk_at dksJ2_elementData_0 4 rfl rfl)
theorem dJ2_elementData_5 : decode cJ2_elementData 5 = .ok (.aaload, 1) := dk_50 (dk_at dksJ2_elementData_0 5 rfl rfl)
theorem dJ2_elementData_6 : decode cJ2_elementData 6 = .ok (.areturn, 1) := dk_176 (dk_at dksJ2_elementData_0 6 rfl rfl)
abbrev cJ2_add : ByteArray := prog_45_method_25_code
def yJ2_add : MethodName := ⟨RJ2, "add", "(Ljava/lang/Object;)Z"⟩
def dkwJ2_add_1 : List UInt8 := [172]
abbrev dktJ2_add_1 : List UInt8 := dkwJ2_add_1 ++ []
def dkwJ2_add_0 : List UInt8 := [42, 89, 180, 0, 63, 4, 96, 181, 0, 63, 42, 43, 42, 180, 0, 9, 42, 180, 0, 48, 182, 0, 131, 4]
abbrev dktJ2_add_0 : List UInt8 := dkwJ2_add_0 ++ dktJ2_add_1
theorem dksJ2_add_0 : cJ2_add.data.toList.drop 0 = dktJ2_add_0 := by decide +kernel
theorem dksJ2_add_1 : cJ2_add.data.toList.drop 24 = dktJ2_add_1 := dk_seg dksJ2_add_0 24 rfl rfl
theorem dJ2_add_0 : decode cJ2_add 0 = .ok (.aload_n 0, 1) := dk_42 (dk_at dksJ2_add_0 0 rfl rfl)
theorem dJ2_add_1 : decode cJ2_add 1 = .ok (.dup, 1) := dk_89 (dk_at dksJ2_add_0 1 rfl rfl)
theorem dJ2_add_2 : decode cJ2_add 2 = .ok (.getfield 63, 3) := dk_180 0 63 (dk_at dksJ2_add_0 2 rfl rfl)
theorem dJ2_add_5 : decode cJ2_add 5 = .ok (.iconst 1, 1) := dk_4 (dk_at dksJ2_add_0 5 rfl rfl)
theorem dJ2_add_6 : decode cJ2_add 6 = .ok (.iadd, 1) := dk_96 (dk_at dksJ2_add_0 6 rfl rfl)
theorem dJ2_add_7 : decode cJ2_add 7 = .ok (.putfield 63, 3) := dk_181 0 63 (dk_at dksJ2_add_0 7 rfl rfl)
theorem dJ2_add_10 : decode cJ2_add 10 = .ok (.aload_n 0, 1) := dk_42 (dk_at dksJ2_add_0 10 rfl rfl)
theorem dJ2_add_11 : decode cJ2_add 11 = .ok (.aload_n 1, 1) := dk_43 (dk_at dksJ2_add_0 11 rfl rfl)
theorem dJ2_add_12 : decode cJ2_add 12 = .ok (.aload_n 0, 1) := dk_42 (dk_at dksJ2_add_0 12 rfl rfl)
theorem dJ2_add_13 : decode cJ2_add 13 = .ok (.getfield 9, 3) := dk_180 0 9 (dk_at dksJ2_add_0 13 rfl rfl)
theorem dJ2_add_16 : decode cJ2_add 16 = .ok (.aload_n 0, 1) := dk_42 (dk_at dksJ2_add_0 16 rfl rfl)
theorem dJ2_add_17 : decode cJ2_add 17 = .ok (.getfield 48, 3) := dk_180 0 48 (dk_at dksJ2_add_0 17 rfl rfl)
theorem dJ2_add_20 : decode cJ2_add 20 = .ok (.invokevirtual 131, 3) := dk_182 0 131 (dk_at dksJ2_add_0 20 rfl rfl)
theorem dJ2_add_23 : decode cJ2_add 23 = .ok (.iconst 1, 1) := dk_4 (dk_at dksJ2_add_0 23 rfl rfl)
theorem dJ2_add_24 : decode cJ2_add 24 = .ok (.ireturn, 1) := dk_172 (dk_at dksJ2_add_1 0 rfl rfl)
abbrev cJ2_add_2 : ByteArray := prog_45_method_24_code
def yJ2_add_2 : MethodName := ⟨RJ2, "add", "(Ljava/lang/Object;[Ljava/lang/Object;I)V"⟩
def dkwJ2_add_2_0 : List UInt8 := [29, 44, 190, 160, 0, 8, 42, 182, 0, 129, 77, 44, 29, 43, 83, 42, 29, 4, 96, 181, 0, 48, 177]
abbrev dktJ2_add_2_0 : List UInt8 := dkwJ2_add_2_0 ++ []
theorem dksJ2_add_2_0 : cJ2_add_2.data.toList.drop 0 = dktJ2_add_2_0 := by decide +kernel
theorem dJ2_add_2_0 : decode cJ2_add_2 0 = .ok (.iload_n 3, 1) := dk_29 (dk_at dksJ2_add_2_0 0 rfl rfl)
theorem dJ2_add_2_1 : decode cJ2_add_2 1 = .ok (.aload_n 2, 1) := dk_44 (dk_at dksJ2_add_2_0 1 rfl rfl)
theorem dJ2_add_2_2 : decode cJ2_add_2 2 = .ok (.arraylength, 1) := dk_190 (dk_at dksJ2_add_2_0 2 rfl rfl)
theorem dJ2_add_2_3 : decode cJ2_add_2 3 = .ok (.if_icmp .ne 8, 3) := dk_160 0 8 (dk_at dksJ2_add_2_0 3 rfl rfl)
theorem dJ2_add_2_6 : decode cJ2_add_2 6 = .ok (.aload_n 0, 1) := dk_42 (dk_at dksJ2_add_2_0 6 rfl rfl)
theorem dJ2_add_2_7 : decode cJ2_add_2 7 = .ok (.invokevirtual 129, 3) := dk_182 0 129 (dk_at dksJ2_add_2_0 7 rfl rfl)
theorem dJ2_add_2_10 : decode cJ2_add_2 10 = .ok (.astore_n 2, 1) := dk_77 (dk_at dksJ2_add_2_0 10 rfl rfl)
theorem dJ2_add_2_11 : decode cJ2_add_2 11 = .ok (.aload_n 2, 1) := dk_44 (dk_at dksJ2_add_2_0 11 rfl rfl)
theorem dJ2_add_2_12 : decode cJ2_add_2 12 = .ok (.iload_n 3, 1) := dk_29 (dk_at dksJ2_add_2_0 12 rfl rfl)
theorem dJ2_add_2_13 : decode cJ2_add_2 13 = .ok (.aload_n 1, 1) := dk_43 (dk_at dksJ2_add_2_0 13 rfl rfl)
theorem dJ2_add_2_14 : decode cJ2_add_2 14 = .ok (.aastore, 1) := dk_83 (dk_at dksJ2_add_2_0 14 rfl rfl)
theorem dJ2_add_2_15 : decode cJ2_add_2 15 = .ok (.aload_n 0, 1) := dk_42 (dk_at dksJ2_add_2_0 15 rfl rfl)
theorem dJ2_add_2_16 : decode cJ2_add_2 16 = .ok (.iload_n 3, 1) := dk_29 (dk_at dksJ2_add_2_0 16 rfl rfl)
theorem dJ2_add_2_17 : decode cJ2_add_2 17 = .ok (.iconst 1, 1) := dk_4 (dk_at dksJ2_add_2_0 17 rfl rfl)
theorem dJ2_add_2_18 : decode cJ2_add_2 18 = .ok (.iadd, 1) := dk_96 (dk_at dksJ2_add_2_0 18 rfl rfl)
theorem dJ2_add_2_19 : decode cJ2_add_2 19 = .ok (.putfield 48, 3) := dk_181 0 48 (dk_at dksJ2_add_2_0 19 rfl rfl)
theorem dJ2_add_2_22 : decode cJ2_add_2 22 = .ok (.return_, 1) := dk_177 (dk_at dksJ2_add_2_0 22 rfl rfl)
abbrev cJ2_grow : ByteArray := prog_45_method_7_code
def yJ2_grow : MethodName := ⟨RJ2, "grow", "()[Ljava/lang/Object;"⟩
def dkwJ2_grow_0 : List UInt8 := [42, 42, 180, 0, 48, 4, 96, 182, 0, 69, 176]
abbrev dktJ2_grow_0 : List UInt8 := dkwJ2_grow_0 ++ []
theorem dksJ2_grow_0 : cJ2_grow.data.toList.drop 0 = dktJ2_grow_0 := by decide +kernel
theorem dJ2_grow_0 : decode cJ2_grow 0 = .ok (.aload_n 0, 1) := dk_42 (dk_at dksJ2_grow_0 0 rfl rfl)
theorem dJ2_grow_1 : decode cJ2_grow 1 = .ok (.aload_n 0, 1) := dk_42 (dk_at dksJ2_grow_0 1 rfl rfl)
theorem dJ2_grow_2 : decode cJ2_grow 2 = .ok (.getfield 48, 3) := dk_180 0 48 (dk_at dksJ2_grow_0 2 rfl rfl)
theorem dJ2_grow_5 : decode cJ2_grow 5 = .ok (.iconst 1, 1) := dk_4 (dk_at dksJ2_grow_0 5 rfl rfl)
theorem dJ2_grow_6 : decode cJ2_grow 6 = .ok (.iadd, 1) := dk_96 (dk_at dksJ2_grow_0 6 rfl rfl)
theorem dJ2_grow_7 : decode cJ2_grow 7 = .ok (.invokevirtual 69, 3) := dk_182 0 69 (dk_at dksJ2_grow_0 7 rfl rfl)
theorem dJ2_grow_10 : decode cJ2_grow 10 = .ok (.areturn, 1) := dk_176 (dk_at dksJ2_grow_0 10 rfl rfl)
abbrev cJ2_grow_2 : ByteArray := prog_45_method_6_code
def yJ2_grow_2 : MethodName := ⟨RJ2, "grow", "(I)[Ljava/lang/Object;"⟩
def dkwJ2_grow_2_2 : List UInt8 := [27, 184, 0, 79, 189, 0, 7, 90, 181, 0, 9, 176]
abbrev dktJ2_grow_2_2 : List UInt8 := dkwJ2_grow_2_2 ++ []
def dkwJ2_grow_2_1 : List UInt8 := [28, 4, 122, 184, 0, 73, 62, 42, 42, 180, 0, 9, 29, 184, 0, 66, 90, 181, 0, 9, 176, 42, 16, 10]
abbrev dktJ2_grow_2_1 : List UInt8 := dkwJ2_grow_2_1 ++ dktJ2_grow_2_2
def dkwJ2_grow_2_0 : List UInt8 := [42, 180, 0, 9, 190, 61, 28, 157, 0, 13, 42, 180, 0, 9, 178, 0, 39, 165, 0, 28, 28, 27, 28, 100]
abbrev dktJ2_grow_2_0 : List UInt8 := dkwJ2_grow_2_0 ++ dktJ2_grow_2_1
theorem dksJ2_grow_2_0 : cJ2_grow_2.data.toList.drop 0 = dktJ2_grow_2_0 := by decide +kernel
theorem dksJ2_grow_2_1 : cJ2_grow_2.data.toList.drop 24 = dktJ2_grow_2_1 := dk_seg dksJ2_grow_2_0 24 rfl rfl
theorem dksJ2_grow_2_2 : cJ2_grow_2.data.toList.drop 48 = dktJ2_grow_2_2 := dk_seg dksJ2_grow_2_1 24 rfl rfl
theorem dJ2_grow_2_0 : decode cJ2_grow_2 0 = .ok (.aload_n 0, 1) := dk_42 (dk_at dksJ2_grow_2_0 0 rfl rfl)
theorem dJ2_grow_2_1 : decode cJ2_grow_2 1 = .ok (.getfield 9, 3) := dk_180 0 9 (dk_at dksJ2_grow_2_0 1 rfl rfl)
theorem dJ2_grow_2_4 : decode cJ2_grow_2 4 = .ok (.arraylength, 1) := dk_190 (dk_at dksJ2_grow_2_0 4 rfl rfl)
theorem dJ2_grow_2_5 : decode cJ2_grow_2 5 = .ok (.istore_n 2, 1) := dk_61 (dk_at dksJ2_grow_2_0 5 rfl rfl)
theorem dJ2_grow_2_6 : decode cJ2_grow_2 6 = .ok (.iload_n 2, 1) := dk_28 (dk_at dksJ2_grow_2_0 6 rfl rfl)
theorem dJ2_grow_2_7 : decode cJ2_grow_2 7 = .ok (.ifCond .gt 13, 3) := dk_157 0 13 (dk_at dksJ2_grow_2_0 7 rfl rfl)
theorem dJ2_grow_2_10 : decode cJ2_grow_2 10 = .ok (.aload_n 0, 1) := dk_42 (dk_at dksJ2_grow_2_0 10 rfl rfl)
theorem dJ2_grow_2_11 : decode cJ2_grow_2 11 = .ok (.getfield 9, 3) := dk_180 0 9 (dk_at dksJ2_grow_2_0 11 rfl rfl)
theorem dJ2_grow_2_14 : decode cJ2_grow_2 14 = .ok (.getstatic 39, 3) := dk_178 0 39 (dk_at dksJ2_grow_2_0 14 rfl rfl)
theorem dJ2_grow_2_17 : decode cJ2_grow_2 17 = .ok (.if_acmp .eq 28, 3) := dk_165 0 28 (dk_at dksJ2_grow_2_0 17 rfl rfl)
theorem dJ2_grow_2_20 : decode cJ2_grow_2 20 = .ok (.iload_n 2, 1) := dk_28 (dk_at dksJ2_grow_2_0 20 rfl rfl)
theorem dJ2_grow_2_21 : decode cJ2_grow_2 21 = .ok (.iload_n 1, 1) := dk_27 (dk_at dksJ2_grow_2_0 21 rfl rfl)
theorem dJ2_grow_2_22 : decode cJ2_grow_2 22 = .ok (.iload_n 2, 1) := dk_28 (dk_at dksJ2_grow_2_0 22 rfl rfl)
theorem dJ2_grow_2_23 : decode cJ2_grow_2 23 = .ok (.isub, 1) := dk_100 (dk_at dksJ2_grow_2_0 23 rfl rfl)
theorem dJ2_grow_2_24 : decode cJ2_grow_2 24 = .ok (.iload_n 2, 1) := dk_28 (dk_at dksJ2_grow_2_1 0 rfl rfl)
theorem dJ2_grow_2_25 : decode cJ2_grow_2 25 = .ok (.iconst 1, 1) := dk_4 (dk_at dksJ2_grow_2_1 1 rfl rfl)
theorem dJ2_grow_2_26 : decode cJ2_grow_2 26 = .ok (.ishr, 1) := dk_122 (dk_at dksJ2_grow_2_1 2 rfl rfl)
theorem dJ2_grow_2_27 : decode cJ2_grow_2 27 = .ok (.invokestatic 73, 3) := dk_184 0 73 (dk_at dksJ2_grow_2_1 3 rfl rfl)
theorem dJ2_grow_2_30 : decode cJ2_grow_2 30 = .ok (.istore_n 3, 1) := dk_62 (dk_at dksJ2_grow_2_1 6 rfl rfl)
theorem dJ2_grow_2_31 : decode cJ2_grow_2 31 = .ok (.aload_n 0, 1) := dk_42 (dk_at dksJ2_grow_2_1 7 rfl rfl)
theorem dJ2_grow_2_32 : decode cJ2_grow_2 32 = .ok (.aload_n 0, 1) := dk_42 (dk_at dksJ2_grow_2_1 8 rfl rfl)
theorem dJ2_grow_2_33 : decode cJ2_grow_2 33 = .ok (.getfield 9, 3) := dk_180 0 9 (dk_at dksJ2_grow_2_1 9 rfl rfl)
theorem dJ2_grow_2_36 : decode cJ2_grow_2 36 = .ok (.iload_n 3, 1) := dk_29 (dk_at dksJ2_grow_2_1 12 rfl rfl)
theorem dJ2_grow_2_37 : decode cJ2_grow_2 37 = .ok (.invokestatic 66, 3) := dk_184 0 66 (dk_at dksJ2_grow_2_1 13 rfl rfl)
theorem dJ2_grow_2_40 : decode cJ2_grow_2 40 = .ok (.dup_x1, 1) := dk_90 (dk_at dksJ2_grow_2_1 16 rfl rfl)
theorem dJ2_grow_2_41 : decode cJ2_grow_2 41 = .ok (.putfield 9, 3) := dk_181 0 9 (dk_at dksJ2_grow_2_1 17 rfl rfl)
theorem dJ2_grow_2_44 : decode cJ2_grow_2 44 = .ok (.areturn, 1) := dk_176 (dk_at dksJ2_grow_2_1 20 rfl rfl)
theorem dJ2_grow_2_45 : decode cJ2_grow_2 45 = .ok (.aload_n 0, 1) := dk_42 (dk_at dksJ2_grow_2_1 21 rfl rfl)
theorem dJ2_grow_2_46 : decode cJ2_grow_2 46 = .ok (.bipush 10, 2) := dk_16 10 (dk_at dksJ2_grow_2_1 22 rfl rfl)
theorem dJ2_grow_2_48 : decode cJ2_grow_2 48 = .ok (.iload_n 1, 1) := dk_27 (dk_at dksJ2_grow_2_2 0 rfl rfl)
theorem dJ2_grow_2_49 : decode cJ2_grow_2 49 = .ok (.invokestatic 79, 3) := dk_184 0 79 (dk_at dksJ2_grow_2_2 1 rfl rfl)
theorem dJ2_grow_2_52 : decode cJ2_grow_2 52 = .ok (.anewarray 7, 3) := dk_189 0 7 (dk_at dksJ2_grow_2_2 4 rfl rfl)
theorem dJ2_grow_2_55 : decode cJ2_grow_2 55 = .ok (.dup_x1, 1) := dk_90 (dk_at dksJ2_grow_2_2 7 rfl rfl)
theorem dJ2_grow_2_56 : decode cJ2_grow_2 56 = .ok (.putfield 9, 3) := dk_181 0 9 (dk_at dksJ2_grow_2_2 8 rfl rfl)
theorem dJ2_grow_2_59 : decode cJ2_grow_2 59 = .ok (.areturn, 1) := dk_176 (dk_at dksJ2_grow_2_2 11 rfl rfl)
abbrev cJ2_remove : ByteArray := prog_45_method_29_code
def yJ2_remove : MethodName := ⟨RJ2, "remove", "(I)Ljava/lang/Object;"⟩
def dkwJ2_remove_1 : List UInt8 := [45, 176]
abbrev dktJ2_remove_1 : List UInt8 := dkwJ2_remove_1 ++ []
def dkwJ2_remove_0 : List UInt8 := [27, 42, 180, 0, 48, 184, 0, 118, 87, 42, 180, 0, 9, 77, 44, 27, 50, 78, 42, 44, 27, 182, 0, 144]
abbrev dktJ2_remove_0 : List UInt8 := dkwJ2_remove_0 ++ dktJ2_remove_1
theorem dksJ2_remove_0 : cJ2_remove.data.toList.drop 0 = dktJ2_remove_0 := by decide +kernel
theorem dksJ2_remove_1 : cJ2_remove.data.toList.drop 24 = dktJ2_remove_1 := dk_seg dksJ2_remove_0 24 rfl rfl
theorem dJ2_remove_0 : decode cJ2_remove 0 = .ok (.iload_n 1, 1) := dk_27 (dk_at dksJ2_remove_0 0 rfl rfl)
theorem dJ2_remove_1 : decode cJ2_remove 1 = .ok (.aload_n 0, 1) := dk_42 (dk_at dksJ2_remove_0 1 rfl rfl)
theorem dJ2_remove_2 : decode cJ2_remove 2 = .ok (.getfield 48, 3) := dk_180 0 48 (dk_at dksJ2_remove_0 2 rfl rfl)
theorem dJ2_remove_5 : decode cJ2_remove 5 = .ok (.invokestatic 118, 3) := dk_184 0 118 (dk_at dksJ2_remove_0 5 rfl rfl)
theorem dJ2_remove_8 : decode cJ2_remove 8 = .ok (.pop, 1) := dk_87 (dk_at dksJ2_remove_0 8 rfl rfl)
theorem dJ2_remove_9 : decode cJ2_remove 9 = .ok (.aload_n 0, 1) := dk_42 (dk_at dksJ2_remove_0 9 rfl rfl)
theorem dJ2_remove_10 : decode cJ2_remove 10 = .ok (.getfield 9, 3) := dk_180 0 9 (dk_at dksJ2_remove_0 10 rfl rfl)
theorem dJ2_remove_13 : decode cJ2_remove 13 = .ok (.astore_n 2, 1) := dk_77 (dk_at dksJ2_remove_0 13 rfl rfl)
theorem dJ2_remove_14 : decode cJ2_remove 14 = .ok (.aload_n 2, 1) := dk_44 (dk_at dksJ2_remove_0 14 rfl rfl)
theorem dJ2_remove_15 : decode cJ2_remove 15 = .ok (.iload_n 1, 1) := dk_27 (dk_at dksJ2_remove_0 15 rfl rfl)
theorem dJ2_remove_16 : decode cJ2_remove 16 = .ok (.aaload, 1) := dk_50 (dk_at dksJ2_remove_0 16 rfl rfl)
theorem dJ2_remove_17 : decode cJ2_remove 17 = .ok (.astore_n 3, 1) := dk_78 (dk_at dksJ2_remove_0 17 rfl rfl)
theorem dJ2_remove_18 : decode cJ2_remove 18 = .ok (.aload_n 0, 1) := dk_42 (dk_at dksJ2_remove_0 18 rfl rfl)
theorem dJ2_remove_19 : decode cJ2_remove 19 = .ok (.aload_n 2, 1) := dk_44 (dk_at dksJ2_remove_0 19 rfl rfl)
theorem dJ2_remove_20 : decode cJ2_remove 20 = .ok (.iload_n 1, 1) := dk_27 (dk_at dksJ2_remove_0 20 rfl rfl)
theorem dJ2_remove_21 : decode cJ2_remove 21 = .ok (.invokevirtual 144, 3) := dk_182 0 144 (dk_at dksJ2_remove_0 21 rfl rfl)
theorem dJ2_remove_24 : decode cJ2_remove 24 = .ok (.aload_n 3, 1) := dk_45 (dk_at dksJ2_remove_1 0 rfl rfl)
theorem dJ2_remove_25 : decode cJ2_remove 25 = .ok (.areturn, 1) := dk_176 (dk_at dksJ2_remove_1 1 rfl rfl)
abbrev cJ2_fastRemove : ByteArray := prog_45_method_39_code
def yJ2_fastRemove : MethodName := ⟨RJ2, "fastRemove", "([Ljava/lang/Object;I)V"⟩
def dkwJ2_fastRemove_1 : List UInt8 := [4, 96, 43, 28, 29, 28, 100, 184, 0, 112, 43, 42, 29, 90, 181, 0, 48, 1, 83, 177]
abbrev dktJ2_fastRemove_1 : List UInt8 := dkwJ2_fastRemove_1 ++ []
def dkwJ2_fastRemove_0 : List UInt8 := [42, 89, 180, 0, 63, 4, 96, 181, 0, 63, 42, 180, 0, 48, 4, 100, 89, 62, 28, 164, 0, 15, 43, 28]
abbrev dktJ2_fastRemove_0 : List UInt8 := dkwJ2_fastRemove_0 ++ dktJ2_fastRemove_1
theorem dksJ2_fastRemove_0 : cJ2_fastRemove.data.toList.drop 0 = dktJ2_fastRemove_0 := by decide +kernel
theorem dksJ2_fastRemove_1 : cJ2_fastRemove.data.toList.drop 24 = dktJ2_fastRemove_1 := dk_seg dksJ2_fastRemove_0 24 rfl rfl
theorem dJ2_fastRemove_0 : decode cJ2_fastRemove 0 = .ok (.aload_n 0, 1) := dk_42 (dk_at dksJ2_fastRemove_0 0 rfl rfl)
theorem dJ2_fastRemove_1 : decode cJ2_fastRemove 1 = .ok (.dup, 1) := dk_89 (dk_at dksJ2_fastRemove_0 1 rfl rfl)
theorem dJ2_fastRemove_2 : decode cJ2_fastRemove 2 = .ok (.getfield 63, 3) := dk_180 0 63 (dk_at dksJ2_fastRemove_0 2 rfl rfl)
theorem dJ2_fastRemove_5 : decode cJ2_fastRemove 5 = .ok (.iconst 1, 1) := dk_4 (dk_at dksJ2_fastRemove_0 5 rfl rfl)
theorem dJ2_fastRemove_6 : decode cJ2_fastRemove 6 = .ok (.iadd, 1) := dk_96 (dk_at dksJ2_fastRemove_0 6 rfl rfl)
theorem dJ2_fastRemove_7 : decode cJ2_fastRemove 7 = .ok (.putfield 63, 3) := dk_181 0 63 (dk_at dksJ2_fastRemove_0 7 rfl rfl)
theorem dJ2_fastRemove_10 : decode cJ2_fastRemove 10 = .ok (.aload_n 0, 1) := dk_42 (dk_at dksJ2_fastRemove_0 10 rfl rfl)
theorem dJ2_fastRemove_11 : decode cJ2_fastRemove 11 = .ok (.getfield 48, 3) := dk_180 0 48 (dk_at dksJ2_fastRemove_0 11 rfl rfl)
theorem dJ2_fastRemove_14 : decode cJ2_fastRemove 14 = .ok (.iconst 1, 1) := dk_4 (dk_at dksJ2_fastRemove_0 14 rfl rfl)
theorem dJ2_fastRemove_15 : decode cJ2_fastRemove 15 = .ok (.isub, 1) := dk_100 (dk_at dksJ2_fastRemove_0 15 rfl rfl)
theorem dJ2_fastRemove_16 : decode cJ2_fastRemove 16 = .ok (.dup, 1) := dk_89 (dk_at dksJ2_fastRemove_0 16 rfl rfl)
theorem dJ2_fastRemove_17 : decode cJ2_fastRemove 17 = .ok (.istore_n 3, 1) := dk_62 (dk_at dksJ2_fastRemove_0 17 rfl rfl)
theorem dJ2_fastRemove_18 : decode cJ2_fastRemove 18 = .ok (.iload_n 2, 1) := dk_28 (dk_at dksJ2_fastRemove_0 18 rfl rfl)
theorem dJ2_fastRemove_19 : decode cJ2_fastRemove 19 = .ok (.if_icmp .le 15, 3) := dk_164 0 15 (dk_at dksJ2_fastRemove_0 19 rfl rfl)
theorem dJ2_fastRemove_22 : decode cJ2_fastRemove 22 = .ok (.aload_n 1, 1) := dk_43 (dk_at dksJ2_fastRemove_0 22 rfl rfl)
theorem dJ2_fastRemove_23 : decode cJ2_fastRemove 23 = .ok (.iload_n 2, 1) := dk_28 (dk_at dksJ2_fastRemove_0 23 rfl rfl)
theorem dJ2_fastRemove_24 : decode cJ2_fastRemove 24 = .ok (.iconst 1, 1) := dk_4 (dk_at dksJ2_fastRemove_1 0 rfl rfl)
theorem dJ2_fastRemove_25 : decode cJ2_fastRemove 25 = .ok (.iadd, 1) := dk_96 (dk_at dksJ2_fastRemove_1 1 rfl rfl)
theorem dJ2_fastRemove_26 : decode cJ2_fastRemove 26 = .ok (.aload_n 1, 1) := dk_43 (dk_at dksJ2_fastRemove_1 2 rfl rfl)
theorem dJ2_fastRemove_27 : decode cJ2_fastRemove 27 = .ok (.iload_n 2, 1) := dk_28 (dk_at dksJ2_fastRemove_1 3 rfl rfl)
theorem dJ2_fastRemove_28 : decode cJ2_fastRemove 28 = .ok (.iload_n 3, 1) := dk_29 (dk_at dksJ2_fastRemove_1 4 rfl rfl)
theorem dJ2_fastRemove_29 : decode cJ2_fastRemove 29 = .ok (.iload_n 2, 1) := dk_28 (dk_at dksJ2_fastRemove_1 5 rfl rfl)
theorem dJ2_fastRemove_30 : decode cJ2_fastRemove 30 = .ok (.isub, 1) := dk_100 (dk_at dksJ2_fastRemove_1 6 rfl rfl)
theorem dJ2_fastRemove_31 : decode cJ2_fastRemove 31 = .ok (.invokestatic 112, 3) := dk_184 0 112 (dk_at dksJ2_fastRemove_1 7 rfl rfl)
theorem dJ2_fastRemove_34 : decode cJ2_fastRemove 34 = .ok (.aload_n 1, 1) := dk_43 (dk_at dksJ2_fastRemove_1 10 rfl rfl)
theorem dJ2_fastRemove_35 : decode cJ2_fastRemove 35 = .ok (.aload_n 0, 1) := dk_42 (dk_at dksJ2_fastRemove_1 11 rfl rfl)
theorem dJ2_fastRemove_36 : decode cJ2_fastRemove 36 = .ok (.iload_n 3, 1) := dk_29 (dk_at dksJ2_fastRemove_1 12 rfl rfl)
theorem dJ2_fastRemove_37 : decode cJ2_fastRemove 37 = .ok (.dup_x1, 1) := dk_90 (dk_at dksJ2_fastRemove_1 13 rfl rfl)
theorem dJ2_fastRemove_38 : decode cJ2_fastRemove 38 = .ok (.putfield 48, 3) := dk_181 0 48 (dk_at dksJ2_fastRemove_1 14 rfl rfl)
theorem dJ2_fastRemove_41 : decode cJ2_fastRemove 41 = .ok (.aconst_null, 1) := dk_1 (dk_at dksJ2_fastRemove_1 17 rfl rfl)
theorem dJ2_fastRemove_42 : decode cJ2_fastRemove 42 = .ok (.aastore, 1) := dk_83 (dk_at dksJ2_fastRemove_1 18 rfl rfl)
theorem dJ2_fastRemove_43 : decode cJ2_fastRemove 43 = .ok (.return_, 1) := dk_177 (dk_at dksJ2_fastRemove_1 19 rfl rfl)
abbrev cJ2_add_3 : ByteArray := prog_45_method_26_code
def yJ2_add_3 : MethodName := ⟨RJ2, "add", "(ILjava/lang/Object;)V"⟩
def dkwJ2_add_3_2 : List UInt8 := [29, 27, 100, 184, 0, 112, 25, 4, 27, 44, 83, 42, 29, 4, 96, 181, 0, 48, 177]
abbrev dktJ2_add_3_2 : List UInt8 := dkwJ2_add_3_2 ++ []
def dkwJ2_add_3_1 : List UInt8 := [180, 0, 9, 89, 58, 4, 190, 160, 0, 9, 42, 182, 0, 129, 58, 4, 25, 4, 27, 25, 4, 27, 4, 96]
abbrev dktJ2_add_3_1 : List UInt8 := dkwJ2_add_3_1 ++ dktJ2_add_3_2
def dkwJ2_add_3_0 : List UInt8 := [42, 27, 182, 0, 135, 42, 89, 180, 0, 63, 4, 96, 181, 0, 63, 42, 180, 0, 48, 89, 62, 42]
abbrev dktJ2_add_3_0 : List UInt8 := dkwJ2_add_3_0 ++ dktJ2_add_3_1
theorem dksJ2_add_3_0 : cJ2_add_3.data.toList.drop 0 = dktJ2_add_3_0 := by decide +kernel
theorem dksJ2_add_3_1 : cJ2_add_3.data.toList.drop 22 = dktJ2_add_3_1 := dk_seg dksJ2_add_3_0 22 rfl rfl
theorem dksJ2_add_3_2 : cJ2_add_3.data.toList.drop 46 = dktJ2_add_3_2 := dk_seg dksJ2_add_3_1 24 rfl rfl
theorem dJ2_add_3_0 : decode cJ2_add_3 0 = .ok (.aload_n 0, 1) := dk_42 (dk_at dksJ2_add_3_0 0 rfl rfl)
theorem dJ2_add_3_1 : decode cJ2_add_3 1 = .ok (.iload_n 1, 1) := dk_27 (dk_at dksJ2_add_3_0 1 rfl rfl)
theorem dJ2_add_3_2 : decode cJ2_add_3 2 = .ok (.invokevirtual 135, 3) := dk_182 0 135 (dk_at dksJ2_add_3_0 2 rfl rfl)
theorem dJ2_add_3_5 : decode cJ2_add_3 5 = .ok (.aload_n 0, 1) := dk_42 (dk_at dksJ2_add_3_0 5 rfl rfl)
theorem dJ2_add_3_6 : decode cJ2_add_3 6 = .ok (.dup, 1) := dk_89 (dk_at dksJ2_add_3_0 6 rfl rfl)
theorem dJ2_add_3_7 : decode cJ2_add_3 7 = .ok (.getfield 63, 3) := dk_180 0 63 (dk_at dksJ2_add_3_0 7 rfl rfl)
theorem dJ2_add_3_10 : decode cJ2_add_3 10 = .ok (.iconst 1, 1) := dk_4 (dk_at dksJ2_add_3_0 10 rfl rfl)
theorem dJ2_add_3_11 : decode cJ2_add_3 11 = .ok (.iadd, 1) := dk_96 (dk_at dksJ2_add_3_0 11 rfl rfl)
theorem dJ2_add_3_12 : decode cJ2_add_3 12 = .ok (.putfield 63, 3) := dk_181 0 63 (dk_at dksJ2_add_3_0 12 rfl rfl)
theorem dJ2_add_3_15 : decode cJ2_add_3 15 = .ok (.aload_n 0, 1) := dk_42 (dk_at dksJ2_add_3_0 15 rfl rfl)
theorem dJ2_add_3_16 : decode cJ2_add_3 16 = .ok (.getfield 48, 3) := dk_180 0 48 (dk_at dksJ2_add_3_0 16 rfl rfl)
theorem dJ2_add_3_19 : decode cJ2_add_3 19 = .ok (.dup, 1) := dk_89 (dk_at dksJ2_add_3_0 19 rfl rfl)
theorem dJ2_add_3_20 : decode cJ2_add_3 20 = .ok (.istore_n 3, 1) := dk_62 (dk_at dksJ2_add_3_0 20 rfl rfl)
theorem dJ2_add_3_21 : decode cJ2_add_3 21 = .ok (.aload_n 0, 1) := dk_42 (dk_at dksJ2_add_3_0 21 rfl rfl)
theorem dJ2_add_3_22 : decode cJ2_add_3 22 = .ok (.getfield 9, 3) := dk_180 0 9 (dk_at dksJ2_add_3_1 0 rfl rfl)
theorem dJ2_add_3_25 : decode cJ2_add_3 25 = .ok (.dup, 1) := dk_89 (dk_at dksJ2_add_3_1 3 rfl rfl)
theorem dJ2_add_3_26 : decode cJ2_add_3 26 = .ok (.astore 4, 2) := dk_58 4 (dk_at dksJ2_add_3_1 4 rfl rfl)
theorem dJ2_add_3_28 : decode cJ2_add_3 28 = .ok (.arraylength, 1) := dk_190 (dk_at dksJ2_add_3_1 6 rfl rfl)
theorem dJ2_add_3_29 : decode cJ2_add_3 29 = .ok (.if_icmp .ne 9, 3) := dk_160 0 9 (dk_at dksJ2_add_3_1 7 rfl rfl)
theorem dJ2_add_3_32 : decode cJ2_add_3 32 = .ok (.aload_n 0, 1) := dk_42 (dk_at dksJ2_add_3_1 10 rfl rfl)
theorem dJ2_add_3_33 : decode cJ2_add_3 33 = .ok (.invokevirtual 129, 3) := dk_182 0 129 (dk_at dksJ2_add_3_1 11 rfl rfl)
theorem dJ2_add_3_36 : decode cJ2_add_3 36 = .ok (.astore 4, 2) := dk_58 4 (dk_at dksJ2_add_3_1 14 rfl rfl)
theorem dJ2_add_3_38 : decode cJ2_add_3 38 = .ok (.aload 4, 2) := dk_25 4 (dk_at dksJ2_add_3_1 16 rfl rfl)
theorem dJ2_add_3_40 : decode cJ2_add_3 40 = .ok (.iload_n 1, 1) := dk_27 (dk_at dksJ2_add_3_1 18 rfl rfl)
theorem dJ2_add_3_41 : decode cJ2_add_3 41 = .ok (.aload 4, 2) := dk_25 4 (dk_at dksJ2_add_3_1 19 rfl rfl)
theorem dJ2_add_3_43 : decode cJ2_add_3 43 = .ok (.iload_n 1, 1) := dk_27 (dk_at dksJ2_add_3_1 21 rfl rfl)
theorem dJ2_add_3_44 : decode cJ2_add_3 44 = .ok (.iconst 1, 1) := dk_4 (dk_at dksJ2_add_3_1 22 rfl rfl)
theorem dJ2_add_3_45 : decode cJ2_add_3 45 = .ok (.iadd, 1) := dk_96 (dk_at dksJ2_add_3_1 23 rfl rfl)
theorem dJ2_add_3_46 : decode cJ2_add_3 46 = .ok (.iload_n 3, 1) := dk_29 (dk_at dksJ2_add_3_2 0 rfl rfl)
theorem dJ2_add_3_47 : decode cJ2_add_3 47 = .ok (.iload_n 1, 1) := dk_27 (dk_at dksJ2_add_3_2 1 rfl rfl)
theorem dJ2_add_3_48 : decode cJ2_add_3 48 = .ok (.isub, 1) := dk_100 (dk_at dksJ2_add_3_2 2 rfl rfl)
theorem dJ2_add_3_49 : decode cJ2_add_3 49 = .ok (.invokestatic 112, 3) := dk_184 0 112 (dk_at dksJ2_add_3_2 3 rfl rfl)
theorem dJ2_add_3_52 : decode cJ2_add_3 52 = .ok (.aload 4, 2) := dk_25 4 (dk_at dksJ2_add_3_2 6 rfl rfl)
theorem dJ2_add_3_54 : decode cJ2_add_3 54 = .ok (.iload_n 1, 1) := dk_27 (dk_at dksJ2_add_3_2 8 rfl rfl)
theorem dJ2_add_3_55 : decode cJ2_add_3 55 = .ok (.aload_n 2, 1) := dk_44 (dk_at dksJ2_add_3_2 9 rfl rfl)
theorem dJ2_add_3_56 : decode cJ2_add_3 56 = .ok (.aastore, 1) := dk_83 (dk_at dksJ2_add_3_2 10 rfl rfl)
theorem dJ2_add_3_57 : decode cJ2_add_3 57 = .ok (.aload_n 0, 1) := dk_42 (dk_at dksJ2_add_3_2 11 rfl rfl)
theorem dJ2_add_3_58 : decode cJ2_add_3 58 = .ok (.iload_n 3, 1) := dk_29 (dk_at dksJ2_add_3_2 12 rfl rfl)
theorem dJ2_add_3_59 : decode cJ2_add_3 59 = .ok (.iconst 1, 1) := dk_4 (dk_at dksJ2_add_3_2 13 rfl rfl)
theorem dJ2_add_3_60 : decode cJ2_add_3 60 = .ok (.iadd, 1) := dk_96 (dk_at dksJ2_add_3_2 14 rfl rfl)
theorem dJ2_add_3_61 : decode cJ2_add_3 61 = .ok (.putfield 48, 3) := dk_181 0 48 (dk_at dksJ2_add_3_2 15 rfl rfl)
theorem dJ2_add_3_64 : decode cJ2_add_3 64 = .ok (.return_, 1) := dk_177 (dk_at dksJ2_add_3_2 18 rfl rfl)
abbrev cJ2_rangeCheckForAdd : ByteArray := prog_45_method_45_code
def yJ2_rangeCheckForAdd : MethodName := ⟨RJ2, "rangeCheckForAdd", "(I)V"⟩
def dkwJ2_rangeCheckForAdd_1 : List UInt8 := [191, 177]
abbrev dktJ2_rangeCheckForAdd_1 : List UInt8 := dkwJ2_rangeCheckForAdd_1 ++ []
def dkwJ2_rangeCheckForAdd_0 : List UInt8 := [27, 42, 180, 0, 48, 163, 0, 7, 27, 156, 0, 16, 187, 0, 187, 89, 42, 27, 182, 0, 198, 183, 0, 193]
abbrev dktJ2_rangeCheckForAdd_0 : List UInt8 := dkwJ2_rangeCheckForAdd_0 ++ dktJ2_rangeCheckForAdd_1
theorem dksJ2_rangeCheckForAdd_0 : cJ2_rangeCheckForAdd.data.toList.drop 0 = dktJ2_rangeCheckForAdd_0 := by decide +kernel
theorem dksJ2_rangeCheckForAdd_1 : cJ2_rangeCheckForAdd.data.toList.drop 24 = dktJ2_rangeCheckForAdd_1 := dk_seg dksJ2_rangeCheckForAdd_0 24 rfl rfl
theorem dJ2_rangeCheckForAdd_0 : decode cJ2_rangeCheckForAdd 0 = .ok (.iload_n 1, 1) := dk_27 (dk_at dksJ2_rangeCheckForAdd_0 0 rfl rfl)
theorem dJ2_rangeCheckForAdd_1 : decode cJ2_rangeCheckForAdd 1 = .ok (.aload_n 0, 1) := dk_42 (dk_at dksJ2_rangeCheckForAdd_0 1 rfl rfl)
theorem dJ2_rangeCheckForAdd_2 : decode cJ2_rangeCheckForAdd 2 = .ok (.getfield 48, 3) := dk_180 0 48 (dk_at dksJ2_rangeCheckForAdd_0 2 rfl rfl)
theorem dJ2_rangeCheckForAdd_5 : decode cJ2_rangeCheckForAdd 5 = .ok (.if_icmp .gt 7, 3) := dk_163 0 7 (dk_at dksJ2_rangeCheckForAdd_0 5 rfl rfl)
theorem dJ2_rangeCheckForAdd_8 : decode cJ2_rangeCheckForAdd 8 = .ok (.iload_n 1, 1) := dk_27 (dk_at dksJ2_rangeCheckForAdd_0 8 rfl rfl)
theorem dJ2_rangeCheckForAdd_9 : decode cJ2_rangeCheckForAdd 9 = .ok (.ifCond .ge 16, 3) := dk_156 0 16 (dk_at dksJ2_rangeCheckForAdd_0 9 rfl rfl)
theorem dJ2_rangeCheckForAdd_12 : decode cJ2_rangeCheckForAdd 12 = .ok (.new 187, 3) := dk_187 0 187 (dk_at dksJ2_rangeCheckForAdd_0 12 rfl rfl)
theorem dJ2_rangeCheckForAdd_15 : decode cJ2_rangeCheckForAdd 15 = .ok (.dup, 1) := dk_89 (dk_at dksJ2_rangeCheckForAdd_0 15 rfl rfl)
theorem dJ2_rangeCheckForAdd_16 : decode cJ2_rangeCheckForAdd 16 = .ok (.aload_n 0, 1) := dk_42 (dk_at dksJ2_rangeCheckForAdd_0 16 rfl rfl)
theorem dJ2_rangeCheckForAdd_17 : decode cJ2_rangeCheckForAdd 17 = .ok (.iload_n 1, 1) := dk_27 (dk_at dksJ2_rangeCheckForAdd_0 17 rfl rfl)
theorem dJ2_rangeCheckForAdd_18 : decode cJ2_rangeCheckForAdd 18 = .ok (.invokevirtual 198, 3) := dk_182 0 198 (dk_at dksJ2_rangeCheckForAdd_0 18 rfl rfl)
theorem dJ2_rangeCheckForAdd_21 : decode cJ2_rangeCheckForAdd 21 = .ok (.invokespecial 193, 3) := dk_183 0 193 (dk_at dksJ2_rangeCheckForAdd_0 21 rfl rfl)
theorem dJ2_rangeCheckForAdd_24 : decode cJ2_rangeCheckForAdd 24 = .ok (.athrow, 1) := dk_191 (dk_at dksJ2_rangeCheckForAdd_1 0 rfl rfl)
theorem dJ2_rangeCheckForAdd_25 : decode cJ2_rangeCheckForAdd 25 = .ok (.return_, 1) := dk_177 (dk_at dksJ2_rangeCheckForAdd_1 1 rfl rfl)
abbrev cJ2_iterator : ByteArray := prog_45_method_55_code
def yJ2_iterator : MethodName := ⟨RJ2, "iterator", "()Ljava/util/Iterator;"⟩
def dkwJ2_iterator_0 : List UInt8 := [187, 1, 11, 89, 42, 183, 1, 13, 176]
abbrev dktJ2_iterator_0 : List UInt8 := dkwJ2_iterator_0 ++ []
theorem dksJ2_iterator_0 : cJ2_iterator.data.toList.drop 0 = dktJ2_iterator_0 := by decide +kernel
theorem dJ2_iterator_0 : decode cJ2_iterator 0 = .ok (.new 267, 3) := dk_187 1 11 (dk_at dksJ2_iterator_0 0 rfl rfl)
theorem dJ2_iterator_3 : decode cJ2_iterator 3 = .ok (.dup, 1) := dk_89 (dk_at dksJ2_iterator_0 3 rfl rfl)
theorem dJ2_iterator_4 : decode cJ2_iterator 4 = .ok (.aload_n 0, 1) := dk_42 (dk_at dksJ2_iterator_0 4 rfl rfl)
theorem dJ2_iterator_5 : decode cJ2_iterator 5 = .ok (.invokespecial 269, 3) := dk_183 1 13 (dk_at dksJ2_iterator_0 5 rfl rfl)
theorem dJ2_iterator_8 : decode cJ2_iterator 8 = .ok (.areturn, 1) := dk_176 (dk_at dksJ2_iterator_0 8 rfl rfl)
theorem q93 : (Jvm.Cond.initialized "java/util/ArrayList") ∈ lw_all := lw_g (lw_at lw_m1 4 rfl) rfl
theorem q153 : (Jvm.Cond.instantiable "java/util/ArrayList" (3 : Nat)) ∈ lw_all := lw_g (lw_at lw_m1 64 rfl) rfl
theorem q155 : (Jvm.Cond.instanceMethod ({ cls := "java/util/ArrayList", name := "<init>", desc := "()V" } : Jvm.MethodName)) ∈ lw_all := lw_g (lw_at lw_m1 66 rfl) rfl
theorem q156 : (Jvm.Cond.code ({ cls := "java/util/ArrayList", name := "<init>", desc := "()V" } : Jvm.MethodName) prog_45_method_2_code (1 : Nat) (Option.none : Option Jvm.ClassFile.FieldType)) ∈ lw_all := lw_g (lw_at lw_m1 67 rfl) rfl
theorem q157 : (Jvm.Cond.methodLink "java/util/ArrayList" (1 : Nat) ({ cls := "java/util/AbstractList", name := "<init>", desc := "()V" } : Jvm.MethodName)) ∈ lw_all := lw_g (lw_at lw_m1 68 rfl) rfl
theorem q164 : (Jvm.Cond.fieldLink "java/util/ArrayList" (39 : Nat) "java/util/ArrayList" "DEFAULTCAPACITY_EMPTY_ELEMENTDATA" "[Ljava/lang/Object;") ∈ lw_all := lw_g (lw_at lw_m1 75 rfl) rfl
theorem q165 : (Jvm.Cond.laysStatic "java/util/ArrayList" "DEFAULTCAPACITY_EMPTY_ELEMENTDATA" "[Ljava/lang/Object;") ∈ lw_tbl := lw_at lw_m1 76 rfl
theorem q166 : (Jvm.Cond.fieldLink "java/util/ArrayList" (9 : Nat) "java/util/ArrayList" "elementData" "[Ljava/lang/Object;") ∈ lw_all := lw_g (lw_at lw_m1 77 rfl) rfl
theorem q169 : (Jvm.Cond.fieldLink "java/util/ArrayList" (48 : Nat) "java/util/ArrayList" "size" "I") ∈ lw_all := lw_g (lw_at lw_m1 80 rfl) rfl
theorem q172 : (Jvm.Cond.sameField "java/util/ArrayList" "java/util/AbstractList" "modCount" "I") ∈ lw_all := lw_g (lw_at lw_m1 83 rfl) rfl
theorem q173 : (Jvm.Cond.fieldLink "java/util/ArrayList" (63 : Nat) "java/util/ArrayList" "modCount" "I") ∈ lw_all := lw_g (lw_at lw_m1 84 rfl) rfl
theorem q174 : (Jvm.Cond.lays "java/util/ArrayList" "java/util/ArrayList" "elementData" "[Ljava/lang/Object;") ∈ lw_all := lw_g (lw_at lw_m1 85 rfl) rfl
theorem q175 : (Jvm.Cond.soleField "java/util/ArrayList" "elementData") ∈ lw_all := lw_g (lw_at lw_m1 86 rfl) rfl
theorem q176 : (Jvm.Cond.lays "java/util/ArrayList" "java/util/ArrayList" "size" "I") ∈ lw_all := lw_g (lw_at lw_m1 87 rfl) rfl
theorem q177 : (Jvm.Cond.soleField "java/util/ArrayList" "size") ∈ lw_all := lw_g (lw_at lw_m1 88 rfl) rfl
theorem q178 : (Jvm.Cond.lays "java/util/ArrayList" "java/util/AbstractList" "modCount" "I") ∈ lw_all := lw_g (lw_at lw_m1 89 rfl) rfl
theorem q180 : (Jvm.Cond.superclass "java/util/ArrayList" "java/util/AbstractList") ∈ lw_all := lw_g (lw_at lw_m1 91 rfl) rfl
theorem q272 : (Jvm.Cond.instanceMethod ({ cls := "java/util/ArrayList", name := "size", desc := "()I" } : Jvm.MethodName)) ∈ lw_all := lw_g (lw_at lw_m1 183 rfl) rfl
theorem q273 : (Jvm.Cond.selects "java/util/ArrayList" ({ cls := "java/util/ArrayList", name := "size", desc := "()I" } : Jvm.MethodName) ({ cls := "java/util/ArrayList", name := "size", desc := "()I" } : Jvm.MethodName)) ∈ lw_all := lw_g (lw_at lw_m1 184 rfl) rfl
theorem q274 : (Jvm.Cond.code ({ cls := "java/util/ArrayList", name := "size", desc := "()I" } : Jvm.MethodName) prog_45_method_8_code (1 : Nat) (Option.some Jvm.ClassFile.FieldType.int)) ∈ lw_all := lw_g (lw_at lw_m1 185 rfl) rfl
theorem q276 : (Jvm.Cond.instanceMethod ({ cls := "java/util/ArrayList", name := "get", desc := "(I)Ljava/lang/Object;" } : Jvm.MethodName)) ∈ lw_all := lw_g (lw_at lw_m1 187 rfl) rfl
theorem q277 : (Jvm.Cond.selects "java/util/ArrayList" ({ cls := "java/util/ArrayList", name := "get", desc := "(I)Ljava/lang/Object;" } : Jvm.MethodName) ({ cls := "java/util/ArrayList", name := "get", desc := "(I)Ljava/lang/Object;" } : Jvm.MethodName)) ∈ lw_all := lw_g (lw_at lw_m1 188 rfl) rfl
theorem q278 : (Jvm.Cond.code ({ cls := "java/util/ArrayList", name := "get", desc := "(I)Ljava/lang/Object;" } : Jvm.MethodName) prog_45_method_20_code (2 : Nat) (Option.some (Jvm.ClassFile.FieldType.object "java/lang/Object"))) ∈ lw_all := lw_g (lw_at lw_m1 189 rfl) rfl
theorem q279 : (Jvm.Cond.methodLink "java/util/ArrayList" (118 : Nat) ({ cls := "java/util/Objects", name := "checkIndex", desc := "(II)I" } : Jvm.MethodName)) ∈ lw_all := lw_g (lw_at lw_m1 190 rfl) rfl
theorem q285 : (Jvm.Cond.methodLink "java/util/ArrayList" (123 : Nat) ({ cls := "java/util/ArrayList", name := "elementData", desc := "(I)Ljava/lang/Object;" } : Jvm.MethodName)) ∈ lw_all := lw_g (lw_at lw_m1 196 rfl) rfl
theorem q286 : (Jvm.Cond.instanceMethod ({ cls := "java/util/ArrayList", name := "elementData", desc := "(I)Ljava/lang/Object;" } : Jvm.MethodName)) ∈ lw_all := lw_g (lw_at lw_m1 197 rfl) rfl
theorem q287 : (Jvm.Cond.selects "java/util/ArrayList" ({ cls := "java/util/ArrayList", name := "elementData", desc := "(I)Ljava/lang/Object;" } : Jvm.MethodName) ({ cls := "java/util/ArrayList", name := "elementData", desc := "(I)Ljava/lang/Object;" } : Jvm.MethodName)) ∈ lw_all := lw_g (lw_at lw_m1 198 rfl) rfl
theorem q288 : (Jvm.Cond.code ({ cls := "java/util/ArrayList", name := "elementData", desc := "(I)Ljava/lang/Object;" } : Jvm.MethodName) prog_45_method_18_code (2 : Nat) (Option.some (Jvm.ClassFile.FieldType.object "java/lang/Object"))) ∈ lw_all := lw_g (lw_at lw_m1 199 rfl) rfl
theorem q328 : (Jvm.Cond.instanceMethod ({ cls := "java/util/ArrayList", name := "add", desc := "(Ljava/lang/Object;)Z" } : Jvm.MethodName)) ∈ lw_all := lw_g (lw_at lw_m1 239 rfl) rfl
theorem q329 : (Jvm.Cond.selects "java/util/ArrayList" ({ cls := "java/util/ArrayList", name := "add", desc := "(Ljava/lang/Object;)Z" } : Jvm.MethodName) ({ cls := "java/util/ArrayList", name := "add", desc := "(Ljava/lang/Object;)Z" } : Jvm.MethodName)) ∈ lw_all := lw_g (lw_at lw_m2 0 rfl) rfl
theorem q330 : (Jvm.Cond.code ({ cls := "java/util/ArrayList", name := "add", desc := "(Ljava/lang/Object;)Z" } : Jvm.MethodName) prog_45_method_25_code (2 : Nat) (Option.some Jvm.ClassFile.FieldType.boolean)) ∈ lw_all := lw_g (lw_at lw_m2 1 rfl) rfl
theorem q331 : (Jvm.Cond.methodLink "java/util/ArrayList" (131 : Nat) ({ cls := "java/util/ArrayList", name := "add", desc := "(Ljava/lang/Object;[Ljava/lang/Object;I)V" } : Jvm.MethodName)) ∈ lw_all := lw_g (lw_at lw_m2 2 rfl) rfl
theorem q332 : (Jvm.Cond.privateMethod ({ cls := "java/util/ArrayList", name := "add", desc := "(Ljava/lang/Object;[Ljava/lang/Object;I)V" } : Jvm.MethodName)) ∈ lw_tbl := lw_at lw_m2 3 rfl
theorem q333 : (Jvm.Cond.instanceMethod ({ cls := "java/util/ArrayList", name := "add", desc := "(Ljava/lang/Object;[Ljava/lang/Object;I)V" } : Jvm.MethodName)) ∈ lw_all := lw_g (lw_at lw_m2 4 rfl) rfl
theorem q334 : (Jvm.Cond.code ({ cls := "java/util/ArrayList", name := "add", desc := "(Ljava/lang/Object;[Ljava/lang/Object;I)V" } : Jvm.MethodName) prog_45_method_24_code (4 : Nat) (Option.none : Option Jvm.ClassFile.FieldType)) ∈ lw_all := lw_g (lw_at lw_m2 5 rfl) rfl
theorem q335 : (Jvm.Cond.methodLink "java/util/ArrayList" (129 : Nat) ({ cls := "java/util/ArrayList", name := "grow", desc := "()[Ljava/lang/Object;" } : Jvm.MethodName)) ∈ lw_all := lw_g (lw_at lw_m2 6 rfl) rfl
theorem q336 : (Jvm.Cond.privateMethod ({ cls := "java/util/ArrayList", name := "grow", desc := "()[Ljava/lang/Object;" } : Jvm.MethodName)) ∈ lw_tbl := lw_at lw_m2 7 rfl
theorem q337 : (Jvm.Cond.instanceMethod ({ cls := "java/util/ArrayList", name := "grow", desc := "()[Ljava/lang/Object;" } : Jvm.MethodName)) ∈ lw_all := lw_g (lw_at lw_m2 8 rfl) rfl
theorem q338 : (Jvm.Cond.code ({ cls := "java/util/ArrayList", name := "grow", desc := "()[Ljava/lang/Object;" } : Jvm.MethodName) prog_45_method_7_code (1 : Nat) (Option.some (Jvm.ClassFile.FieldType.array (Jvm.ClassFile.FieldType.object "java/lang/Object")))) ∈ lw_all := lw_g (lw_at lw_m2 9 rfl) rfl
theorem q339 : (Jvm.Cond.methodLink "java/util/ArrayList" (69 : Nat) ({ cls := "java/util/ArrayList", name := "grow", desc := "(I)[Ljava/lang/Object;" } : Jvm.MethodName)) ∈ lw_all := lw_g (lw_at lw_m2 10 rfl) rfl
theorem q340 : (Jvm.Cond.privateMethod ({ cls := "java/util/ArrayList", name := "grow", desc := "(I)[Ljava/lang/Object;" } : Jvm.MethodName)) ∈ lw_tbl := lw_at lw_m2 11 rfl
theorem q341 : (Jvm.Cond.instanceMethod ({ cls := "java/util/ArrayList", name := "grow", desc := "(I)[Ljava/lang/Object;" } : Jvm.MethodName)) ∈ lw_all := lw_g (lw_at lw_m2 12 rfl) rfl
theorem q342 : (Jvm.Cond.code ({ cls := "java/util/ArrayList", name := "grow", desc := "(I)[Ljava/lang/Object;" } : Jvm.MethodName) prog_45_method_6_code (4 : Nat) (Option.some (Jvm.ClassFile.FieldType.array (Jvm.ClassFile.FieldType.object "java/lang/Object")))) ∈ lw_all := lw_g (lw_at lw_m2 13 rfl) rfl
theorem q343 : (Jvm.Cond.methodLink "java/util/ArrayList" (73 : Nat) ({ cls := "jdk/internal/util/ArraysSupport", name := "newLength", desc := "(III)I" } : Jvm.MethodName)) ∈ lw_all := lw_g (lw_at lw_m2 14 rfl) rfl
theorem q353 : (Jvm.Cond.methodLink "java/util/ArrayList" (66 : Nat) ({ cls := "java/util/Arrays", name := "copyOf", desc := "([Ljava/lang/Object;I)[Ljava/lang/Object;" } : Jvm.MethodName)) ∈ lw_all := lw_g (lw_at lw_m2 24 rfl) rfl
theorem q377 : (Jvm.Cond.selects "java/util/ArrayList" ({ cls := "java/lang/Object", name := "getClass", desc := "()Ljava/lang/Class;" } : Jvm.MethodName) ({ cls := "java/lang/Object", name := "getClass", desc := "()Ljava/lang/Class;" } : Jvm.MethodName)) ∈ lw_all := lw_g (lw_at lw_m2 48 rfl) rfl
theorem q402 : (Jvm.Cond.methodLink "java/util/ArrayList" (79 : Nat) ({ cls := "java/lang/Math", name := "max", desc := "(II)I" } : Jvm.MethodName)) ∈ lw_all := lw_g (lw_at lw_m2 73 rfl) rfl
theorem q403 : (Jvm.Cond.classLink "java/util/ArrayList" (7 : Nat) "java/lang/Object") ∈ lw_all := lw_g (lw_at lw_m2 74 rfl) rfl
theorem q1092 : (Jvm.Cond.instanceMethod ({ cls := "java/util/ArrayList", name := "remove", desc := "(I)Ljava/lang/Object;" } : Jvm.MethodName)) ∈ lw_all := lw_g (lw_at lw_m5 43 rfl) rfl
theorem q1093 : (Jvm.Cond.selects "java/util/ArrayList" ({ cls := "java/util/ArrayList", name := "remove", desc := "(I)Ljava/lang/Object;" } : Jvm.MethodName) ({ cls := "java/util/ArrayList", name := "remove", desc := "(I)Ljava/lang/Object;" } : Jvm.MethodName)) ∈ lw_all := lw_g (lw_at lw_m5 44 rfl) rfl
theorem q1094 : (Jvm.Cond.code ({ cls := "java/util/ArrayList", name := "remove", desc := "(I)Ljava/lang/Object;" } : Jvm.MethodName) prog_45_method_29_code (4 : Nat) (Option.some (Jvm.ClassFile.FieldType.object "java/lang/Object"))) ∈ lw_all := lw_g (lw_at lw_m5 45 rfl) rfl
theorem q1095 : (Jvm.Cond.methodLink "java/util/ArrayList" (144 : Nat) ({ cls := "java/util/ArrayList", name := "fastRemove", desc := "([Ljava/lang/Object;I)V" } : Jvm.MethodName)) ∈ lw_all := lw_g (lw_at lw_m5 46 rfl) rfl
theorem q1096 : (Jvm.Cond.privateMethod ({ cls := "java/util/ArrayList", name := "fastRemove", desc := "([Ljava/lang/Object;I)V" } : Jvm.MethodName)) ∈ lw_tbl := lw_at lw_m5 47 rfl
theorem q1097 : (Jvm.Cond.instanceMethod ({ cls := "java/util/ArrayList", name := "fastRemove", desc := "([Ljava/lang/Object;I)V" } : Jvm.MethodName)) ∈ lw_all := lw_g (lw_at lw_m5 48 rfl) rfl
theorem q1098 : (Jvm.Cond.code ({ cls := "java/util/ArrayList", name := "fastRemove", desc := "([Ljava/lang/Object;I)V" } : Jvm.MethodName) prog_45_method_39_code (4 : Nat) (Option.none : Option Jvm.ClassFile.FieldType)) ∈ lw_all := lw_g (lw_at lw_m5 49 rfl) rfl
theorem q1099 : (Jvm.Cond.methodLink "java/util/ArrayList" (112 : Nat) ({ cls := "java/lang/System", name := "arraycopy", desc := "(Ljava/lang/Object;ILjava/lang/Object;II)V" } : Jvm.MethodName)) ∈ lw_all := lw_g (lw_at lw_m5 50 rfl) rfl
theorem q1245 : (Jvm.Cond.instanceMethod ({ cls := "java/util/ArrayList", name := "add", desc := "(ILjava/lang/Object;)V" } : Jvm.MethodName)) ∈ lw_all := lw_g (lw_at lw_m5 196 rfl) rfl
theorem q1246 : (Jvm.Cond.selects "java/util/ArrayList" ({ cls := "java/util/ArrayList", name := "add", desc := "(ILjava/lang/Object;)V" } : Jvm.MethodName) ({ cls := "java/util/ArrayList", name := "add", desc := "(ILjava/lang/Object;)V" } : Jvm.MethodName)) ∈ lw_all := lw_g (lw_at lw_m5 197 rfl) rfl
theorem q1247 : (Jvm.Cond.code ({ cls := "java/util/ArrayList", name := "add", desc := "(ILjava/lang/Object;)V" } : Jvm.MethodName) prog_45_method_26_code (5 : Nat) (Option.none : Option Jvm.ClassFile.FieldType)) ∈ lw_all := lw_g (lw_at lw_m5 198 rfl) rfl
theorem q1248 : (Jvm.Cond.methodLink "java/util/ArrayList" (135 : Nat) ({ cls := "java/util/ArrayList", name := "rangeCheckForAdd", desc := "(I)V" } : Jvm.MethodName)) ∈ lw_all := lw_g (lw_at lw_m5 199 rfl) rfl
theorem q1249 : (Jvm.Cond.privateMethod ({ cls := "java/util/ArrayList", name := "rangeCheckForAdd", desc := "(I)V" } : Jvm.MethodName)) ∈ lw_tbl := lw_at lw_m5 200 rfl
theorem q1250 : (Jvm.Cond.instanceMethod ({ cls := "java/util/ArrayList", name := "rangeCheckForAdd", desc := "(I)V" } : Jvm.MethodName)) ∈ lw_all := lw_g (lw_at lw_m5 201 rfl) rfl
theorem q1251 : (Jvm.Cond.code ({ cls := "java/util/ArrayList", name := "rangeCheckForAdd", desc := "(I)V" } : Jvm.MethodName) prog_45_method_45_code (2 : Nat) (Option.none : Option Jvm.ClassFile.FieldType)) ∈ lw_all := lw_g (lw_at lw_m5 202 rfl) rfl
theorem q1253 : (Jvm.Cond.instanceMethod ({ cls := "java/util/ArrayList", name := "iterator", desc := "()Ljava/util/Iterator;" } : Jvm.MethodName)) ∈ lw_all := lw_g (lw_at lw_m5 204 rfl) rfl
theorem q1254 : (Jvm.Cond.selects "java/util/ArrayList" ({ cls := "java/util/ArrayList", name := "iterator", desc := "()Ljava/util/Iterator;" } : Jvm.MethodName) ({ cls := "java/util/ArrayList", name := "iterator", desc := "()Ljava/util/Iterator;" } : Jvm.MethodName)) ∈ lw_all := lw_g (lw_at lw_m5 205 rfl) rfl
theorem q1255 : (Jvm.Cond.code ({ cls := "java/util/ArrayList", name := "iterator", desc := "()Ljava/util/Iterator;" } : Jvm.MethodName) prog_45_method_55_code (1 : Nat) (Option.some (Jvm.ClassFile.FieldType.object "java/util/Iterator"))) ∈ lw_all := lw_g (lw_at lw_m5 206 rfl) rfl
theorem q1256 : (Jvm.Cond.classLink "java/util/ArrayList" (267 : Nat) "java/util/ArrayList$Itr") ∈ lw_all := lw_g (lw_at lw_m5 207 rfl) rfl
theorem q1258 : (Jvm.Cond.methodLink "java/util/ArrayList" (269 : Nat) ({ cls := "java/util/ArrayList$Itr", name := "<init>", desc := "(Ljava/util/ArrayList;)V" } : Jvm.MethodName)) ∈ lw_all := lw_g (lw_at lw_m5 209 rfl) rfl
theorem q2458 : (Jvm.Cond.castable "java/util/ArrayList" "java/lang/Object") ∈ lw_tbl := lw_at lw_m10 209 rfl
theorem in_J2 : ∀ w ∈ wsJ20, w ∈ lw_all := lw_in wsJ20 [178, 174, 176] (by decide +kernel) (by decide +kernel)

/-! java/util/Objects -/
set_option maxRecDepth 100000
def RJ3 : String := "java/util/Objects"
abbrev cJ3_checkIndex : ByteArray := prog_66_method_17_code
def yJ3_checkIndex : MethodName := ⟨RJ3, "checkIndex", "(II)I"⟩
def dkwJ3_checkIndex_0 : List UInt8 := [26, 27, 1, 184, 0, 105, 172]
abbrev dktJ3_checkIndex_0 : List UInt8 := dkwJ3_checkIndex_0 ++ []
theorem dksJ3_checkIndex_0 : cJ3_checkIndex.data.toList.drop 0 = dktJ3_checkIndex_0 := by decide +kernel
theorem dJ3_checkIndex_0 : decode cJ3_checkIndex 0 = .ok (.iload_n 0, 1) := dk_26 (dk_at dksJ3_checkIndex_0 0 rfl rfl)
theorem dJ3_checkIndex_1 : decode cJ3_checkIndex 1 = .ok (.iload_n 1, 1) := dk_27 (dk_at dksJ3_checkIndex_0 1 rfl rfl)
theorem dJ3_checkIndex_2 : decode cJ3_checkIndex 2 = .ok (.aconst_null, 1) := dk_1 (dk_at dksJ3_checkIndex_0 2 rfl rfl)
theorem dJ3_checkIndex_3 : decode cJ3_checkIndex 3 = .ok (.invokestatic 105, 3) := dk_184 0 105 (dk_at dksJ3_checkIndex_0 3 rfl rfl)
theorem dJ3_checkIndex_6 : decode cJ3_checkIndex 6 = .ok (.ireturn, 1) := dk_172 (dk_at dksJ3_checkIndex_0 6 rfl rfl)
theorem q99 : (Jvm.Cond.initialized "java/util/Objects") ∈ lw_all := lw_g (lw_at lw_m1 10 rfl) rfl
theorem q280 : (Jvm.Cond.static ({ cls := "java/util/Objects", name := "checkIndex", desc := "(II)I" } : Jvm.MethodName)) ∈ lw_all := lw_g (lw_at lw_m1 191 rfl) rfl
theorem q281 : (Jvm.Cond.code ({ cls := "java/util/Objects", name := "checkIndex", desc := "(II)I" } : Jvm.MethodName) prog_66_method_17_code (2 : Nat) (Option.some Jvm.ClassFile.FieldType.int)) ∈ lw_all := lw_g (lw_at lw_m1 192 rfl) rfl
theorem q282 : (Jvm.Cond.methodLink "java/util/Objects" (105 : Nat) ({ cls := "jdk/internal/util/Preconditions", name := "checkIndex", desc := "(IILjava/util/function/BiFunction;)I" } : Jvm.MethodName)) ∈ lw_all := lw_g (lw_at lw_m1 193 rfl) rfl

/-! jdk/internal/util/Preconditions -/
set_option maxRecDepth 100000
def RJ4 : String := "jdk/internal/util/Preconditions"
abbrev cJ4_checkIndex : ByteArray := prog_76_method_11_code
def yJ4_checkIndex : MethodName := ⟨RJ4, "checkIndex", "(IILjava/util/function/BiFunction;)I"⟩
def dkwJ4_checkIndex_0 : List UInt8 := [26, 155, 0, 8, 26, 27, 161, 0, 10, 44, 26, 27, 184, 0, 95, 191, 26, 172]
abbrev dktJ4_checkIndex_0 : List UInt8 := dkwJ4_checkIndex_0 ++ []
theorem dksJ4_checkIndex_0 : cJ4_checkIndex.data.toList.drop 0 = dktJ4_checkIndex_0 := by decide +kernel
theorem dJ4_checkIndex_0 : decode cJ4_checkIndex 0 = .ok (.iload_n 0, 1) := dk_26 (dk_at dksJ4_checkIndex_0 0 rfl rfl)
theorem dJ4_checkIndex_1 : decode cJ4_checkIndex 1 = .ok (.ifCond .lt 8, 3) := dk_155 0 8 (dk_at dksJ4_checkIndex_0 1 rfl rfl)
theorem dJ4_checkIndex_4 : decode cJ4_checkIndex 4 = .ok (.iload_n 0, 1) := dk_26 (dk_at dksJ4_checkIndex_0 4 rfl rfl)
theorem dJ4_checkIndex_5 : decode cJ4_checkIndex 5 = .ok (.iload_n 1, 1) := dk_27 (dk_at dksJ4_checkIndex_0 5 rfl rfl)
theorem dJ4_checkIndex_6 : decode cJ4_checkIndex 6 = .ok (.if_icmp .lt 10, 3) := dk_161 0 10 (dk_at dksJ4_checkIndex_0 6 rfl rfl)
theorem dJ4_checkIndex_9 : decode cJ4_checkIndex 9 = .ok (.aload_n 2, 1) := dk_44 (dk_at dksJ4_checkIndex_0 9 rfl rfl)
theorem dJ4_checkIndex_10 : decode cJ4_checkIndex 10 = .ok (.iload_n 0, 1) := dk_26 (dk_at dksJ4_checkIndex_0 10 rfl rfl)
theorem dJ4_checkIndex_11 : decode cJ4_checkIndex 11 = .ok (.iload_n 1, 1) := dk_27 (dk_at dksJ4_checkIndex_0 11 rfl rfl)
theorem dJ4_checkIndex_12 : decode cJ4_checkIndex 12 = .ok (.invokestatic 95, 3) := dk_184 0 95 (dk_at dksJ4_checkIndex_0 12 rfl rfl)
theorem dJ4_checkIndex_15 : decode cJ4_checkIndex 15 = .ok (.athrow, 1) := dk_191 (dk_at dksJ4_checkIndex_0 15 rfl rfl)
theorem dJ4_checkIndex_16 : decode cJ4_checkIndex 16 = .ok (.iload_n 0, 1) := dk_26 (dk_at dksJ4_checkIndex_0 16 rfl rfl)
theorem dJ4_checkIndex_17 : decode cJ4_checkIndex 17 = .ok (.ireturn, 1) := dk_172 (dk_at dksJ4_checkIndex_0 17 rfl rfl)
abbrev cJ4_checkFromToIndex : ByteArray := prog_76_method_12_code
def yJ4_checkFromToIndex : MethodName := ⟨RJ4, "checkFromToIndex", "(IIILjava/util/function/BiFunction;)I"⟩
def dkwJ4_checkFromToIndex_0 : List UInt8 := [26, 155, 0, 13, 26, 27, 163, 0, 8, 27, 28, 164, 0, 11, 45, 26, 27, 28, 184, 0, 99, 191, 26, 172]
abbrev dktJ4_checkFromToIndex_0 : List UInt8 := dkwJ4_checkFromToIndex_0 ++ []
theorem dksJ4_checkFromToIndex_0 : cJ4_checkFromToIndex.data.toList.drop 0 = dktJ4_checkFromToIndex_0 := by decide +kernel
theorem dJ4_checkFromToIndex_0 : decode cJ4_checkFromToIndex 0 = .ok (.iload_n 0, 1) := dk_26 (dk_at dksJ4_checkFromToIndex_0 0 rfl rfl)
theorem dJ4_checkFromToIndex_1 : decode cJ4_checkFromToIndex 1 = .ok (.ifCond .lt 13, 3) := dk_155 0 13 (dk_at dksJ4_checkFromToIndex_0 1 rfl rfl)
theorem dJ4_checkFromToIndex_4 : decode cJ4_checkFromToIndex 4 = .ok (.iload_n 0, 1) := dk_26 (dk_at dksJ4_checkFromToIndex_0 4 rfl rfl)
theorem dJ4_checkFromToIndex_5 : decode cJ4_checkFromToIndex 5 = .ok (.iload_n 1, 1) := dk_27 (dk_at dksJ4_checkFromToIndex_0 5 rfl rfl)
theorem dJ4_checkFromToIndex_6 : decode cJ4_checkFromToIndex 6 = .ok (.if_icmp .gt 8, 3) := dk_163 0 8 (dk_at dksJ4_checkFromToIndex_0 6 rfl rfl)
theorem dJ4_checkFromToIndex_9 : decode cJ4_checkFromToIndex 9 = .ok (.iload_n 1, 1) := dk_27 (dk_at dksJ4_checkFromToIndex_0 9 rfl rfl)
theorem dJ4_checkFromToIndex_10 : decode cJ4_checkFromToIndex 10 = .ok (.iload_n 2, 1) := dk_28 (dk_at dksJ4_checkFromToIndex_0 10 rfl rfl)
theorem dJ4_checkFromToIndex_11 : decode cJ4_checkFromToIndex 11 = .ok (.if_icmp .le 11, 3) := dk_164 0 11 (dk_at dksJ4_checkFromToIndex_0 11 rfl rfl)
theorem dJ4_checkFromToIndex_14 : decode cJ4_checkFromToIndex 14 = .ok (.aload_n 3, 1) := dk_45 (dk_at dksJ4_checkFromToIndex_0 14 rfl rfl)
theorem dJ4_checkFromToIndex_15 : decode cJ4_checkFromToIndex 15 = .ok (.iload_n 0, 1) := dk_26 (dk_at dksJ4_checkFromToIndex_0 15 rfl rfl)
theorem dJ4_checkFromToIndex_16 : decode cJ4_checkFromToIndex 16 = .ok (.iload_n 1, 1) := dk_27 (dk_at dksJ4_checkFromToIndex_0 16 rfl rfl)
theorem dJ4_checkFromToIndex_17 : decode cJ4_checkFromToIndex 17 = .ok (.iload_n 2, 1) := dk_28 (dk_at dksJ4_checkFromToIndex_0 17 rfl rfl)
theorem dJ4_checkFromToIndex_18 : decode cJ4_checkFromToIndex 18 = .ok (.invokestatic 99, 3) := dk_184 0 99 (dk_at dksJ4_checkFromToIndex_0 18 rfl rfl)
theorem dJ4_checkFromToIndex_21 : decode cJ4_checkFromToIndex 21 = .ok (.athrow, 1) := dk_191 (dk_at dksJ4_checkFromToIndex_0 21 rfl rfl)
theorem dJ4_checkFromToIndex_22 : decode cJ4_checkFromToIndex 22 = .ok (.iload_n 0, 1) := dk_26 (dk_at dksJ4_checkFromToIndex_0 22 rfl rfl)
theorem dJ4_checkFromToIndex_23 : decode cJ4_checkFromToIndex 23 = .ok (.ireturn, 1) := dk_172 (dk_at dksJ4_checkFromToIndex_0 23 rfl rfl)
abbrev cJ4_checkFromIndexSize : ByteArray := prog_76_method_13_code
def yJ4_checkFromIndexSize : MethodName := ⟨RJ4, "checkFromIndexSize", "(IIILjava/util/function/BiFunction;)I"⟩
def dkwJ4_checkFromIndexSize_1 : List UInt8 := [172]
abbrev dktJ4_checkFromIndexSize_1 : List UInt8 := dkwJ4_checkFromIndexSize_1 ++ []
def dkwJ4_checkFromIndexSize_0 : List UInt8 := [28, 26, 128, 27, 128, 155, 0, 10, 27, 28, 26, 100, 164, 0, 11, 45, 26, 27, 28, 184, 0, 103, 191, 26]
abbrev dktJ4_checkFromIndexSize_0 : List UInt8 := dkwJ4_checkFromIndexSize_0 ++ dktJ4_checkFromIndexSize_1
theorem dksJ4_checkFromIndexSize_0 : cJ4_checkFromIndexSize.data.toList.drop 0 = dktJ4_checkFromIndexSize_0 := by decide +kernel
theorem dksJ4_checkFromIndexSize_1 : cJ4_checkFromIndexSize.data.toList.drop 24 = dktJ4_checkFromIndexSize_1 := dk_seg dksJ4_checkFromIndexSize_0 24 rfl rfl
theorem dJ4_checkFromIndexSize_0 : decode cJ4_checkFromIndexSize 0 = .ok (.iload_n 2, 1) := dk_28 (dk_at dksJ4_checkFromIndexSize_0 0 rfl rfl)
theorem dJ4_checkFromIndexSize_1 : decode cJ4_checkFromIndexSize 1 = .ok (.iload_n 0, 1) := dk_26 (dk_at dksJ4_checkFromIndexSize_0 1 rfl rfl)
theorem dJ4_checkFromIndexSize_2 : decode cJ4_checkFromIndexSize 2 = .ok (.ior, 1) := dk_128 (dk_at dksJ4_checkFromIndexSize_0 2 rfl rfl)
theorem dJ4_checkFromIndexSize_3 : decode cJ4_checkFromIndexSize 3 = .ok (.iload_n 1, 1) := dk_27 (dk_at dksJ4_checkFromIndexSize_0 3 rfl rfl)
theorem dJ4_checkFromIndexSize_4 : decode cJ4_checkFromIndexSize 4 = .ok (.ior, 1) := dk_128 (dk_at dksJ4_checkFromIndexSize_0 4 rfl rfl)
theorem dJ4_checkFromIndexSize_5 : decode cJ4_checkFromIndexSize 5 = .ok (.ifCond .lt 10, 3) := dk_155 0 10 (dk_at dksJ4_checkFromIndexSize_0 5 rfl rfl)
theorem dJ4_checkFromIndexSize_8 : decode cJ4_checkFromIndexSize 8 = .ok (.iload_n 1, 1) := dk_27 (dk_at dksJ4_checkFromIndexSize_0 8 rfl rfl)
theorem dJ4_checkFromIndexSize_9 : decode cJ4_checkFromIndexSize 9 = .ok (.iload_n 2, 1) := dk_28 (dk_at dksJ4_checkFromIndexSize_0 9 rfl rfl)
theorem dJ4_checkFromIndexSize_10 : decode cJ4_checkFromIndexSize 10 = .ok (.iload_n 0, 1) := dk_26 (dk_at dksJ4_checkFromIndexSize_0 10 rfl rfl)
theorem dJ4_checkFromIndexSize_11 : decode cJ4_checkFromIndexSize 11 = .ok (.isub, 1) := dk_100 (dk_at dksJ4_checkFromIndexSize_0 11 rfl rfl)
theorem dJ4_checkFromIndexSize_12 : decode cJ4_checkFromIndexSize 12 = .ok (.if_icmp .le 11, 3) := dk_164 0 11 (dk_at dksJ4_checkFromIndexSize_0 12 rfl rfl)
theorem dJ4_checkFromIndexSize_15 : decode cJ4_checkFromIndexSize 15 = .ok (.aload_n 3, 1) := dk_45 (dk_at dksJ4_checkFromIndexSize_0 15 rfl rfl)
theorem dJ4_checkFromIndexSize_16 : decode cJ4_checkFromIndexSize 16 = .ok (.iload_n 0, 1) := dk_26 (dk_at dksJ4_checkFromIndexSize_0 16 rfl rfl)
theorem dJ4_checkFromIndexSize_17 : decode cJ4_checkFromIndexSize 17 = .ok (.iload_n 1, 1) := dk_27 (dk_at dksJ4_checkFromIndexSize_0 17 rfl rfl)
theorem dJ4_checkFromIndexSize_18 : decode cJ4_checkFromIndexSize 18 = .ok (.iload_n 2, 1) := dk_28 (dk_at dksJ4_checkFromIndexSize_0 18 rfl rfl)
theorem dJ4_checkFromIndexSize_19 : decode cJ4_checkFromIndexSize 19 = .ok (.invokestatic 103, 3) := dk_184 0 103 (dk_at dksJ4_checkFromIndexSize_0 19 rfl rfl)
theorem dJ4_checkFromIndexSize_22 : decode cJ4_checkFromIndexSize 22 = .ok (.athrow, 1) := dk_191 (dk_at dksJ4_checkFromIndexSize_0 22 rfl rfl)
theorem dJ4_checkFromIndexSize_23 : decode cJ4_checkFromIndexSize 23 = .ok (.iload_n 0, 1) := dk_26 (dk_at dksJ4_checkFromIndexSize_0 23 rfl rfl)
theorem dJ4_checkFromIndexSize_24 : decode cJ4_checkFromIndexSize 24 = .ok (.ireturn, 1) := dk_172 (dk_at dksJ4_checkFromIndexSize_1 0 rfl rfl)
theorem q100 : (Jvm.Cond.initialized "jdk/internal/util/Preconditions") ∈ lw_all := lw_g (lw_at lw_m1 11 rfl) rfl
theorem q283 : (Jvm.Cond.static ({ cls := "jdk/internal/util/Preconditions", name := "checkIndex", desc := "(IILjava/util/function/BiFunction;)I" } : Jvm.MethodName)) ∈ lw_all := lw_g (lw_at lw_m1 194 rfl) rfl
theorem q284 : (Jvm.Cond.code ({ cls := "jdk/internal/util/Preconditions", name := "checkIndex", desc := "(IILjava/util/function/BiFunction;)I" } : Jvm.MethodName) prog_76_method_11_code (3 : Nat) (Option.some Jvm.ClassFile.FieldType.int)) ∈ lw_all := lw_g (lw_at lw_m1 195 rfl) rfl
theorem q913 : (Jvm.Cond.laysStatic "jdk/internal/util/Preconditions" "SIOOBE_FORMATTER" "Ljava/util/function/BiFunction;") ∈ lw_tbl := lw_at lw_m4 104 rfl
theorem q915 : (Jvm.Cond.static ({ cls := "jdk/internal/util/Preconditions", name := "checkFromToIndex", desc := "(IIILjava/util/function/BiFunction;)I" } : Jvm.MethodName)) ∈ lw_all := lw_g (lw_at lw_m4 106 rfl) rfl
theorem q916 : (Jvm.Cond.code ({ cls := "jdk/internal/util/Preconditions", name := "checkFromToIndex", desc := "(IIILjava/util/function/BiFunction;)I" } : Jvm.MethodName) prog_76_method_12_code (4 : Nat) (Option.some Jvm.ClassFile.FieldType.int)) ∈ lw_all := lw_g (lw_at lw_m4 107 rfl) rfl
theorem q1765 : (Jvm.Cond.static ({ cls := "jdk/internal/util/Preconditions", name := "checkFromIndexSize", desc := "(IIILjava/util/function/BiFunction;)I" } : Jvm.MethodName)) ∈ lw_all := lw_g (lw_at lw_m7 236 rfl) rfl
theorem q1766 : (Jvm.Cond.code ({ cls := "jdk/internal/util/Preconditions", name := "checkFromIndexSize", desc := "(IIILjava/util/function/BiFunction;)I" } : Jvm.MethodName) prog_76_method_13_code (4 : Nat) (Option.some Jvm.ClassFile.FieldType.int)) ∈ lw_all := lw_g (lw_at lw_m7 237 rfl) rfl

/-! jdk/internal/util/ArraysSupport -/
set_option maxRecDepth 100000
def RJ5 : String := "jdk/internal/util/ArraysSupport"
abbrev cJ5_newLength : ByteArray := prog_75_method_27_code
def yJ5_newLength : MethodName := ⟨RJ5, "newLength", "(III)I"⟩
def dkwJ5_newLength_1 : List UInt8 := [184, 0, 201, 172]
abbrev dktJ5_newLength_1 : List UInt8 := dkwJ5_newLength_1 ++ []
def dkwJ5_newLength_0 : List UInt8 := [26, 27, 28, 184, 0, 194, 96, 62, 3, 29, 162, 0, 11, 29, 18, 200, 163, 0, 5, 29, 172, 26, 27]
abbrev dktJ5_newLength_0 : List UInt8 := dkwJ5_newLength_0 ++ dktJ5_newLength_1
theorem dksJ5_newLength_0 : cJ5_newLength.data.toList.drop 0 = dktJ5_newLength_0 := by decide +kernel
theorem dksJ5_newLength_1 : cJ5_newLength.data.toList.drop 23 = dktJ5_newLength_1 := dk_seg dksJ5_newLength_0 23 rfl rfl
theorem dJ5_newLength_0 : decode cJ5_newLength 0 = .ok (.iload_n 0, 1) := dk_26 (dk_at dksJ5_newLength_0 0 rfl rfl)
theorem dJ5_newLength_1 : decode cJ5_newLength 1 = .ok (.iload_n 1, 1) := dk_27 (dk_at dksJ5_newLength_0 1 rfl rfl)
theorem dJ5_newLength_2 : decode cJ5_newLength 2 = .ok (.iload_n 2, 1) := dk_28 (dk_at dksJ5_newLength_0 2 rfl rfl)
theorem dJ5_newLength_3 : decode cJ5_newLength 3 = .ok (.invokestatic 194, 3) := dk_184 0 194 (dk_at dksJ5_newLength_0 3 rfl rfl)
theorem dJ5_newLength_6 : decode cJ5_newLength 6 = .ok (.iadd, 1) := dk_96 (dk_at dksJ5_newLength_0 6 rfl rfl)
theorem dJ5_newLength_7 : decode cJ5_newLength 7 = .ok (.istore_n 3, 1) := dk_62 (dk_at dksJ5_newLength_0 7 rfl rfl)
theorem dJ5_newLength_8 : decode cJ5_newLength 8 = .ok (.iconst 0, 1) := dk_3 (dk_at dksJ5_newLength_0 8 rfl rfl)
theorem dJ5_newLength_9 : decode cJ5_newLength 9 = .ok (.iload_n 3, 1) := dk_29 (dk_at dksJ5_newLength_0 9 rfl rfl)
theorem dJ5_newLength_10 : decode cJ5_newLength 10 = .ok (.if_icmp .ge 11, 3) := dk_162 0 11 (dk_at dksJ5_newLength_0 10 rfl rfl)
theorem dJ5_newLength_13 : decode cJ5_newLength 13 = .ok (.iload_n 3, 1) := dk_29 (dk_at dksJ5_newLength_0 13 rfl rfl)
theorem dJ5_newLength_14 : decode cJ5_newLength 14 = .ok (.ldc 200, 2) := dk_18 200 (dk_at dksJ5_newLength_0 14 rfl rfl)
theorem dJ5_newLength_16 : decode cJ5_newLength 16 = .ok (.if_icmp .gt 5, 3) := dk_163 0 5 (dk_at dksJ5_newLength_0 16 rfl rfl)
theorem dJ5_newLength_19 : decode cJ5_newLength 19 = .ok (.iload_n 3, 1) := dk_29 (dk_at dksJ5_newLength_0 19 rfl rfl)
theorem dJ5_newLength_20 : decode cJ5_newLength 20 = .ok (.ireturn, 1) := dk_172 (dk_at dksJ5_newLength_0 20 rfl rfl)
theorem dJ5_newLength_21 : decode cJ5_newLength 21 = .ok (.iload_n 0, 1) := dk_26 (dk_at dksJ5_newLength_0 21 rfl rfl)
theorem dJ5_newLength_22 : decode cJ5_newLength 22 = .ok (.iload_n 1, 1) := dk_27 (dk_at dksJ5_newLength_0 22 rfl rfl)
theorem dJ5_newLength_23 : decode cJ5_newLength 23 = .ok (.invokestatic 201, 3) := dk_184 0 201 (dk_at dksJ5_newLength_1 0 rfl rfl)
theorem dJ5_newLength_26 : decode cJ5_newLength 26 = .ok (.ireturn, 1) := dk_172 (dk_at dksJ5_newLength_1 3 rfl rfl)
abbrev cJ5_hugeLength : ByteArray := prog_75_method_28_code
def yJ5_hugeLength : MethodName := ⟨RJ5, "hugeLength", "(II)I"⟩
def dkwJ5_hugeLength_2 : List UInt8 := [191, 28, 18, 200, 163, 0, 6, 18, 200, 172, 28, 172]
abbrev dktJ5_hugeLength_2 : List UInt8 := dkwJ5_hugeLength_2 ++ []
def dkwJ5_hugeLength_1 : List UInt8 := [26, 182, 0, 98, 18, 208, 182, 0, 94, 27, 182, 0, 98, 18, 210, 182, 0, 94, 182, 0, 101, 183, 0, 212]
abbrev dktJ5_hugeLength_1 : List UInt8 := dkwJ5_hugeLength_1 ++ dktJ5_hugeLength_2
def dkwJ5_hugeLength_0 : List UInt8 := [26, 27, 96, 61, 28, 156, 0, 44, 187, 0, 204, 89, 187, 0, 89, 89, 183, 0, 91, 18, 206, 182, 0, 94]
abbrev dktJ5_hugeLength_0 : List UInt8 := dkwJ5_hugeLength_0 ++ dktJ5_hugeLength_1
theorem dksJ5_hugeLength_0 : cJ5_hugeLength.data.toList.drop 0 = dktJ5_hugeLength_0 := by decide +kernel
theorem dksJ5_hugeLength_1 : cJ5_hugeLength.data.toList.drop 24 = dktJ5_hugeLength_1 := dk_seg dksJ5_hugeLength_0 24 rfl rfl
theorem dksJ5_hugeLength_2 : cJ5_hugeLength.data.toList.drop 48 = dktJ5_hugeLength_2 := dk_seg dksJ5_hugeLength_1 24 rfl rfl
theorem dJ5_hugeLength_0 : decode cJ5_hugeLength 0 = .ok (.iload_n 0, 1) := dk_26 (dk_at dksJ5_hugeLength_0 0 rfl rfl)
theorem dJ5_hugeLength_1 : decode cJ5_hugeLength 1 = .ok (.iload_n 1, 1) := dk_27 (dk_at dksJ5_hugeLength_0 1 rfl rfl)
theorem dJ5_hugeLength_2 : decode cJ5_hugeLength 2 = .ok (.iadd, 1) := dk_96 (dk_at dksJ5_hugeLength_0 2 rfl rfl)
theorem dJ5_hugeLength_3 : decode cJ5_hugeLength 3 = .ok (.istore_n 2, 1) := dk_61 (dk_at dksJ5_hugeLength_0 3 rfl rfl)
theorem dJ5_hugeLength_4 : decode cJ5_hugeLength 4 = .ok (.iload_n 2, 1) := dk_28 (dk_at dksJ5_hugeLength_0 4 rfl rfl)
theorem dJ5_hugeLength_5 : decode cJ5_hugeLength 5 = .ok (.ifCond .ge 44, 3) := dk_156 0 44 (dk_at dksJ5_hugeLength_0 5 rfl rfl)
theorem dJ5_hugeLength_8 : decode cJ5_hugeLength 8 = .ok (.new 204, 3) := dk_187 0 204 (dk_at dksJ5_hugeLength_0 8 rfl rfl)
theorem dJ5_hugeLength_11 : decode cJ5_hugeLength 11 = .ok (.dup, 1) := dk_89 (dk_at dksJ5_hugeLength_0 11 rfl rfl)
theorem dJ5_hugeLength_12 : decode cJ5_hugeLength 12 = .ok (.new 89, 3) := dk_187 0 89 (dk_at dksJ5_hugeLength_0 12 rfl rfl)
theorem dJ5_hugeLength_15 : decode cJ5_hugeLength 15 = .ok (.dup, 1) := dk_89 (dk_at dksJ5_hugeLength_0 15 rfl rfl)
theorem dJ5_hugeLength_16 : decode cJ5_hugeLength 16 = .ok (.invokespecial 91, 3) := dk_183 0 91 (dk_at dksJ5_hugeLength_0 16 rfl rfl)
theorem dJ5_hugeLength_19 : decode cJ5_hugeLength 19 = .ok (.ldc 206, 2) := dk_18 206 (dk_at dksJ5_hugeLength_0 19 rfl rfl)
theorem dJ5_hugeLength_21 : decode cJ5_hugeLength 21 = .ok (.invokevirtual 94, 3) := dk_182 0 94 (dk_at dksJ5_hugeLength_0 21 rfl rfl)
theorem dJ5_hugeLength_24 : decode cJ5_hugeLength 24 = .ok (.iload_n 0, 1) := dk_26 (dk_at dksJ5_hugeLength_1 0 rfl rfl)
theorem dJ5_hugeLength_25 : decode cJ5_hugeLength 25 = .ok (.invokevirtual 98, 3) := dk_182 0 98 (dk_at dksJ5_hugeLength_1 1 rfl rfl)
theorem dJ5_hugeLength_28 : decode cJ5_hugeLength 28 = .ok (.ldc 208, 2) := dk_18 208 (dk_at dksJ5_hugeLength_1 4 rfl rfl)
theorem dJ5_hugeLength_30 : decode cJ5_hugeLength 30 = .ok (.invokevirtual 94, 3) := dk_182 0 94 (dk_at dksJ5_hugeLength_1 6 rfl rfl)
theorem dJ5_hugeLength_33 : decode cJ5_hugeLength 33 = .ok (.iload_n 1, 1) := dk_27 (dk_at dksJ5_hugeLength_1 9 rfl rfl)
theorem dJ5_hugeLength_34 : decode cJ5_hugeLength 34 = .ok (.invokevirtual 98, 3) := dk_182 0 98 (dk_at dksJ5_hugeLength_1 10 rfl rfl)
theorem dJ5_hugeLength_37 : decode cJ5_hugeLength 37 = .ok (.ldc 210, 2) := dk_18 210 (dk_at dksJ5_hugeLength_1 13 rfl rfl)
theorem dJ5_hugeLength_39 : decode cJ5_hugeLength 39 = .ok (.invokevirtual 94, 3) := dk_182 0 94 (dk_at dksJ5_hugeLength_1 15 rfl rfl)
theorem dJ5_hugeLength_42 : decode cJ5_hugeLength 42 = .ok (.invokevirtual 101, 3) := dk_182 0 101 (dk_at dksJ5_hugeLength_1 18 rfl rfl)
theorem dJ5_hugeLength_45 : decode cJ5_hugeLength 45 = .ok (.invokespecial 212, 3) := dk_183 0 212 (dk_at dksJ5_hugeLength_1 21 rfl rfl)
theorem dJ5_hugeLength_48 : decode cJ5_hugeLength 48 = .ok (.athrow, 1) := dk_191 (dk_at dksJ5_hugeLength_2 0 rfl rfl)
theorem dJ5_hugeLength_49 : decode cJ5_hugeLength 49 = .ok (.iload_n 2, 1) := dk_28 (dk_at dksJ5_hugeLength_2 1 rfl rfl)
theorem dJ5_hugeLength_50 : decode cJ5_hugeLength 50 = .ok (.ldc 200, 2) := dk_18 200 (dk_at dksJ5_hugeLength_2 2 rfl rfl)
theorem dJ5_hugeLength_52 : decode cJ5_hugeLength 52 = .ok (.if_icmp .gt 6, 3) := dk_163 0 6 (dk_at dksJ5_hugeLength_2 4 rfl rfl)
theorem dJ5_hugeLength_55 : decode cJ5_hugeLength 55 = .ok (.ldc 200, 2) := dk_18 200 (dk_at dksJ5_hugeLength_2 7 rfl rfl)
theorem dJ5_hugeLength_57 : decode cJ5_hugeLength 57 = .ok (.ireturn, 1) := dk_172 (dk_at dksJ5_hugeLength_2 9 rfl rfl)
theorem dJ5_hugeLength_58 : decode cJ5_hugeLength 58 = .ok (.iload_n 2, 1) := dk_28 (dk_at dksJ5_hugeLength_2 10 rfl rfl)
theorem dJ5_hugeLength_59 : decode cJ5_hugeLength 59 = .ok (.ireturn, 1) := dk_172 (dk_at dksJ5_hugeLength_2 11 rfl rfl)
abbrev cJ5_vectorizedHashCode : ByteArray := prog_75_method_4_code
def yJ5_vectorizedHashCode : MethodName := ⟨RJ5, "vectorizedHashCode", "(Ljava/lang/Object;IIII)I"⟩
def dkwJ5_vectorizedHashCode_6 : List UInt8 := [183, 0, 91, 18, 92, 182, 0, 94, 21, 4, 182, 0, 98, 182, 0, 101, 183, 0, 105, 191, 172]
abbrev dktJ5_vectorizedHashCode_6 : List UInt8 := dkwJ5_vectorizedHashCode_6 ++ []
def dkwJ5_vectorizedHashCode_5 : List UInt8 := [167, 0, 44, 29, 42, 192, 0, 82, 27, 28, 184, 0, 84, 167, 0, 31, 187, 0, 87, 89, 187, 0, 89, 89]
abbrev dktJ5_vectorizedHashCode_5 : List UInt8 := dkwJ5_vectorizedHashCode_5 ++ dktJ5_vectorizedHashCode_6
def dkwJ5_vectorizedHashCode_4 : List UInt8 := [29, 42, 192, 0, 60, 27, 28, 184, 0, 75, 167, 0, 57, 29, 42, 192, 0, 77, 27, 28, 184, 0, 79]
abbrev dktJ5_vectorizedHashCode_4 : List UInt8 := dkwJ5_vectorizedHashCode_4 ++ dktJ5_vectorizedHashCode_5
def dkwJ5_vectorizedHashCode_3 : List UInt8 := [192, 0, 60, 27, 28, 184, 0, 66, 167, 0, 83, 29, 42, 192, 0, 69, 27, 28, 184, 0, 71, 167, 0, 70]
abbrev dktJ5_vectorizedHashCode_3 : List UInt8 := dkwJ5_vectorizedHashCode_3 ++ dktJ5_vectorizedHashCode_4
def dkwJ5_vectorizedHashCode_2 : List UInt8 := [29, 42, 192, 0, 60, 27, 28, 184, 0, 62, 167, 0, 103, 42, 193, 0, 60, 153, 0, 16, 29, 42]
abbrev dktJ5_vectorizedHashCode_2 : List UInt8 := dkwJ5_vectorizedHashCode_2 ++ dktJ5_vectorizedHashCode_3
def dkwJ5_vectorizedHashCode_1 : List UInt8 := [170, 0, 0, 0, 0, 127, 0, 0, 0, 4, 0, 0, 0, 10, 0, 0, 0, 42, 0, 0, 0, 55, 0, 0, 0, 127, 0, 0, 0, 127, 0, 0, 0, 88, 0, 0, 0, 101, 0, 0, 0, 114]
abbrev dktJ5_vectorizedHashCode_1 : List UInt8 := dkwJ5_vectorizedHashCode_1 ++ dktJ5_vectorizedHashCode_2
def dkwJ5_vectorizedHashCode_0 : List UInt8 := [21, 4]
abbrev dktJ5_vectorizedHashCode_0 : List UInt8 := dkwJ5_vectorizedHashCode_0 ++ dktJ5_vectorizedHashCode_1
theorem dksJ5_vectorizedHashCode_0 : cJ5_vectorizedHashCode.data.toList.drop 0 = dktJ5_vectorizedHashCode_0 := by decide +kernel
theorem dksJ5_vectorizedHashCode_1 : cJ5_vectorizedHashCode.data.toList.drop 2 = dktJ5_vectorizedHashCode_1 := dk_seg dksJ5_vectorizedHashCode_0 2 rfl rfl
theorem dksJ5_vectorizedHashCode_2 : cJ5_vectorizedHashCode.data.toList.drop 44 = dktJ5_vectorizedHashCode_2 := dk_seg dksJ5_vectorizedHashCode_1 42 rfl rfl
theorem dksJ5_vectorizedHashCode_3 : cJ5_vectorizedHashCode.data.toList.drop 66 = dktJ5_vectorizedHashCode_3 := dk_seg dksJ5_vectorizedHashCode_2 22 rfl rfl
theorem dksJ5_vectorizedHashCode_4 : cJ5_vectorizedHashCode.data.toList.drop 90 = dktJ5_vectorizedHashCode_4 := dk_seg dksJ5_vectorizedHashCode_3 24 rfl rfl
theorem dksJ5_vectorizedHashCode_5 : cJ5_vectorizedHashCode.data.toList.drop 113 = dktJ5_vectorizedHashCode_5 := dk_seg dksJ5_vectorizedHashCode_4 23 rfl rfl
theorem dksJ5_vectorizedHashCode_6 : cJ5_vectorizedHashCode.data.toList.drop 137 = dktJ5_vectorizedHashCode_6 := dk_seg dksJ5_vectorizedHashCode_5 24 rfl rfl
theorem dJ5_vectorizedHashCode_0 : decode cJ5_vectorizedHashCode 0 = .ok (.iload 4, 2) := dk_21 4 (dk_at dksJ5_vectorizedHashCode_0 0 rfl rfl)
theorem dJ5_vectorizedHashCode_2 : decode cJ5_vectorizedHashCode 2 = .ok (.tableswitch 127 4 10 #[42, 55, 127, 127, 88, 101, 114], 42) := by decide +kernel
theorem dJ5_vectorizedHashCode_44 : decode cJ5_vectorizedHashCode 44 = .ok (.iload_n 3, 1) := dk_29 (dk_at dksJ5_vectorizedHashCode_2 0 rfl rfl)
theorem dJ5_vectorizedHashCode_45 : decode cJ5_vectorizedHashCode 45 = .ok (.aload_n 0, 1) := dk_42 (dk_at dksJ5_vectorizedHashCode_2 1 rfl rfl)
theorem dJ5_vectorizedHashCode_46 : decode cJ5_vectorizedHashCode 46 = .ok (.checkcast 60, 3) := dk_192 0 60 (dk_at dksJ5_vectorizedHashCode_2 2 rfl rfl)
theorem dJ5_vectorizedHashCode_49 : decode cJ5_vectorizedHashCode 49 = .ok (.iload_n 1, 1) := dk_27 (dk_at dksJ5_vectorizedHashCode_2 5 rfl rfl)
theorem dJ5_vectorizedHashCode_50 : decode cJ5_vectorizedHashCode 50 = .ok (.iload_n 2, 1) := dk_28 (dk_at dksJ5_vectorizedHashCode_2 6 rfl rfl)
theorem dJ5_vectorizedHashCode_51 : decode cJ5_vectorizedHashCode 51 = .ok (.invokestatic 62, 3) := dk_184 0 62 (dk_at dksJ5_vectorizedHashCode_2 7 rfl rfl)
theorem dJ5_vectorizedHashCode_54 : decode cJ5_vectorizedHashCode 54 = .ok (.goto 103, 3) := dk_167 0 103 (dk_at dksJ5_vectorizedHashCode_2 10 rfl rfl)
theorem dJ5_vectorizedHashCode_57 : decode cJ5_vectorizedHashCode 57 = .ok (.aload_n 0, 1) := dk_42 (dk_at dksJ5_vectorizedHashCode_2 13 rfl rfl)
theorem dJ5_vectorizedHashCode_58 : decode cJ5_vectorizedHashCode 58 = .ok (.instanceof 60, 3) := dk_193 0 60 (dk_at dksJ5_vectorizedHashCode_2 14 rfl rfl)
theorem dJ5_vectorizedHashCode_61 : decode cJ5_vectorizedHashCode 61 = .ok (.ifCond .eq 16, 3) := dk_153 0 16 (dk_at dksJ5_vectorizedHashCode_2 17 rfl rfl)
theorem dJ5_vectorizedHashCode_64 : decode cJ5_vectorizedHashCode 64 = .ok (.iload_n 3, 1) := dk_29 (dk_at dksJ5_vectorizedHashCode_2 20 rfl rfl)
theorem dJ5_vectorizedHashCode_65 : decode cJ5_vectorizedHashCode 65 = .ok (.aload_n 0, 1) := dk_42 (dk_at dksJ5_vectorizedHashCode_2 21 rfl rfl)
theorem dJ5_vectorizedHashCode_66 : decode cJ5_vectorizedHashCode 66 = .ok (.checkcast 60, 3) := dk_192 0 60 (dk_at dksJ5_vectorizedHashCode_3 0 rfl rfl)
theorem dJ5_vectorizedHashCode_69 : decode cJ5_vectorizedHashCode 69 = .ok (.iload_n 1, 1) := dk_27 (dk_at dksJ5_vectorizedHashCode_3 3 rfl rfl)
theorem dJ5_vectorizedHashCode_70 : decode cJ5_vectorizedHashCode 70 = .ok (.iload_n 2, 1) := dk_28 (dk_at dksJ5_vectorizedHashCode_3 4 rfl rfl)
theorem dJ5_vectorizedHashCode_71 : decode cJ5_vectorizedHashCode 71 = .ok (.invokestatic 66, 3) := dk_184 0 66 (dk_at dksJ5_vectorizedHashCode_3 5 rfl rfl)
theorem dJ5_vectorizedHashCode_74 : decode cJ5_vectorizedHashCode 74 = .ok (.goto 83, 3) := dk_167 0 83 (dk_at dksJ5_vectorizedHashCode_3 8 rfl rfl)
theorem dJ5_vectorizedHashCode_77 : decode cJ5_vectorizedHashCode 77 = .ok (.iload_n 3, 1) := dk_29 (dk_at dksJ5_vectorizedHashCode_3 11 rfl rfl)
theorem dJ5_vectorizedHashCode_78 : decode cJ5_vectorizedHashCode 78 = .ok (.aload_n 0, 1) := dk_42 (dk_at dksJ5_vectorizedHashCode_3 12 rfl rfl)
theorem dJ5_vectorizedHashCode_79 : decode cJ5_vectorizedHashCode 79 = .ok (.checkcast 69, 3) := dk_192 0 69 (dk_at dksJ5_vectorizedHashCode_3 13 rfl rfl)
theorem dJ5_vectorizedHashCode_82 : decode cJ5_vectorizedHashCode 82 = .ok (.iload_n 1, 1) := dk_27 (dk_at dksJ5_vectorizedHashCode_3 16 rfl rfl)
theorem dJ5_vectorizedHashCode_83 : decode cJ5_vectorizedHashCode 83 = .ok (.iload_n 2, 1) := dk_28 (dk_at dksJ5_vectorizedHashCode_3 17 rfl rfl)
theorem dJ5_vectorizedHashCode_84 : decode cJ5_vectorizedHashCode 84 = .ok (.invokestatic 71, 3) := dk_184 0 71 (dk_at dksJ5_vectorizedHashCode_3 18 rfl rfl)
theorem dJ5_vectorizedHashCode_87 : decode cJ5_vectorizedHashCode 87 = .ok (.goto 70, 3) := dk_167 0 70 (dk_at dksJ5_vectorizedHashCode_3 21 rfl rfl)
theorem dJ5_vectorizedHashCode_90 : decode cJ5_vectorizedHashCode 90 = .ok (.iload_n 3, 1) := dk_29 (dk_at dksJ5_vectorizedHashCode_4 0 rfl rfl)
theorem dJ5_vectorizedHashCode_91 : decode cJ5_vectorizedHashCode 91 = .ok (.aload_n 0, 1) := dk_42 (dk_at dksJ5_vectorizedHashCode_4 1 rfl rfl)
theorem dJ5_vectorizedHashCode_92 : decode cJ5_vectorizedHashCode 92 = .ok (.checkcast 60, 3) := dk_192 0 60 (dk_at dksJ5_vectorizedHashCode_4 2 rfl rfl)
theorem dJ5_vectorizedHashCode_95 : decode cJ5_vectorizedHashCode 95 = .ok (.iload_n 1, 1) := dk_27 (dk_at dksJ5_vectorizedHashCode_4 5 rfl rfl)
theorem dJ5_vectorizedHashCode_96 : decode cJ5_vectorizedHashCode 96 = .ok (.iload_n 2, 1) := dk_28 (dk_at dksJ5_vectorizedHashCode_4 6 rfl rfl)
theorem dJ5_vectorizedHashCode_97 : decode cJ5_vectorizedHashCode 97 = .ok (.invokestatic 75, 3) := dk_184 0 75 (dk_at dksJ5_vectorizedHashCode_4 7 rfl rfl)
theorem dJ5_vectorizedHashCode_100 : decode cJ5_vectorizedHashCode 100 = .ok (.goto 57, 3) := dk_167 0 57 (dk_at dksJ5_vectorizedHashCode_4 10 rfl rfl)
theorem dJ5_vectorizedHashCode_103 : decode cJ5_vectorizedHashCode 103 = .ok (.iload_n 3, 1) := dk_29 (dk_at dksJ5_vectorizedHashCode_4 13 rfl rfl)
theorem dJ5_vectorizedHashCode_104 : decode cJ5_vectorizedHashCode 104 = .ok (.aload_n 0, 1) := dk_42 (dk_at dksJ5_vectorizedHashCode_4 14 rfl rfl)
theorem dJ5_vectorizedHashCode_105 : decode cJ5_vectorizedHashCode 105 = .ok (.checkcast 77, 3) := dk_192 0 77 (dk_at dksJ5_vectorizedHashCode_4 15 rfl rfl)
theorem dJ5_vectorizedHashCode_108 : decode cJ5_vectorizedHashCode 108 = .ok (.iload_n 1, 1) := dk_27 (dk_at dksJ5_vectorizedHashCode_4 18 rfl rfl)
theorem dJ5_vectorizedHashCode_109 : decode cJ5_vectorizedHashCode 109 = .ok (.iload_n 2, 1) := dk_28 (dk_at dksJ5_vectorizedHashCode_4 19 rfl rfl)
theorem dJ5_vectorizedHashCode_110 : decode cJ5_vectorizedHashCode 110 = .ok (.invokestatic 79, 3) := dk_184 0 79 (dk_at dksJ5_vectorizedHashCode_4 20 rfl rfl)
theorem dJ5_vectorizedHashCode_113 : decode cJ5_vectorizedHashCode 113 = .ok (.goto 44, 3) := dk_167 0 44 (dk_at dksJ5_vectorizedHashCode_5 0 rfl rfl)
theorem dJ5_vectorizedHashCode_116 : decode cJ5_vectorizedHashCode 116 = .ok (.iload_n 3, 1) := dk_29 (dk_at dksJ5_vectorizedHashCode_5 3 rfl rfl)
theorem dJ5_vectorizedHashCode_117 : decode cJ5_vectorizedHashCode 117 = .ok (.aload_n 0, 1) := dk_42 (dk_at dksJ5_vectorizedHashCode_5 4 rfl rfl)
theorem dJ5_vectorizedHashCode_118 : decode cJ5_vectorizedHashCode 118 = .ok (.checkcast 82, 3) := dk_192 0 82 (dk_at dksJ5_vectorizedHashCode_5 5 rfl rfl)
theorem dJ5_vectorizedHashCode_121 : decode cJ5_vectorizedHashCode 121 = .ok (.iload_n 1, 1) := dk_27 (dk_at dksJ5_vectorizedHashCode_5 8 rfl rfl)
theorem dJ5_vectorizedHashCode_122 : decode cJ5_vectorizedHashCode 122 = .ok (.iload_n 2, 1) := dk_28 (dk_at dksJ5_vectorizedHashCode_5 9 rfl rfl)
theorem dJ5_vectorizedHashCode_123 : decode cJ5_vectorizedHashCode 123 = .ok (.invokestatic 84, 3) := dk_184 0 84 (dk_at dksJ5_vectorizedHashCode_5 10 rfl rfl)
theorem dJ5_vectorizedHashCode_126 : decode cJ5_vectorizedHashCode 126 = .ok (.goto 31, 3) := dk_167 0 31 (dk_at dksJ5_vectorizedHashCode_5 13 rfl rfl)
theorem dJ5_vectorizedHashCode_129 : decode cJ5_vectorizedHashCode 129 = .ok (.new 87, 3) := dk_187 0 87 (dk_at dksJ5_vectorizedHashCode_5 16 rfl rfl)
theorem dJ5_vectorizedHashCode_132 : decode cJ5_vectorizedHashCode 132 = .ok (.dup, 1) := dk_89 (dk_at dksJ5_vectorizedHashCode_5 19 rfl rfl)
theorem dJ5_vectorizedHashCode_133 : decode cJ5_vectorizedHashCode 133 = .ok (.new 89, 3) := dk_187 0 89 (dk_at dksJ5_vectorizedHashCode_5 20 rfl rfl)
theorem dJ5_vectorizedHashCode_136 : decode cJ5_vectorizedHashCode 136 = .ok (.dup, 1) := dk_89 (dk_at dksJ5_vectorizedHashCode_5 23 rfl rfl)
theorem dJ5_vectorizedHashCode_137 : decode cJ5_vectorizedHashCode 137 = .ok (.invokespecial 91, 3) := dk_183 0 91 (dk_at dksJ5_vectorizedHashCode_6 0 rfl rfl)
theorem dJ5_vectorizedHashCode_140 : decode cJ5_vectorizedHashCode 140 = .ok (.ldc 92, 2) := dk_18 92 (dk_at dksJ5_vectorizedHashCode_6 3 rfl rfl)
theorem dJ5_vectorizedHashCode_142 : decode cJ5_vectorizedHashCode 142 = .ok (.invokevirtual 94, 3) := dk_182 0 94 (dk_at dksJ5_vectorizedHashCode_6 5 rfl rfl)
theorem dJ5_vectorizedHashCode_145 : decode cJ5_vectorizedHashCode 145 = .ok (.iload 4, 2) := dk_21 4 (dk_at dksJ5_vectorizedHashCode_6 8 rfl rfl)
theorem dJ5_vectorizedHashCode_147 : decode cJ5_vectorizedHashCode 147 = .ok (.invokevirtual 98, 3) := dk_182 0 98 (dk_at dksJ5_vectorizedHashCode_6 10 rfl rfl)
theorem dJ5_vectorizedHashCode_150 : decode cJ5_vectorizedHashCode 150 = .ok (.invokevirtual 101, 3) := dk_182 0 101 (dk_at dksJ5_vectorizedHashCode_6 13 rfl rfl)
theorem dJ5_vectorizedHashCode_153 : decode cJ5_vectorizedHashCode 153 = .ok (.invokespecial 105, 3) := dk_183 0 105 (dk_at dksJ5_vectorizedHashCode_6 16 rfl rfl)
theorem dJ5_vectorizedHashCode_156 : decode cJ5_vectorizedHashCode 156 = .ok (.athrow, 1) := dk_191 (dk_at dksJ5_vectorizedHashCode_6 19 rfl rfl)
theorem dJ5_vectorizedHashCode_157 : decode cJ5_vectorizedHashCode 157 = .ok (.ireturn, 1) := dk_172 (dk_at dksJ5_vectorizedHashCode_6 20 rfl rfl)
abbrev cJ5_signedHashCode : ByteArray := prog_75_method_5_code
def yJ5_signedHashCode : MethodName := ⟨RJ5, "signedHashCode", "(I[BII)I"⟩
def dkwJ5_signedHashCode_1 : List UInt8 := [17, 0, 255, 126, 96, 59, 132, 5, 1, 167, 255, 232, 26, 172]
abbrev dktJ5_signedHashCode_1 : List UInt8 := dkwJ5_signedHashCode_1 ++ []
def dkwJ5_signedHashCode_0 : List UInt8 := [28, 29, 96, 54, 4, 28, 54, 5, 21, 5, 21, 4, 162, 0, 23, 16, 31, 26, 104, 43, 21, 5, 51]
abbrev dktJ5_signedHashCode_0 : List UInt8 := dkwJ5_signedHashCode_0 ++ dktJ5_signedHashCode_1
theorem dksJ5_signedHashCode_0 : cJ5_signedHashCode.data.toList.drop 0 = dktJ5_signedHashCode_0 := by decide +kernel
theorem dksJ5_signedHashCode_1 : cJ5_signedHashCode.data.toList.drop 23 = dktJ5_signedHashCode_1 := dk_seg dksJ5_signedHashCode_0 23 rfl rfl
theorem dJ5_signedHashCode_0 : decode cJ5_signedHashCode 0 = .ok (.iload_n 2, 1) := dk_28 (dk_at dksJ5_signedHashCode_0 0 rfl rfl)
theorem dJ5_signedHashCode_1 : decode cJ5_signedHashCode 1 = .ok (.iload_n 3, 1) := dk_29 (dk_at dksJ5_signedHashCode_0 1 rfl rfl)
theorem dJ5_signedHashCode_2 : decode cJ5_signedHashCode 2 = .ok (.iadd, 1) := dk_96 (dk_at dksJ5_signedHashCode_0 2 rfl rfl)
theorem dJ5_signedHashCode_3 : decode cJ5_signedHashCode 3 = .ok (.istore 4, 2) := dk_54 4 (dk_at dksJ5_signedHashCode_0 3 rfl rfl)
theorem dJ5_signedHashCode_5 : decode cJ5_signedHashCode 5 = .ok (.iload_n 2, 1) := dk_28 (dk_at dksJ5_signedHashCode_0 5 rfl rfl)
theorem dJ5_signedHashCode_6 : decode cJ5_signedHashCode 6 = .ok (.istore 5, 2) := dk_54 5 (dk_at dksJ5_signedHashCode_0 6 rfl rfl)
theorem dJ5_signedHashCode_8 : decode cJ5_signedHashCode 8 = .ok (.iload 5, 2) := dk_21 5 (dk_at dksJ5_signedHashCode_0 8 rfl rfl)
theorem dJ5_signedHashCode_10 : decode cJ5_signedHashCode 10 = .ok (.iload 4, 2) := dk_21 4 (dk_at dksJ5_signedHashCode_0 10 rfl rfl)
theorem dJ5_signedHashCode_12 : decode cJ5_signedHashCode 12 = .ok (.if_icmp .ge 23, 3) := dk_162 0 23 (dk_at dksJ5_signedHashCode_0 12 rfl rfl)
theorem dJ5_signedHashCode_15 : decode cJ5_signedHashCode 15 = .ok (.bipush 31, 2) := dk_16 31 (dk_at dksJ5_signedHashCode_0 15 rfl rfl)
theorem dJ5_signedHashCode_17 : decode cJ5_signedHashCode 17 = .ok (.iload_n 0, 1) := dk_26 (dk_at dksJ5_signedHashCode_0 17 rfl rfl)
theorem dJ5_signedHashCode_18 : decode cJ5_signedHashCode 18 = .ok (.imul, 1) := dk_104 (dk_at dksJ5_signedHashCode_0 18 rfl rfl)
theorem dJ5_signedHashCode_19 : decode cJ5_signedHashCode 19 = .ok (.aload_n 1, 1) := dk_43 (dk_at dksJ5_signedHashCode_0 19 rfl rfl)
theorem dJ5_signedHashCode_20 : decode cJ5_signedHashCode 20 = .ok (.iload 5, 2) := dk_21 5 (dk_at dksJ5_signedHashCode_0 20 rfl rfl)
theorem dJ5_signedHashCode_22 : decode cJ5_signedHashCode 22 = .ok (.baload, 1) := dk_51 (dk_at dksJ5_signedHashCode_0 22 rfl rfl)
theorem dJ5_signedHashCode_23 : decode cJ5_signedHashCode 23 = .ok (.sipush 255, 3) := dk_17 0 255 (dk_at dksJ5_signedHashCode_1 0 rfl rfl)
theorem dJ5_signedHashCode_26 : decode cJ5_signedHashCode 26 = .ok (.iand, 1) := dk_126 (dk_at dksJ5_signedHashCode_1 3 rfl rfl)
theorem dJ5_signedHashCode_27 : decode cJ5_signedHashCode 27 = .ok (.iadd, 1) := dk_96 (dk_at dksJ5_signedHashCode_1 4 rfl rfl)
theorem dJ5_signedHashCode_28 : decode cJ5_signedHashCode 28 = .ok (.istore_n 0, 1) := dk_59 (dk_at dksJ5_signedHashCode_1 5 rfl rfl)
theorem dJ5_signedHashCode_29 : decode cJ5_signedHashCode 29 = .ok (.iinc 5 1, 3) := dk_132 5 1 (dk_at dksJ5_signedHashCode_1 6 rfl rfl)
theorem dJ5_signedHashCode_32 : decode cJ5_signedHashCode 32 = .ok (.goto (-24), 3) := dk_167 255 232 (dk_at dksJ5_signedHashCode_1 9 rfl rfl)
theorem dJ5_signedHashCode_35 : decode cJ5_signedHashCode 35 = .ok (.iload_n 0, 1) := dk_26 (dk_at dksJ5_signedHashCode_1 12 rfl rfl)
theorem dJ5_signedHashCode_36 : decode cJ5_signedHashCode 36 = .ok (.ireturn, 1) := dk_172 (dk_at dksJ5_signedHashCode_1 13 rfl rfl)
abbrev cJ5_utf16hashCode : ByteArray := prog_75_method_10_code
def yJ5_utf16hashCode : MethodName := ⟨RJ5, "utf16hashCode", "(I[BII)I"⟩
def dkwJ5_utf16hashCode_1 : List UInt8 := [21, 5, 185, 0, 110, 3, 0, 96, 59, 132, 5, 1, 167, 255, 229, 26, 172]
abbrev dktJ5_utf16hashCode_1 : List UInt8 := dkwJ5_utf16hashCode_1 ++ []
def dkwJ5_utf16hashCode_0 : List UInt8 := [28, 29, 96, 54, 4, 28, 54, 5, 21, 5, 21, 4, 162, 0, 26, 16, 31, 26, 104, 178, 0, 106, 43]
abbrev dktJ5_utf16hashCode_0 : List UInt8 := dkwJ5_utf16hashCode_0 ++ dktJ5_utf16hashCode_1
theorem dksJ5_utf16hashCode_0 : cJ5_utf16hashCode.data.toList.drop 0 = dktJ5_utf16hashCode_0 := by decide +kernel
theorem dksJ5_utf16hashCode_1 : cJ5_utf16hashCode.data.toList.drop 23 = dktJ5_utf16hashCode_1 := dk_seg dksJ5_utf16hashCode_0 23 rfl rfl
theorem dJ5_utf16hashCode_0 : decode cJ5_utf16hashCode 0 = .ok (.iload_n 2, 1) := dk_28 (dk_at dksJ5_utf16hashCode_0 0 rfl rfl)
theorem dJ5_utf16hashCode_1 : decode cJ5_utf16hashCode 1 = .ok (.iload_n 3, 1) := dk_29 (dk_at dksJ5_utf16hashCode_0 1 rfl rfl)
theorem dJ5_utf16hashCode_2 : decode cJ5_utf16hashCode 2 = .ok (.iadd, 1) := dk_96 (dk_at dksJ5_utf16hashCode_0 2 rfl rfl)
theorem dJ5_utf16hashCode_3 : decode cJ5_utf16hashCode 3 = .ok (.istore 4, 2) := dk_54 4 (dk_at dksJ5_utf16hashCode_0 3 rfl rfl)
theorem dJ5_utf16hashCode_5 : decode cJ5_utf16hashCode 5 = .ok (.iload_n 2, 1) := dk_28 (dk_at dksJ5_utf16hashCode_0 5 rfl rfl)
theorem dJ5_utf16hashCode_6 : decode cJ5_utf16hashCode 6 = .ok (.istore 5, 2) := dk_54 5 (dk_at dksJ5_utf16hashCode_0 6 rfl rfl)
theorem dJ5_utf16hashCode_8 : decode cJ5_utf16hashCode 8 = .ok (.iload 5, 2) := dk_21 5 (dk_at dksJ5_utf16hashCode_0 8 rfl rfl)
theorem dJ5_utf16hashCode_10 : decode cJ5_utf16hashCode 10 = .ok (.iload 4, 2) := dk_21 4 (dk_at dksJ5_utf16hashCode_0 10 rfl rfl)
theorem dJ5_utf16hashCode_12 : decode cJ5_utf16hashCode 12 = .ok (.if_icmp .ge 26, 3) := dk_162 0 26 (dk_at dksJ5_utf16hashCode_0 12 rfl rfl)
theorem dJ5_utf16hashCode_15 : decode cJ5_utf16hashCode 15 = .ok (.bipush 31, 2) := dk_16 31 (dk_at dksJ5_utf16hashCode_0 15 rfl rfl)
theorem dJ5_utf16hashCode_17 : decode cJ5_utf16hashCode 17 = .ok (.iload_n 0, 1) := dk_26 (dk_at dksJ5_utf16hashCode_0 17 rfl rfl)
theorem dJ5_utf16hashCode_18 : decode cJ5_utf16hashCode 18 = .ok (.imul, 1) := dk_104 (dk_at dksJ5_utf16hashCode_0 18 rfl rfl)
theorem dJ5_utf16hashCode_19 : decode cJ5_utf16hashCode 19 = .ok (.getstatic 106, 3) := dk_178 0 106 (dk_at dksJ5_utf16hashCode_0 19 rfl rfl)
theorem dJ5_utf16hashCode_22 : decode cJ5_utf16hashCode 22 = .ok (.aload_n 1, 1) := dk_43 (dk_at dksJ5_utf16hashCode_0 22 rfl rfl)
theorem dJ5_utf16hashCode_23 : decode cJ5_utf16hashCode 23 = .ok (.iload 5, 2) := dk_21 5 (dk_at dksJ5_utf16hashCode_1 0 rfl rfl)
theorem dJ5_utf16hashCode_25 : decode cJ5_utf16hashCode 25 = .ok (.invokeinterface 110 3, 5) := by decide +kernel
theorem dJ5_utf16hashCode_30 : decode cJ5_utf16hashCode 30 = .ok (.iadd, 1) := dk_96 (dk_at dksJ5_utf16hashCode_1 7 rfl rfl)
theorem dJ5_utf16hashCode_31 : decode cJ5_utf16hashCode 31 = .ok (.istore_n 0, 1) := dk_59 (dk_at dksJ5_utf16hashCode_1 8 rfl rfl)
theorem dJ5_utf16hashCode_32 : decode cJ5_utf16hashCode 32 = .ok (.iinc 5 1, 3) := dk_132 5 1 (dk_at dksJ5_utf16hashCode_1 9 rfl rfl)
theorem dJ5_utf16hashCode_35 : decode cJ5_utf16hashCode 35 = .ok (.goto (-27), 3) := dk_167 255 229 (dk_at dksJ5_utf16hashCode_1 12 rfl rfl)
theorem dJ5_utf16hashCode_38 : decode cJ5_utf16hashCode 38 = .ok (.iload_n 0, 1) := dk_26 (dk_at dksJ5_utf16hashCode_1 15 rfl rfl)
theorem dJ5_utf16hashCode_39 : decode cJ5_utf16hashCode 39 = .ok (.ireturn, 1) := dk_172 (dk_at dksJ5_utf16hashCode_1 16 rfl rfl)
abbrev cJ5_hashCode : ByteArray := prog_75_method_7_code
def yJ5_hashCode : MethodName := ⟨RJ5, "hashCode", "(I[CII)I"⟩
def dkwJ5_hashCode_1 : List UInt8 := [59, 132, 5, 1, 167, 255, 236, 26, 172]
abbrev dktJ5_hashCode_1 : List UInt8 := dkwJ5_hashCode_1 ++ []
def dkwJ5_hashCode_0 : List UInt8 := [28, 29, 96, 54, 4, 28, 54, 5, 21, 5, 21, 4, 162, 0, 19, 16, 31, 26, 104, 43, 21, 5, 52, 96]
abbrev dktJ5_hashCode_0 : List UInt8 := dkwJ5_hashCode_0 ++ dktJ5_hashCode_1
theorem dksJ5_hashCode_0 : cJ5_hashCode.data.toList.drop 0 = dktJ5_hashCode_0 := by decide +kernel
theorem dksJ5_hashCode_1 : cJ5_hashCode.data.toList.drop 24 = dktJ5_hashCode_1 := dk_seg dksJ5_hashCode_0 24 rfl rfl
theorem dJ5_hashCode_0 : decode cJ5_hashCode 0 = .ok (.iload_n 2, 1) := dk_28 (dk_at dksJ5_hashCode_0 0 rfl rfl)
theorem dJ5_hashCode_1 : decode cJ5_hashCode 1 = .ok (.iload_n 3, 1) := dk_29 (dk_at dksJ5_hashCode_0 1 rfl rfl)
theorem dJ5_hashCode_2 : decode cJ5_hashCode 2 = .ok (.iadd, 1) := dk_96 (dk_at dksJ5_hashCode_0 2 rfl rfl)
theorem dJ5_hashCode_3 : decode cJ5_hashCode 3 = .ok (.istore 4, 2) := dk_54 4 (dk_at dksJ5_hashCode_0 3 rfl rfl)
theorem dJ5_hashCode_5 : decode cJ5_hashCode 5 = .ok (.iload_n 2, 1) := dk_28 (dk_at dksJ5_hashCode_0 5 rfl rfl)
theorem dJ5_hashCode_6 : decode cJ5_hashCode 6 = .ok (.istore 5, 2) := dk_54 5 (dk_at dksJ5_hashCode_0 6 rfl rfl)
theorem dJ5_hashCode_8 : decode cJ5_hashCode 8 = .ok (.iload 5, 2) := dk_21 5 (dk_at dksJ5_hashCode_0 8 rfl rfl)
theorem dJ5_hashCode_10 : decode cJ5_hashCode 10 = .ok (.iload 4, 2) := dk_21 4 (dk_at dksJ5_hashCode_0 10 rfl rfl)
theorem dJ5_hashCode_12 : decode cJ5_hashCode 12 = .ok (.if_icmp .ge 19, 3) := dk_162 0 19 (dk_at dksJ5_hashCode_0 12 rfl rfl)
theorem dJ5_hashCode_15 : decode cJ5_hashCode 15 = .ok (.bipush 31, 2) := dk_16 31 (dk_at dksJ5_hashCode_0 15 rfl rfl)
theorem dJ5_hashCode_17 : decode cJ5_hashCode 17 = .ok (.iload_n 0, 1) := dk_26 (dk_at dksJ5_hashCode_0 17 rfl rfl)
theorem dJ5_hashCode_18 : decode cJ5_hashCode 18 = .ok (.imul, 1) := dk_104 (dk_at dksJ5_hashCode_0 18 rfl rfl)
theorem dJ5_hashCode_19 : decode cJ5_hashCode 19 = .ok (.aload_n 1, 1) := dk_43 (dk_at dksJ5_hashCode_0 19 rfl rfl)
theorem dJ5_hashCode_20 : decode cJ5_hashCode 20 = .ok (.iload 5, 2) := dk_21 5 (dk_at dksJ5_hashCode_0 20 rfl rfl)
theorem dJ5_hashCode_22 : decode cJ5_hashCode 22 = .ok (.caload, 1) := dk_52 (dk_at dksJ5_hashCode_0 22 rfl rfl)
theorem dJ5_hashCode_23 : decode cJ5_hashCode 23 = .ok (.iadd, 1) := dk_96 (dk_at dksJ5_hashCode_0 23 rfl rfl)
theorem dJ5_hashCode_24 : decode cJ5_hashCode 24 = .ok (.istore_n 0, 1) := dk_59 (dk_at dksJ5_hashCode_1 0 rfl rfl)
theorem dJ5_hashCode_25 : decode cJ5_hashCode 25 = .ok (.iinc 5 1, 3) := dk_132 5 1 (dk_at dksJ5_hashCode_1 1 rfl rfl)
theorem dJ5_hashCode_28 : decode cJ5_hashCode 28 = .ok (.goto (-20), 3) := dk_167 255 236 (dk_at dksJ5_hashCode_1 4 rfl rfl)
theorem dJ5_hashCode_31 : decode cJ5_hashCode 31 = .ok (.iload_n 0, 1) := dk_26 (dk_at dksJ5_hashCode_1 7 rfl rfl)
theorem dJ5_hashCode_32 : decode cJ5_hashCode 32 = .ok (.ireturn, 1) := dk_172 (dk_at dksJ5_hashCode_1 8 rfl rfl)
abbrev cJ5_hashCode_2 : ByteArray := prog_75_method_6_code
def yJ5_hashCode_2 : MethodName := ⟨RJ5, "hashCode", "(I[BII)I"⟩
def dkwJ5_hashCode_2_1 : List UInt8 := [59, 132, 5, 1, 167, 255, 236, 26, 172]
abbrev dktJ5_hashCode_2_1 : List UInt8 := dkwJ5_hashCode_2_1 ++ []
def dkwJ5_hashCode_2_0 : List UInt8 := [28, 29, 96, 54, 4, 28, 54, 5, 21, 5, 21, 4, 162, 0, 19, 16, 31, 26, 104, 43, 21, 5, 51, 96]
abbrev dktJ5_hashCode_2_0 : List UInt8 := dkwJ5_hashCode_2_0 ++ dktJ5_hashCode_2_1
theorem dksJ5_hashCode_2_0 : cJ5_hashCode_2.data.toList.drop 0 = dktJ5_hashCode_2_0 := by decide +kernel
theorem dksJ5_hashCode_2_1 : cJ5_hashCode_2.data.toList.drop 24 = dktJ5_hashCode_2_1 := dk_seg dksJ5_hashCode_2_0 24 rfl rfl
theorem dJ5_hashCode_2_0 : decode cJ5_hashCode_2 0 = .ok (.iload_n 2, 1) := dk_28 (dk_at dksJ5_hashCode_2_0 0 rfl rfl)
theorem dJ5_hashCode_2_1 : decode cJ5_hashCode_2 1 = .ok (.iload_n 3, 1) := dk_29 (dk_at dksJ5_hashCode_2_0 1 rfl rfl)
theorem dJ5_hashCode_2_2 : decode cJ5_hashCode_2 2 = .ok (.iadd, 1) := dk_96 (dk_at dksJ5_hashCode_2_0 2 rfl rfl)
theorem dJ5_hashCode_2_3 : decode cJ5_hashCode_2 3 = .ok (.istore 4, 2) := dk_54 4 (dk_at dksJ5_hashCode_2_0 3 rfl rfl)
theorem dJ5_hashCode_2_5 : decode cJ5_hashCode_2 5 = .ok (.iload_n 2, 1) := dk_28 (dk_at dksJ5_hashCode_2_0 5 rfl rfl)
theorem dJ5_hashCode_2_6 : decode cJ5_hashCode_2 6 = .ok (.istore 5, 2) := dk_54 5 (dk_at dksJ5_hashCode_2_0 6 rfl rfl)
theorem dJ5_hashCode_2_8 : decode cJ5_hashCode_2 8 = .ok (.iload 5, 2) := dk_21 5 (dk_at dksJ5_hashCode_2_0 8 rfl rfl)
theorem dJ5_hashCode_2_10 : decode cJ5_hashCode_2 10 = .ok (.iload 4, 2) := dk_21 4 (dk_at dksJ5_hashCode_2_0 10 rfl rfl)
theorem dJ5_hashCode_2_12 : decode cJ5_hashCode_2 12 = .ok (.if_icmp .ge 19, 3) := dk_162 0 19 (dk_at dksJ5_hashCode_2_0 12 rfl rfl)
theorem dJ5_hashCode_2_15 : decode cJ5_hashCode_2 15 = .ok (.bipush 31, 2) := dk_16 31 (dk_at dksJ5_hashCode_2_0 15 rfl rfl)
theorem dJ5_hashCode_2_17 : decode cJ5_hashCode_2 17 = .ok (.iload_n 0, 1) := dk_26 (dk_at dksJ5_hashCode_2_0 17 rfl rfl)
theorem dJ5_hashCode_2_18 : decode cJ5_hashCode_2 18 = .ok (.imul, 1) := dk_104 (dk_at dksJ5_hashCode_2_0 18 rfl rfl)
theorem dJ5_hashCode_2_19 : decode cJ5_hashCode_2 19 = .ok (.aload_n 1, 1) := dk_43 (dk_at dksJ5_hashCode_2_0 19 rfl rfl)
theorem dJ5_hashCode_2_20 : decode cJ5_hashCode_2 20 = .ok (.iload 5, 2) := dk_21 5 (dk_at dksJ5_hashCode_2_0 20 rfl rfl)
theorem dJ5_hashCode_2_22 : decode cJ5_hashCode_2 22 = .ok (.baload, 1) := dk_51 (dk_at dksJ5_hashCode_2_0 22 rfl rfl)
theorem dJ5_hashCode_2_23 : decode cJ5_hashCode_2 23 = .ok (.iadd, 1) := dk_96 (dk_at dksJ5_hashCode_2_0 23 rfl rfl)
theorem dJ5_hashCode_2_24 : decode cJ5_hashCode_2 24 = .ok (.istore_n 0, 1) := dk_59 (dk_at dksJ5_hashCode_2_1 0 rfl rfl)
theorem dJ5_hashCode_2_25 : decode cJ5_hashCode_2 25 = .ok (.iinc 5 1, 3) := dk_132 5 1 (dk_at dksJ5_hashCode_2_1 1 rfl rfl)
theorem dJ5_hashCode_2_28 : decode cJ5_hashCode_2 28 = .ok (.goto (-20), 3) := dk_167 255 236 (dk_at dksJ5_hashCode_2_1 4 rfl rfl)
theorem dJ5_hashCode_2_31 : decode cJ5_hashCode_2 31 = .ok (.iload_n 0, 1) := dk_26 (dk_at dksJ5_hashCode_2_1 7 rfl rfl)
theorem dJ5_hashCode_2_32 : decode cJ5_hashCode_2 32 = .ok (.ireturn, 1) := dk_172 (dk_at dksJ5_hashCode_2_1 8 rfl rfl)
abbrev cJ5_hashCode_3 : ByteArray := prog_75_method_8_code
def yJ5_hashCode_3 : MethodName := ⟨RJ5, "hashCode", "(I[SII)I"⟩
def dkwJ5_hashCode_3_1 : List UInt8 := [59, 132, 5, 1, 167, 255, 236, 26, 172]
abbrev dktJ5_hashCode_3_1 : List UInt8 := dkwJ5_hashCode_3_1 ++ []
def dkwJ5_hashCode_3_0 : List UInt8 := [28, 29, 96, 54, 4, 28, 54, 5, 21, 5, 21, 4, 162, 0, 19, 16, 31, 26, 104, 43, 21, 5, 53, 96]
abbrev dktJ5_hashCode_3_0 : List UInt8 := dkwJ5_hashCode_3_0 ++ dktJ5_hashCode_3_1
theorem dksJ5_hashCode_3_0 : cJ5_hashCode_3.data.toList.drop 0 = dktJ5_hashCode_3_0 := by decide +kernel
theorem dksJ5_hashCode_3_1 : cJ5_hashCode_3.data.toList.drop 24 = dktJ5_hashCode_3_1 := dk_seg dksJ5_hashCode_3_0 24 rfl rfl
theorem dJ5_hashCode_3_0 : decode cJ5_hashCode_3 0 = .ok (.iload_n 2, 1) := dk_28 (dk_at dksJ5_hashCode_3_0 0 rfl rfl)
theorem dJ5_hashCode_3_1 : decode cJ5_hashCode_3 1 = .ok (.iload_n 3, 1) := dk_29 (dk_at dksJ5_hashCode_3_0 1 rfl rfl)
theorem dJ5_hashCode_3_2 : decode cJ5_hashCode_3 2 = .ok (.iadd, 1) := dk_96 (dk_at dksJ5_hashCode_3_0 2 rfl rfl)
theorem dJ5_hashCode_3_3 : decode cJ5_hashCode_3 3 = .ok (.istore 4, 2) := dk_54 4 (dk_at dksJ5_hashCode_3_0 3 rfl rfl)
theorem dJ5_hashCode_3_5 : decode cJ5_hashCode_3 5 = .ok (.iload_n 2, 1) := dk_28 (dk_at dksJ5_hashCode_3_0 5 rfl rfl)
theorem dJ5_hashCode_3_6 : decode cJ5_hashCode_3 6 = .ok (.istore 5, 2) := dk_54 5 (dk_at dksJ5_hashCode_3_0 6 rfl rfl)
theorem dJ5_hashCode_3_8 : decode cJ5_hashCode_3 8 = .ok (.iload 5, 2) := dk_21 5 (dk_at dksJ5_hashCode_3_0 8 rfl rfl)
theorem dJ5_hashCode_3_10 : decode cJ5_hashCode_3 10 = .ok (.iload 4, 2) := dk_21 4 (dk_at dksJ5_hashCode_3_0 10 rfl rfl)
theorem dJ5_hashCode_3_12 : decode cJ5_hashCode_3 12 = .ok (.if_icmp .ge 19, 3) := dk_162 0 19 (dk_at dksJ5_hashCode_3_0 12 rfl rfl)
theorem dJ5_hashCode_3_15 : decode cJ5_hashCode_3 15 = .ok (.bipush 31, 2) := dk_16 31 (dk_at dksJ5_hashCode_3_0 15 rfl rfl)
theorem dJ5_hashCode_3_17 : decode cJ5_hashCode_3 17 = .ok (.iload_n 0, 1) := dk_26 (dk_at dksJ5_hashCode_3_0 17 rfl rfl)
theorem dJ5_hashCode_3_18 : decode cJ5_hashCode_3 18 = .ok (.imul, 1) := dk_104 (dk_at dksJ5_hashCode_3_0 18 rfl rfl)
theorem dJ5_hashCode_3_19 : decode cJ5_hashCode_3 19 = .ok (.aload_n 1, 1) := dk_43 (dk_at dksJ5_hashCode_3_0 19 rfl rfl)
theorem dJ5_hashCode_3_20 : decode cJ5_hashCode_3 20 = .ok (.iload 5, 2) := dk_21 5 (dk_at dksJ5_hashCode_3_0 20 rfl rfl)
theorem dJ5_hashCode_3_22 : decode cJ5_hashCode_3 22 = .ok (.saload, 1) := dk_53 (dk_at dksJ5_hashCode_3_0 22 rfl rfl)
theorem dJ5_hashCode_3_23 : decode cJ5_hashCode_3 23 = .ok (.iadd, 1) := dk_96 (dk_at dksJ5_hashCode_3_0 23 rfl rfl)
theorem dJ5_hashCode_3_24 : decode cJ5_hashCode_3 24 = .ok (.istore_n 0, 1) := dk_59 (dk_at dksJ5_hashCode_3_1 0 rfl rfl)
theorem dJ5_hashCode_3_25 : decode cJ5_hashCode_3 25 = .ok (.iinc 5 1, 3) := dk_132 5 1 (dk_at dksJ5_hashCode_3_1 1 rfl rfl)
theorem dJ5_hashCode_3_28 : decode cJ5_hashCode_3 28 = .ok (.goto (-20), 3) := dk_167 255 236 (dk_at dksJ5_hashCode_3_1 4 rfl rfl)
theorem dJ5_hashCode_3_31 : decode cJ5_hashCode_3 31 = .ok (.iload_n 0, 1) := dk_26 (dk_at dksJ5_hashCode_3_1 7 rfl rfl)
theorem dJ5_hashCode_3_32 : decode cJ5_hashCode_3 32 = .ok (.ireturn, 1) := dk_172 (dk_at dksJ5_hashCode_3_1 8 rfl rfl)
abbrev cJ5_hashCode_4 : ByteArray := prog_75_method_9_code
def yJ5_hashCode_4 : MethodName := ⟨RJ5, "hashCode", "(I[III)I"⟩
def dkwJ5_hashCode_4_1 : List UInt8 := [59, 132, 5, 1, 167, 255, 236, 26, 172]
abbrev dktJ5_hashCode_4_1 : List UInt8 := dkwJ5_hashCode_4_1 ++ []
def dkwJ5_hashCode_4_0 : List UInt8 := [28, 29, 96, 54, 4, 28, 54, 5, 21, 5, 21, 4, 162, 0, 19, 16, 31, 26, 104, 43, 21, 5, 46, 96]
abbrev dktJ5_hashCode_4_0 : List UInt8 := dkwJ5_hashCode_4_0 ++ dktJ5_hashCode_4_1
theorem dksJ5_hashCode_4_0 : cJ5_hashCode_4.data.toList.drop 0 = dktJ5_hashCode_4_0 := by decide +kernel
theorem dksJ5_hashCode_4_1 : cJ5_hashCode_4.data.toList.drop 24 = dktJ5_hashCode_4_1 := dk_seg dksJ5_hashCode_4_0 24 rfl rfl
theorem dJ5_hashCode_4_0 : decode cJ5_hashCode_4 0 = .ok (.iload_n 2, 1) := dk_28 (dk_at dksJ5_hashCode_4_0 0 rfl rfl)
theorem dJ5_hashCode_4_1 : decode cJ5_hashCode_4 1 = .ok (.iload_n 3, 1) := dk_29 (dk_at dksJ5_hashCode_4_0 1 rfl rfl)
theorem dJ5_hashCode_4_2 : decode cJ5_hashCode_4 2 = .ok (.iadd, 1) := dk_96 (dk_at dksJ5_hashCode_4_0 2 rfl rfl)
theorem dJ5_hashCode_4_3 : decode cJ5_hashCode_4 3 = .ok (.istore 4, 2) := dk_54 4 (dk_at dksJ5_hashCode_4_0 3 rfl rfl)
theorem dJ5_hashCode_4_5 : decode cJ5_hashCode_4 5 = .ok (.iload_n 2, 1) := dk_28 (dk_at dksJ5_hashCode_4_0 5 rfl rfl)
theorem dJ5_hashCode_4_6 : decode cJ5_hashCode_4 6 = .ok (.istore 5, 2) := dk_54 5 (dk_at dksJ5_hashCode_4_0 6 rfl rfl)
theorem dJ5_hashCode_4_8 : decode cJ5_hashCode_4 8 = .ok (.iload 5, 2) := dk_21 5 (dk_at dksJ5_hashCode_4_0 8 rfl rfl)
theorem dJ5_hashCode_4_10 : decode cJ5_hashCode_4 10 = .ok (.iload 4, 2) := dk_21 4 (dk_at dksJ5_hashCode_4_0 10 rfl rfl)
theorem dJ5_hashCode_4_12 : decode cJ5_hashCode_4 12 = .ok (.if_icmp .ge 19, 3) := dk_162 0 19 (dk_at dksJ5_hashCode_4_0 12 rfl rfl)
theorem dJ5_hashCode_4_15 : decode cJ5_hashCode_4 15 = .ok (.bipush 31, 2) := dk_16 31 (dk_at dksJ5_hashCode_4_0 15 rfl rfl)
theorem dJ5_hashCode_4_17 : decode cJ5_hashCode_4 17 = .ok (.iload_n 0, 1) := dk_26 (dk_at dksJ5_hashCode_4_0 17 rfl rfl)
theorem dJ5_hashCode_4_18 : decode cJ5_hashCode_4 18 = .ok (.imul, 1) := dk_104 (dk_at dksJ5_hashCode_4_0 18 rfl rfl)
theorem dJ5_hashCode_4_19 : decode cJ5_hashCode_4 19 = .ok (.aload_n 1, 1) := dk_43 (dk_at dksJ5_hashCode_4_0 19 rfl rfl)
theorem dJ5_hashCode_4_20 : decode cJ5_hashCode_4 20 = .ok (.iload 5, 2) := dk_21 5 (dk_at dksJ5_hashCode_4_0 20 rfl rfl)
theorem dJ5_hashCode_4_22 : decode cJ5_hashCode_4 22 = .ok (.iaload, 1) := dk_46 (dk_at dksJ5_hashCode_4_0 22 rfl rfl)
theorem dJ5_hashCode_4_23 : decode cJ5_hashCode_4 23 = .ok (.iadd, 1) := dk_96 (dk_at dksJ5_hashCode_4_0 23 rfl rfl)
theorem dJ5_hashCode_4_24 : decode cJ5_hashCode_4 24 = .ok (.istore_n 0, 1) := dk_59 (dk_at dksJ5_hashCode_4_1 0 rfl rfl)
theorem dJ5_hashCode_4_25 : decode cJ5_hashCode_4 25 = .ok (.iinc 5 1, 3) := dk_132 5 1 (dk_at dksJ5_hashCode_4_1 1 rfl rfl)
theorem dJ5_hashCode_4_28 : decode cJ5_hashCode_4 28 = .ok (.goto (-20), 3) := dk_167 255 236 (dk_at dksJ5_hashCode_4_1 4 rfl rfl)
theorem dJ5_hashCode_4_31 : decode cJ5_hashCode_4 31 = .ok (.iload_n 0, 1) := dk_26 (dk_at dksJ5_hashCode_4_1 7 rfl rfl)
theorem dJ5_hashCode_4_32 : decode cJ5_hashCode_4 32 = .ok (.ireturn, 1) := dk_172 (dk_at dksJ5_hashCode_4_1 8 rfl rfl)
abbrev cJ5_mismatch : ByteArray := prog_75_method_13_code
def yJ5_mismatch : MethodName := ⟨RJ5, "mismatch", "([B[BI)I"⟩
def dkwJ5_mismatch_3 : List UInt8 := [172]
abbrev dktJ5_mismatch_3 : List UInt8 := dkwJ5_mismatch_3 ++ []
def dkwJ5_mismatch_2 : List UInt8 := [62, 29, 28, 162, 0, 20, 42, 29, 51, 43, 29, 51, 159, 0, 5, 29, 172, 132, 3, 1, 167, 255, 237, 2]
abbrev dktJ5_mismatch_2 : List UInt8 := dkwJ5_mismatch_2 ++ dktJ5_mismatch_3
def dkwJ5_mismatch_1 : List UInt8 := [43, 178, 0, 126, 133, 28, 178, 0, 129, 184, 0, 122, 62, 29, 155, 0, 5, 29, 172, 28, 29, 2, 130, 100]
abbrev dktJ5_mismatch_1 : List UInt8 := dkwJ5_mismatch_1 ++ dktJ5_mismatch_2
def dkwJ5_mismatch_0 : List UInt8 := [3, 62, 28, 16, 7, 164, 0, 44, 42, 3, 51, 43, 3, 51, 159, 0, 5, 3, 172, 42, 178, 0, 126, 133]
abbrev dktJ5_mismatch_0 : List UInt8 := dkwJ5_mismatch_0 ++ dktJ5_mismatch_1
theorem dksJ5_mismatch_0 : cJ5_mismatch.data.toList.drop 0 = dktJ5_mismatch_0 := by decide +kernel
theorem dksJ5_mismatch_1 : cJ5_mismatch.data.toList.drop 24 = dktJ5_mismatch_1 := dk_seg dksJ5_mismatch_0 24 rfl rfl
theorem dksJ5_mismatch_2 : cJ5_mismatch.data.toList.drop 48 = dktJ5_mismatch_2 := dk_seg dksJ5_mismatch_1 24 rfl rfl
theorem dksJ5_mismatch_3 : cJ5_mismatch.data.toList.drop 72 = dktJ5_mismatch_3 := dk_seg dksJ5_mismatch_2 24 rfl rfl
theorem dJ5_mismatch_0 : decode cJ5_mismatch 0 = .ok (.iconst 0, 1) := dk_3 (dk_at dksJ5_mismatch_0 0 rfl rfl)
theorem dJ5_mismatch_1 : decode cJ5_mismatch 1 = .ok (.istore_n 3, 1) := dk_62 (dk_at dksJ5_mismatch_0 1 rfl rfl)
theorem dJ5_mismatch_2 : decode cJ5_mismatch 2 = .ok (.iload_n 2, 1) := dk_28 (dk_at dksJ5_mismatch_0 2 rfl rfl)
theorem dJ5_mismatch_3 : decode cJ5_mismatch 3 = .ok (.bipush 7, 2) := dk_16 7 (dk_at dksJ5_mismatch_0 3 rfl rfl)
theorem dJ5_mismatch_5 : decode cJ5_mismatch 5 = .ok (.if_icmp .le 44, 3) := dk_164 0 44 (dk_at dksJ5_mismatch_0 5 rfl rfl)
theorem dJ5_mismatch_8 : decode cJ5_mismatch 8 = .ok (.aload_n 0, 1) := dk_42 (dk_at dksJ5_mismatch_0 8 rfl rfl)
theorem dJ5_mismatch_9 : decode cJ5_mismatch 9 = .ok (.iconst 0, 1) := dk_3 (dk_at dksJ5_mismatch_0 9 rfl rfl)
theorem dJ5_mismatch_10 : decode cJ5_mismatch 10 = .ok (.baload, 1) := dk_51 (dk_at dksJ5_mismatch_0 10 rfl rfl)
theorem dJ5_mismatch_11 : decode cJ5_mismatch 11 = .ok (.aload_n 1, 1) := dk_43 (dk_at dksJ5_mismatch_0 11 rfl rfl)
theorem dJ5_mismatch_12 : decode cJ5_mismatch 12 = .ok (.iconst 0, 1) := dk_3 (dk_at dksJ5_mismatch_0 12 rfl rfl)
theorem dJ5_mismatch_13 : decode cJ5_mismatch 13 = .ok (.baload, 1) := dk_51 (dk_at dksJ5_mismatch_0 13 rfl rfl)
theorem dJ5_mismatch_14 : decode cJ5_mismatch 14 = .ok (.if_icmp .eq 5, 3) := dk_159 0 5 (dk_at dksJ5_mismatch_0 14 rfl rfl)
theorem dJ5_mismatch_17 : decode cJ5_mismatch 17 = .ok (.iconst 0, 1) := dk_3 (dk_at dksJ5_mismatch_0 17 rfl rfl)
theorem dJ5_mismatch_18 : decode cJ5_mismatch 18 = .ok (.ireturn, 1) := dk_172 (dk_at dksJ5_mismatch_0 18 rfl rfl)
theorem dJ5_mismatch_19 : decode cJ5_mismatch 19 = .ok (.aload_n 0, 1) := dk_42 (dk_at dksJ5_mismatch_0 19 rfl rfl)
theorem dJ5_mismatch_20 : decode cJ5_mismatch 20 = .ok (.getstatic 126, 3) := dk_178 0 126 (dk_at dksJ5_mismatch_0 20 rfl rfl)
theorem dJ5_mismatch_23 : decode cJ5_mismatch 23 = .ok (.i2l, 1) := dk_133 (dk_at dksJ5_mismatch_0 23 rfl rfl)
theorem dJ5_mismatch_24 : decode cJ5_mismatch 24 = .ok (.aload_n 1, 1) := dk_43 (dk_at dksJ5_mismatch_1 0 rfl rfl)
theorem dJ5_mismatch_25 : decode cJ5_mismatch 25 = .ok (.getstatic 126, 3) := dk_178 0 126 (dk_at dksJ5_mismatch_1 1 rfl rfl)
theorem dJ5_mismatch_28 : decode cJ5_mismatch 28 = .ok (.i2l, 1) := dk_133 (dk_at dksJ5_mismatch_1 4 rfl rfl)
theorem dJ5_mismatch_29 : decode cJ5_mismatch 29 = .ok (.iload_n 2, 1) := dk_28 (dk_at dksJ5_mismatch_1 5 rfl rfl)
theorem dJ5_mismatch_30 : decode cJ5_mismatch 30 = .ok (.getstatic 129, 3) := dk_178 0 129 (dk_at dksJ5_mismatch_1 6 rfl rfl)
theorem dJ5_mismatch_33 : decode cJ5_mismatch 33 = .ok (.invokestatic 122, 3) := dk_184 0 122 (dk_at dksJ5_mismatch_1 9 rfl rfl)
theorem dJ5_mismatch_36 : decode cJ5_mismatch 36 = .ok (.istore_n 3, 1) := dk_62 (dk_at dksJ5_mismatch_1 12 rfl rfl)
theorem dJ5_mismatch_37 : decode cJ5_mismatch 37 = .ok (.iload_n 3, 1) := dk_29 (dk_at dksJ5_mismatch_1 13 rfl rfl)
theorem dJ5_mismatch_38 : decode cJ5_mismatch 38 = .ok (.ifCond .lt 5, 3) := dk_155 0 5 (dk_at dksJ5_mismatch_1 14 rfl rfl)
theorem dJ5_mismatch_41 : decode cJ5_mismatch 41 = .ok (.iload_n 3, 1) := dk_29 (dk_at dksJ5_mismatch_1 17 rfl rfl)
theorem dJ5_mismatch_42 : decode cJ5_mismatch 42 = .ok (.ireturn, 1) := dk_172 (dk_at dksJ5_mismatch_1 18 rfl rfl)
theorem dJ5_mismatch_43 : decode cJ5_mismatch 43 = .ok (.iload_n 2, 1) := dk_28 (dk_at dksJ5_mismatch_1 19 rfl rfl)
theorem dJ5_mismatch_44 : decode cJ5_mismatch 44 = .ok (.iload_n 3, 1) := dk_29 (dk_at dksJ5_mismatch_1 20 rfl rfl)
theorem dJ5_mismatch_45 : decode cJ5_mismatch 45 = .ok (.iconst (-1), 1) := dk_2 (dk_at dksJ5_mismatch_1 21 rfl rfl)
theorem dJ5_mismatch_46 : decode cJ5_mismatch 46 = .ok (.ixor, 1) := dk_130 (dk_at dksJ5_mismatch_1 22 rfl rfl)
theorem dJ5_mismatch_47 : decode cJ5_mismatch 47 = .ok (.isub, 1) := dk_100 (dk_at dksJ5_mismatch_1 23 rfl rfl)
theorem dJ5_mismatch_48 : decode cJ5_mismatch 48 = .ok (.istore_n 3, 1) := dk_62 (dk_at dksJ5_mismatch_2 0 rfl rfl)
theorem dJ5_mismatch_49 : decode cJ5_mismatch 49 = .ok (.iload_n 3, 1) := dk_29 (dk_at dksJ5_mismatch_2 1 rfl rfl)
theorem dJ5_mismatch_50 : decode cJ5_mismatch 50 = .ok (.iload_n 2, 1) := dk_28 (dk_at dksJ5_mismatch_2 2 rfl rfl)
theorem dJ5_mismatch_51 : decode cJ5_mismatch 51 = .ok (.if_icmp .ge 20, 3) := dk_162 0 20 (dk_at dksJ5_mismatch_2 3 rfl rfl)
theorem dJ5_mismatch_54 : decode cJ5_mismatch 54 = .ok (.aload_n 0, 1) := dk_42 (dk_at dksJ5_mismatch_2 6 rfl rfl)
theorem dJ5_mismatch_55 : decode cJ5_mismatch 55 = .ok (.iload_n 3, 1) := dk_29 (dk_at dksJ5_mismatch_2 7 rfl rfl)
theorem dJ5_mismatch_56 : decode cJ5_mismatch 56 = .ok (.baload, 1) := dk_51 (dk_at dksJ5_mismatch_2 8 rfl rfl)
theorem dJ5_mismatch_57 : decode cJ5_mismatch 57 = .ok (.aload_n 1, 1) := dk_43 (dk_at dksJ5_mismatch_2 9 rfl rfl)
theorem dJ5_mismatch_58 : decode cJ5_mismatch 58 = .ok (.iload_n 3, 1) := dk_29 (dk_at dksJ5_mismatch_2 10 rfl rfl)
theorem dJ5_mismatch_59 : decode cJ5_mismatch 59 = .ok (.baload, 1) := dk_51 (dk_at dksJ5_mismatch_2 11 rfl rfl)
theorem dJ5_mismatch_60 : decode cJ5_mismatch 60 = .ok (.if_icmp .eq 5, 3) := dk_159 0 5 (dk_at dksJ5_mismatch_2 12 rfl rfl)
theorem dJ5_mismatch_63 : decode cJ5_mismatch 63 = .ok (.iload_n 3, 1) := dk_29 (dk_at dksJ5_mismatch_2 15 rfl rfl)
theorem dJ5_mismatch_64 : decode cJ5_mismatch 64 = .ok (.ireturn, 1) := dk_172 (dk_at dksJ5_mismatch_2 16 rfl rfl)
theorem dJ5_mismatch_65 : decode cJ5_mismatch 65 = .ok (.iinc 3 1, 3) := dk_132 3 1 (dk_at dksJ5_mismatch_2 17 rfl rfl)
theorem dJ5_mismatch_68 : decode cJ5_mismatch 68 = .ok (.goto (-19), 3) := dk_167 255 237 (dk_at dksJ5_mismatch_2 20 rfl rfl)
theorem dJ5_mismatch_71 : decode cJ5_mismatch 71 = .ok (.iconst (-1), 1) := dk_2 (dk_at dksJ5_mismatch_2 23 rfl rfl)
theorem dJ5_mismatch_72 : decode cJ5_mismatch 72 = .ok (.ireturn, 1) := dk_172 (dk_at dksJ5_mismatch_3 0 rfl rfl)
abbrev cJ5_vectorizedMismatch : ByteArray := prog_75_method_3_code
def yJ5_vectorizedMismatch : MethodName := ⟨RJ5, "vectorizedMismatch", "(Ljava/lang/Object;JLjava/lang/Object;JII)I"⟩
def dkwJ5_vectorizedMismatch_11 : List UInt8 := [54, 10, 21, 10, 2, 130, 172, 21, 10, 2, 130, 172]
abbrev dktJ5_vectorizedMismatch_11 : List UInt8 := dkwJ5_vectorizedMismatch_11 ++ []
def dkwJ5_vectorizedMismatch_10 : List UInt8 := [178, 0, 46, 21, 7, 96, 122, 54, 17, 21, 9, 21, 8, 120, 21, 17, 96, 172, 21, 10, 21, 11, 100]
abbrev dktJ5_vectorizedMismatch_10 : List UInt8 := dkwJ5_vectorizedMismatch_10 ++ dktJ5_vectorizedMismatch_11
def dkwJ5_vectorizedMismatch_9 : List UInt8 := [153, 0, 18, 21, 16, 184, 0, 58, 178, 0, 46, 21, 7, 96, 122, 167, 0, 15, 21, 16, 184, 0, 11]
abbrev dktJ5_vectorizedMismatch_9 : List UInt8 := dkwJ5_vectorizedMismatch_9 ++ dktJ5_vectorizedMismatch_10
def dkwJ5_vectorizedMismatch_8 : List UInt8 := [182, 0, 54, 54, 15, 21, 14, 21, 15, 159, 0, 54, 21, 14, 21, 15, 130, 54, 16, 178, 0, 36]
abbrev dktJ5_vectorizedMismatch_8 : List UInt8 := dkwJ5_vectorizedMismatch_8 ++ dktJ5_vectorizedMismatch_9
def dkwJ5_vectorizedMismatch_7 : List UInt8 := [55, 12, 178, 0, 26, 42, 31, 22, 12, 97, 182, 0, 54, 54, 14, 178, 0, 26, 45, 22, 4, 22, 12, 97]
abbrev dktJ5_vectorizedMismatch_7 : List UInt8 := dkwJ5_vectorizedMismatch_7 ++ dktJ5_vectorizedMismatch_8
def dkwJ5_vectorizedMismatch_6 : List UInt8 := [4, 178, 0, 51, 21, 7, 100, 120, 54, 11, 21, 10, 21, 11, 161, 0, 104, 21, 9, 133, 178, 0, 20, 121]
abbrev dktJ5_vectorizedMismatch_6 : List UInt8 := dkwJ5_vectorizedMismatch_6 ++ dktJ5_vectorizedMismatch_7
def dkwJ5_vectorizedMismatch_5 : List UInt8 := [132, 9, 1, 167, 255, 148, 21, 6, 21, 9, 21, 8, 120, 100, 54, 10, 21, 7, 178, 0, 51, 162, 0, 126]
abbrev dktJ5_vectorizedMismatch_5 : List UInt8 := dkwJ5_vectorizedMismatch_5 ++ dktJ5_vectorizedMismatch_6
def dkwJ5_vectorizedMismatch_4 : List UInt8 := [22, 16, 184, 0, 49, 178, 0, 46, 21, 7, 96, 122, 54, 18, 21, 9, 21, 8, 120, 21, 18, 96, 172]
abbrev dktJ5_vectorizedMismatch_4 : List UInt8 := dkwJ5_vectorizedMismatch_4 ++ dktJ5_vectorizedMismatch_5
def dkwJ5_vectorizedMismatch_3 : List UInt8 := [55, 16, 178, 0, 36, 153, 0, 18, 22, 16, 184, 0, 40, 178, 0, 46, 21, 7, 96, 122, 167, 0, 15]
abbrev dktJ5_vectorizedMismatch_3 : List UInt8 := dkwJ5_vectorizedMismatch_3 ++ dktJ5_vectorizedMismatch_4
def dkwJ5_vectorizedMismatch_2 : List UInt8 := [22, 4, 22, 10, 97, 182, 0, 30, 55, 14, 22, 12, 22, 14, 148, 153, 0, 54, 22, 12, 22, 14, 131]
abbrev dktJ5_vectorizedMismatch_2 : List UInt8 := dkwJ5_vectorizedMismatch_2 ++ dktJ5_vectorizedMismatch_3
def dkwJ5_vectorizedMismatch_1 : List UInt8 := [178, 0, 20, 121, 55, 10, 178, 0, 26, 42, 31, 22, 10, 97, 182, 0, 30, 55, 12, 178, 0, 26, 45]
abbrev dktJ5_vectorizedMismatch_1 : List UInt8 := dkwJ5_vectorizedMismatch_1 ++ dktJ5_vectorizedMismatch_2
def dkwJ5_vectorizedMismatch_0 : List UInt8 := [178, 0, 20, 21, 7, 100, 54, 8, 3, 54, 9, 21, 9, 21, 6, 21, 8, 122, 162, 0, 104, 21, 9, 133]
abbrev dktJ5_vectorizedMismatch_0 : List UInt8 := dkwJ5_vectorizedMismatch_0 ++ dktJ5_vectorizedMismatch_1
theorem dksJ5_vectorizedMismatch_0 : cJ5_vectorizedMismatch.data.toList.drop 0 = dktJ5_vectorizedMismatch_0 := by decide +kernel
theorem dksJ5_vectorizedMismatch_1 : cJ5_vectorizedMismatch.data.toList.drop 24 = dktJ5_vectorizedMismatch_1 := dk_seg dksJ5_vectorizedMismatch_0 24 rfl rfl
theorem dksJ5_vectorizedMismatch_2 : cJ5_vectorizedMismatch.data.toList.drop 47 = dktJ5_vectorizedMismatch_2 := dk_seg dksJ5_vectorizedMismatch_1 23 rfl rfl
theorem dksJ5_vectorizedMismatch_3 : cJ5_vectorizedMismatch.data.toList.drop 70 = dktJ5_vectorizedMismatch_3 := dk_seg dksJ5_vectorizedMismatch_2 23 rfl rfl
theorem dksJ5_vectorizedMismatch_4 : cJ5_vectorizedMismatch.data.toList.drop 93 = dktJ5_vectorizedMismatch_4 := dk_seg dksJ5_vectorizedMismatch_3 23 rfl rfl
theorem dksJ5_vectorizedMismatch_5 : cJ5_vectorizedMismatch.data.toList.drop 116 = dktJ5_vectorizedMismatch_5 := dk_seg dksJ5_vectorizedMismatch_4 23 rfl rfl
theorem dksJ5_vectorizedMismatch_6 : cJ5_vectorizedMismatch.data.toList.drop 140 = dktJ5_vectorizedMismatch_6 := dk_seg dksJ5_vectorizedMismatch_5 24 rfl rfl
theorem dksJ5_vectorizedMismatch_7 : cJ5_vectorizedMismatch.data.toList.drop 164 = dktJ5_vectorizedMismatch_7 := dk_seg dksJ5_vectorizedMismatch_6 24 rfl rfl
theorem dksJ5_vectorizedMismatch_8 : cJ5_vectorizedMismatch.data.toList.drop 188 = dktJ5_vectorizedMismatch_8 := dk_seg dksJ5_vectorizedMismatch_7 24 rfl rfl
theorem dksJ5_vectorizedMismatch_9 : cJ5_vectorizedMismatch.data.toList.drop 210 = dktJ5_vectorizedMismatch_9 := dk_seg dksJ5_vectorizedMismatch_8 22 rfl rfl
theorem dksJ5_vectorizedMismatch_10 : cJ5_vectorizedMismatch.data.toList.drop 233 = dktJ5_vectorizedMismatch_10 := dk_seg dksJ5_vectorizedMismatch_9 23 rfl rfl
theorem dksJ5_vectorizedMismatch_11 : cJ5_vectorizedMismatch.data.toList.drop 256 = dktJ5_vectorizedMismatch_11 := dk_seg dksJ5_vectorizedMismatch_10 23 rfl rfl
theorem dJ5_vectorizedMismatch_0 : decode cJ5_vectorizedMismatch 0 = .ok (.getstatic 20, 3) := dk_178 0 20 (dk_at dksJ5_vectorizedMismatch_0 0 rfl rfl)
theorem dJ5_vectorizedMismatch_3 : decode cJ5_vectorizedMismatch 3 = .ok (.iload 7, 2) := dk_21 7 (dk_at dksJ5_vectorizedMismatch_0 3 rfl rfl)
theorem dJ5_vectorizedMismatch_5 : decode cJ5_vectorizedMismatch 5 = .ok (.isub, 1) := dk_100 (dk_at dksJ5_vectorizedMismatch_0 5 rfl rfl)
theorem dJ5_vectorizedMismatch_6 : decode cJ5_vectorizedMismatch 6 = .ok (.istore 8, 2) := dk_54 8 (dk_at dksJ5_vectorizedMismatch_0 6 rfl rfl)
theorem dJ5_vectorizedMismatch_8 : decode cJ5_vectorizedMismatch 8 = .ok (.iconst 0, 1) := dk_3 (dk_at dksJ5_vectorizedMismatch_0 8 rfl rfl)
theorem dJ5_vectorizedMismatch_9 : decode cJ5_vectorizedMismatch 9 = .ok (.istore 9, 2) := dk_54 9 (dk_at dksJ5_vectorizedMismatch_0 9 rfl rfl)
theorem dJ5_vectorizedMismatch_11 : decode cJ5_vectorizedMismatch 11 = .ok (.iload 9, 2) := dk_21 9 (dk_at dksJ5_vectorizedMismatch_0 11 rfl rfl)
theorem dJ5_vectorizedMismatch_13 : decode cJ5_vectorizedMismatch 13 = .ok (.iload 6, 2) := dk_21 6 (dk_at dksJ5_vectorizedMismatch_0 13 rfl rfl)
theorem dJ5_vectorizedMismatch_15 : decode cJ5_vectorizedMismatch 15 = .ok (.iload 8, 2) := dk_21 8 (dk_at dksJ5_vectorizedMismatch_0 15 rfl rfl)
theorem dJ5_vectorizedMismatch_17 : decode cJ5_vectorizedMismatch 17 = .ok (.ishr, 1) := dk_122 (dk_at dksJ5_vectorizedMismatch_0 17 rfl rfl)
theorem dJ5_vectorizedMismatch_18 : decode cJ5_vectorizedMismatch 18 = .ok (.if_icmp .ge 104, 3) := dk_162 0 104 (dk_at dksJ5_vectorizedMismatch_0 18 rfl rfl)
theorem dJ5_vectorizedMismatch_21 : decode cJ5_vectorizedMismatch 21 = .ok (.iload 9, 2) := dk_21 9 (dk_at dksJ5_vectorizedMismatch_0 21 rfl rfl)
theorem dJ5_vectorizedMismatch_23 : decode cJ5_vectorizedMismatch 23 = .ok (.i2l, 1) := dk_133 (dk_at dksJ5_vectorizedMismatch_0 23 rfl rfl)
theorem dJ5_vectorizedMismatch_24 : decode cJ5_vectorizedMismatch 24 = .ok (.getstatic 20, 3) := dk_178 0 20 (dk_at dksJ5_vectorizedMismatch_1 0 rfl rfl)
theorem dJ5_vectorizedMismatch_27 : decode cJ5_vectorizedMismatch 27 = .ok (.lshl, 1) := dk_121 (dk_at dksJ5_vectorizedMismatch_1 3 rfl rfl)
theorem dJ5_vectorizedMismatch_28 : decode cJ5_vectorizedMismatch 28 = .ok (.lstore 10, 2) := dk_55 10 (dk_at dksJ5_vectorizedMismatch_1 4 rfl rfl)
theorem dJ5_vectorizedMismatch_30 : decode cJ5_vectorizedMismatch 30 = .ok (.getstatic 26, 3) := dk_178 0 26 (dk_at dksJ5_vectorizedMismatch_1 6 rfl rfl)
theorem dJ5_vectorizedMismatch_33 : decode cJ5_vectorizedMismatch 33 = .ok (.aload_n 0, 1) := dk_42 (dk_at dksJ5_vectorizedMismatch_1 9 rfl rfl)
theorem dJ5_vectorizedMismatch_34 : decode cJ5_vectorizedMismatch 34 = .ok (.lload_n 1, 1) := dk_31 (dk_at dksJ5_vectorizedMismatch_1 10 rfl rfl)
theorem dJ5_vectorizedMismatch_35 : decode cJ5_vectorizedMismatch 35 = .ok (.lload 10, 2) := dk_22 10 (dk_at dksJ5_vectorizedMismatch_1 11 rfl rfl)
theorem dJ5_vectorizedMismatch_37 : decode cJ5_vectorizedMismatch 37 = .ok (.ladd, 1) := dk_97 (dk_at dksJ5_vectorizedMismatch_1 13 rfl rfl)
theorem dJ5_vectorizedMismatch_38 : decode cJ5_vectorizedMismatch 38 = .ok (.invokevirtual 30, 3) := dk_182 0 30 (dk_at dksJ5_vectorizedMismatch_1 14 rfl rfl)
theorem dJ5_vectorizedMismatch_41 : decode cJ5_vectorizedMismatch 41 = .ok (.lstore 12, 2) := dk_55 12 (dk_at dksJ5_vectorizedMismatch_1 17 rfl rfl)
theorem dJ5_vectorizedMismatch_43 : decode cJ5_vectorizedMismatch 43 = .ok (.getstatic 26, 3) := dk_178 0 26 (dk_at dksJ5_vectorizedMismatch_1 19 rfl rfl)
theorem dJ5_vectorizedMismatch_46 : decode cJ5_vectorizedMismatch 46 = .ok (.aload_n 3, 1) := dk_45 (dk_at dksJ5_vectorizedMismatch_1 22 rfl rfl)
theorem dJ5_vectorizedMismatch_47 : decode cJ5_vectorizedMismatch 47 = .ok (.lload 4, 2) := dk_22 4 (dk_at dksJ5_vectorizedMismatch_2 0 rfl rfl)
theorem dJ5_vectorizedMismatch_49 : decode cJ5_vectorizedMismatch 49 = .ok (.lload 10, 2) := dk_22 10 (dk_at dksJ5_vectorizedMismatch_2 2 rfl rfl)
theorem dJ5_vectorizedMismatch_51 : decode cJ5_vectorizedMismatch 51 = .ok (.ladd, 1) := dk_97 (dk_at dksJ5_vectorizedMismatch_2 4 rfl rfl)
theorem dJ5_vectorizedMismatch_52 : decode cJ5_vectorizedMismatch 52 = .ok (.invokevirtual 30, 3) := dk_182 0 30 (dk_at dksJ5_vectorizedMismatch_2 5 rfl rfl)
theorem dJ5_vectorizedMismatch_55 : decode cJ5_vectorizedMismatch 55 = .ok (.lstore 14, 2) := dk_55 14 (dk_at dksJ5_vectorizedMismatch_2 8 rfl rfl)
theorem dJ5_vectorizedMismatch_57 : decode cJ5_vectorizedMismatch 57 = .ok (.lload 12, 2) := dk_22 12 (dk_at dksJ5_vectorizedMismatch_2 10 rfl rfl)
theorem dJ5_vectorizedMismatch_59 : decode cJ5_vectorizedMismatch 59 = .ok (.lload 14, 2) := dk_22 14 (dk_at dksJ5_vectorizedMismatch_2 12 rfl rfl)
theorem dJ5_vectorizedMismatch_61 : decode cJ5_vectorizedMismatch 61 = .ok (.lcmp, 1) := dk_148 (dk_at dksJ5_vectorizedMismatch_2 14 rfl rfl)
theorem dJ5_vectorizedMismatch_62 : decode cJ5_vectorizedMismatch 62 = .ok (.ifCond .eq 54, 3) := dk_153 0 54 (dk_at dksJ5_vectorizedMismatch_2 15 rfl rfl)
theorem dJ5_vectorizedMismatch_65 : decode cJ5_vectorizedMismatch 65 = .ok (.lload 12, 2) := dk_22 12 (dk_at dksJ5_vectorizedMismatch_2 18 rfl rfl)
theorem dJ5_vectorizedMismatch_67 : decode cJ5_vectorizedMismatch 67 = .ok (.lload 14, 2) := dk_22 14 (dk_at dksJ5_vectorizedMismatch_2 20 rfl rfl)
theorem dJ5_vectorizedMismatch_69 : decode cJ5_vectorizedMismatch 69 = .ok (.lxor, 1) := dk_131 (dk_at dksJ5_vectorizedMismatch_2 22 rfl rfl)
theorem dJ5_vectorizedMismatch_70 : decode cJ5_vectorizedMismatch 70 = .ok (.lstore 16, 2) := dk_55 16 (dk_at dksJ5_vectorizedMismatch_3 0 rfl rfl)
theorem dJ5_vectorizedMismatch_72 : decode cJ5_vectorizedMismatch 72 = .ok (.getstatic 36, 3) := dk_178 0 36 (dk_at dksJ5_vectorizedMismatch_3 2 rfl rfl)
theorem dJ5_vectorizedMismatch_75 : decode cJ5_vectorizedMismatch 75 = .ok (.ifCond .eq 18, 3) := dk_153 0 18 (dk_at dksJ5_vectorizedMismatch_3 5 rfl rfl)
theorem dJ5_vectorizedMismatch_78 : decode cJ5_vectorizedMismatch 78 = .ok (.lload 16, 2) := dk_22 16 (dk_at dksJ5_vectorizedMismatch_3 8 rfl rfl)
theorem dJ5_vectorizedMismatch_80 : decode cJ5_vectorizedMismatch 80 = .ok (.invokestatic 40, 3) := dk_184 0 40 (dk_at dksJ5_vectorizedMismatch_3 10 rfl rfl)
theorem dJ5_vectorizedMismatch_83 : decode cJ5_vectorizedMismatch 83 = .ok (.getstatic 46, 3) := dk_178 0 46 (dk_at dksJ5_vectorizedMismatch_3 13 rfl rfl)
theorem dJ5_vectorizedMismatch_86 : decode cJ5_vectorizedMismatch 86 = .ok (.iload 7, 2) := dk_21 7 (dk_at dksJ5_vectorizedMismatch_3 16 rfl rfl)
theorem dJ5_vectorizedMismatch_88 : decode cJ5_vectorizedMismatch 88 = .ok (.iadd, 1) := dk_96 (dk_at dksJ5_vectorizedMismatch_3 18 rfl rfl)
theorem dJ5_vectorizedMismatch_89 : decode cJ5_vectorizedMismatch 89 = .ok (.ishr, 1) := dk_122 (dk_at dksJ5_vectorizedMismatch_3 19 rfl rfl)
theorem dJ5_vectorizedMismatch_90 : decode cJ5_vectorizedMismatch 90 = .ok (.goto 15, 3) := dk_167 0 15 (dk_at dksJ5_vectorizedMismatch_3 20 rfl rfl)
theorem dJ5_vectorizedMismatch_93 : decode cJ5_vectorizedMismatch 93 = .ok (.lload 16, 2) := dk_22 16 (dk_at dksJ5_vectorizedMismatch_4 0 rfl rfl)
theorem dJ5_vectorizedMismatch_95 : decode cJ5_vectorizedMismatch 95 = .ok (.invokestatic 49, 3) := dk_184 0 49 (dk_at dksJ5_vectorizedMismatch_4 2 rfl rfl)
theorem dJ5_vectorizedMismatch_98 : decode cJ5_vectorizedMismatch 98 = .ok (.getstatic 46, 3) := dk_178 0 46 (dk_at dksJ5_vectorizedMismatch_4 5 rfl rfl)
theorem dJ5_vectorizedMismatch_101 : decode cJ5_vectorizedMismatch 101 = .ok (.iload 7, 2) := dk_21 7 (dk_at dksJ5_vectorizedMismatch_4 8 rfl rfl)
theorem dJ5_vectorizedMismatch_103 : decode cJ5_vectorizedMismatch 103 = .ok (.iadd, 1) := dk_96 (dk_at dksJ5_vectorizedMismatch_4 10 rfl rfl)
theorem dJ5_vectorizedMismatch_104 : decode cJ5_vectorizedMismatch 104 = .ok (.ishr, 1) := dk_122 (dk_at dksJ5_vectorizedMismatch_4 11 rfl rfl)
theorem dJ5_vectorizedMismatch_105 : decode cJ5_vectorizedMismatch 105 = .ok (.istore 18, 2) := dk_54 18 (dk_at dksJ5_vectorizedMismatch_4 12 rfl rfl)
theorem dJ5_vectorizedMismatch_107 : decode cJ5_vectorizedMismatch 107 = .ok (.iload 9, 2) := dk_21 9 (dk_at dksJ5_vectorizedMismatch_4 14 rfl rfl)
theorem dJ5_vectorizedMismatch_109 : decode cJ5_vectorizedMismatch 109 = .ok (.iload 8, 2) := dk_21 8 (dk_at dksJ5_vectorizedMismatch_4 16 rfl rfl)
theorem dJ5_vectorizedMismatch_111 : decode cJ5_vectorizedMismatch 111 = .ok (.ishl, 1) := dk_120 (dk_at dksJ5_vectorizedMismatch_4 18 rfl rfl)
theorem dJ5_vectorizedMismatch_112 : decode cJ5_vectorizedMismatch 112 = .ok (.iload 18, 2) := dk_21 18 (dk_at dksJ5_vectorizedMismatch_4 19 rfl rfl)
theorem dJ5_vectorizedMismatch_114 : decode cJ5_vectorizedMismatch 114 = .ok (.iadd, 1) := dk_96 (dk_at dksJ5_vectorizedMismatch_4 21 rfl rfl)
theorem dJ5_vectorizedMismatch_115 : decode cJ5_vectorizedMismatch 115 = .ok (.ireturn, 1) := dk_172 (dk_at dksJ5_vectorizedMismatch_4 22 rfl rfl)
theorem dJ5_vectorizedMismatch_116 : decode cJ5_vectorizedMismatch 116 = .ok (.iinc 9 1, 3) := dk_132 9 1 (dk_at dksJ5_vectorizedMismatch_5 0 rfl rfl)
theorem dJ5_vectorizedMismatch_119 : decode cJ5_vectorizedMismatch 119 = .ok (.goto (-108), 3) := dk_167 255 148 (dk_at dksJ5_vectorizedMismatch_5 3 rfl rfl)
theorem dJ5_vectorizedMismatch_122 : decode cJ5_vectorizedMismatch 122 = .ok (.iload 6, 2) := dk_21 6 (dk_at dksJ5_vectorizedMismatch_5 6 rfl rfl)
theorem dJ5_vectorizedMismatch_124 : decode cJ5_vectorizedMismatch 124 = .ok (.iload 9, 2) := dk_21 9 (dk_at dksJ5_vectorizedMismatch_5 8 rfl rfl)
theorem dJ5_vectorizedMismatch_126 : decode cJ5_vectorizedMismatch 126 = .ok (.iload 8, 2) := dk_21 8 (dk_at dksJ5_vectorizedMismatch_5 10 rfl rfl)
theorem dJ5_vectorizedMismatch_128 : decode cJ5_vectorizedMismatch 128 = .ok (.ishl, 1) := dk_120 (dk_at dksJ5_vectorizedMismatch_5 12 rfl rfl)
theorem dJ5_vectorizedMismatch_129 : decode cJ5_vectorizedMismatch 129 = .ok (.isub, 1) := dk_100 (dk_at dksJ5_vectorizedMismatch_5 13 rfl rfl)
theorem dJ5_vectorizedMismatch_130 : decode cJ5_vectorizedMismatch 130 = .ok (.istore 10, 2) := dk_54 10 (dk_at dksJ5_vectorizedMismatch_5 14 rfl rfl)
theorem dJ5_vectorizedMismatch_132 : decode cJ5_vectorizedMismatch 132 = .ok (.iload 7, 2) := dk_21 7 (dk_at dksJ5_vectorizedMismatch_5 16 rfl rfl)
theorem dJ5_vectorizedMismatch_134 : decode cJ5_vectorizedMismatch 134 = .ok (.getstatic 51, 3) := dk_178 0 51 (dk_at dksJ5_vectorizedMismatch_5 18 rfl rfl)
theorem dJ5_vectorizedMismatch_137 : decode cJ5_vectorizedMismatch 137 = .ok (.if_icmp .ge 126, 3) := dk_162 0 126 (dk_at dksJ5_vectorizedMismatch_5 21 rfl rfl)
theorem dJ5_vectorizedMismatch_140 : decode cJ5_vectorizedMismatch 140 = .ok (.iconst 1, 1) := dk_4 (dk_at dksJ5_vectorizedMismatch_6 0 rfl rfl)
theorem dJ5_vectorizedMismatch_141 : decode cJ5_vectorizedMismatch 141 = .ok (.getstatic 51, 3) := dk_178 0 51 (dk_at dksJ5_vectorizedMismatch_6 1 rfl rfl)
theorem dJ5_vectorizedMismatch_144 : decode cJ5_vectorizedMismatch 144 = .ok (.iload 7, 2) := dk_21 7 (dk_at dksJ5_vectorizedMismatch_6 4 rfl rfl)
theorem dJ5_vectorizedMismatch_146 : decode cJ5_vectorizedMismatch 146 = .ok (.isub, 1) := dk_100 (dk_at dksJ5_vectorizedMismatch_6 6 rfl rfl)
theorem dJ5_vectorizedMismatch_147 : decode cJ5_vectorizedMismatch 147 = .ok (.ishl, 1) := dk_120 (dk_at dksJ5_vectorizedMismatch_6 7 rfl rfl)
theorem dJ5_vectorizedMismatch_148 : decode cJ5_vectorizedMismatch 148 = .ok (.istore 11, 2) := dk_54 11 (dk_at dksJ5_vectorizedMismatch_6 8 rfl rfl)
theorem dJ5_vectorizedMismatch_150 : decode cJ5_vectorizedMismatch 150 = .ok (.iload 10, 2) := dk_21 10 (dk_at dksJ5_vectorizedMismatch_6 10 rfl rfl)
theorem dJ5_vectorizedMismatch_152 : decode cJ5_vectorizedMismatch 152 = .ok (.iload 11, 2) := dk_21 11 (dk_at dksJ5_vectorizedMismatch_6 12 rfl rfl)
theorem dJ5_vectorizedMismatch_154 : decode cJ5_vectorizedMismatch 154 = .ok (.if_icmp .lt 104, 3) := dk_161 0 104 (dk_at dksJ5_vectorizedMismatch_6 14 rfl rfl)
theorem dJ5_vectorizedMismatch_157 : decode cJ5_vectorizedMismatch 157 = .ok (.iload 9, 2) := dk_21 9 (dk_at dksJ5_vectorizedMismatch_6 17 rfl rfl)
theorem dJ5_vectorizedMismatch_159 : decode cJ5_vectorizedMismatch 159 = .ok (.i2l, 1) := dk_133 (dk_at dksJ5_vectorizedMismatch_6 19 rfl rfl)
theorem dJ5_vectorizedMismatch_160 : decode cJ5_vectorizedMismatch 160 = .ok (.getstatic 20, 3) := dk_178 0 20 (dk_at dksJ5_vectorizedMismatch_6 20 rfl rfl)
theorem dJ5_vectorizedMismatch_163 : decode cJ5_vectorizedMismatch 163 = .ok (.lshl, 1) := dk_121 (dk_at dksJ5_vectorizedMismatch_6 23 rfl rfl)
theorem dJ5_vectorizedMismatch_164 : decode cJ5_vectorizedMismatch 164 = .ok (.lstore 12, 2) := dk_55 12 (dk_at dksJ5_vectorizedMismatch_7 0 rfl rfl)
theorem dJ5_vectorizedMismatch_166 : decode cJ5_vectorizedMismatch 166 = .ok (.getstatic 26, 3) := dk_178 0 26 (dk_at dksJ5_vectorizedMismatch_7 2 rfl rfl)
theorem dJ5_vectorizedMismatch_169 : decode cJ5_vectorizedMismatch 169 = .ok (.aload_n 0, 1) := dk_42 (dk_at dksJ5_vectorizedMismatch_7 5 rfl rfl)
theorem dJ5_vectorizedMismatch_170 : decode cJ5_vectorizedMismatch 170 = .ok (.lload_n 1, 1) := dk_31 (dk_at dksJ5_vectorizedMismatch_7 6 rfl rfl)
theorem dJ5_vectorizedMismatch_171 : decode cJ5_vectorizedMismatch 171 = .ok (.lload 12, 2) := dk_22 12 (dk_at dksJ5_vectorizedMismatch_7 7 rfl rfl)
theorem dJ5_vectorizedMismatch_173 : decode cJ5_vectorizedMismatch 173 = .ok (.ladd, 1) := dk_97 (dk_at dksJ5_vectorizedMismatch_7 9 rfl rfl)
theorem dJ5_vectorizedMismatch_174 : decode cJ5_vectorizedMismatch 174 = .ok (.invokevirtual 54, 3) := dk_182 0 54 (dk_at dksJ5_vectorizedMismatch_7 10 rfl rfl)
theorem dJ5_vectorizedMismatch_177 : decode cJ5_vectorizedMismatch 177 = .ok (.istore 14, 2) := dk_54 14 (dk_at dksJ5_vectorizedMismatch_7 13 rfl rfl)
theorem dJ5_vectorizedMismatch_179 : decode cJ5_vectorizedMismatch 179 = .ok (.getstatic 26, 3) := dk_178 0 26 (dk_at dksJ5_vectorizedMismatch_7 15 rfl rfl)
theorem dJ5_vectorizedMismatch_182 : decode cJ5_vectorizedMismatch 182 = .ok (.aload_n 3, 1) := dk_45 (dk_at dksJ5_vectorizedMismatch_7 18 rfl rfl)
theorem dJ5_vectorizedMismatch_183 : decode cJ5_vectorizedMismatch 183 = .ok (.lload 4, 2) := dk_22 4 (dk_at dksJ5_vectorizedMismatch_7 19 rfl rfl)
theorem dJ5_vectorizedMismatch_185 : decode cJ5_vectorizedMismatch 185 = .ok (.lload 12, 2) := dk_22 12 (dk_at dksJ5_vectorizedMismatch_7 21 rfl rfl)
theorem dJ5_vectorizedMismatch_187 : decode cJ5_vectorizedMismatch 187 = .ok (.ladd, 1) := dk_97 (dk_at dksJ5_vectorizedMismatch_7 23 rfl rfl)
theorem dJ5_vectorizedMismatch_188 : decode cJ5_vectorizedMismatch 188 = .ok (.invokevirtual 54, 3) := dk_182 0 54 (dk_at dksJ5_vectorizedMismatch_8 0 rfl rfl)
theorem dJ5_vectorizedMismatch_191 : decode cJ5_vectorizedMismatch 191 = .ok (.istore 15, 2) := dk_54 15 (dk_at dksJ5_vectorizedMismatch_8 3 rfl rfl)
theorem dJ5_vectorizedMismatch_193 : decode cJ5_vectorizedMismatch 193 = .ok (.iload 14, 2) := dk_21 14 (dk_at dksJ5_vectorizedMismatch_8 5 rfl rfl)
theorem dJ5_vectorizedMismatch_195 : decode cJ5_vectorizedMismatch 195 = .ok (.iload 15, 2) := dk_21 15 (dk_at dksJ5_vectorizedMismatch_8 7 rfl rfl)
theorem dJ5_vectorizedMismatch_197 : decode cJ5_vectorizedMismatch 197 = .ok (.if_icmp .eq 54, 3) := dk_159 0 54 (dk_at dksJ5_vectorizedMismatch_8 9 rfl rfl)
theorem dJ5_vectorizedMismatch_200 : decode cJ5_vectorizedMismatch 200 = .ok (.iload 14, 2) := dk_21 14 (dk_at dksJ5_vectorizedMismatch_8 12 rfl rfl)
theorem dJ5_vectorizedMismatch_202 : decode cJ5_vectorizedMismatch 202 = .ok (.iload 15, 2) := dk_21 15 (dk_at dksJ5_vectorizedMismatch_8 14 rfl rfl)
theorem dJ5_vectorizedMismatch_204 : decode cJ5_vectorizedMismatch 204 = .ok (.ixor, 1) := dk_130 (dk_at dksJ5_vectorizedMismatch_8 16 rfl rfl)
theorem dJ5_vectorizedMismatch_205 : decode cJ5_vectorizedMismatch 205 = .ok (.istore 16, 2) := dk_54 16 (dk_at dksJ5_vectorizedMismatch_8 17 rfl rfl)
theorem dJ5_vectorizedMismatch_207 : decode cJ5_vectorizedMismatch 207 = .ok (.getstatic 36, 3) := dk_178 0 36 (dk_at dksJ5_vectorizedMismatch_8 19 rfl rfl)
theorem dJ5_vectorizedMismatch_210 : decode cJ5_vectorizedMismatch 210 = .ok (.ifCond .eq 18, 3) := dk_153 0 18 (dk_at dksJ5_vectorizedMismatch_9 0 rfl rfl)
theorem dJ5_vectorizedMismatch_213 : decode cJ5_vectorizedMismatch 213 = .ok (.iload 16, 2) := dk_21 16 (dk_at dksJ5_vectorizedMismatch_9 3 rfl rfl)
theorem dJ5_vectorizedMismatch_215 : decode cJ5_vectorizedMismatch 215 = .ok (.invokestatic 58, 3) := dk_184 0 58 (dk_at dksJ5_vectorizedMismatch_9 5 rfl rfl)
theorem dJ5_vectorizedMismatch_218 : decode cJ5_vectorizedMismatch 218 = .ok (.getstatic 46, 3) := dk_178 0 46 (dk_at dksJ5_vectorizedMismatch_9 8 rfl rfl)
theorem dJ5_vectorizedMismatch_221 : decode cJ5_vectorizedMismatch 221 = .ok (.iload 7, 2) := dk_21 7 (dk_at dksJ5_vectorizedMismatch_9 11 rfl rfl)
theorem dJ5_vectorizedMismatch_223 : decode cJ5_vectorizedMismatch 223 = .ok (.iadd, 1) := dk_96 (dk_at dksJ5_vectorizedMismatch_9 13 rfl rfl)
theorem dJ5_vectorizedMismatch_224 : decode cJ5_vectorizedMismatch 224 = .ok (.ishr, 1) := dk_122 (dk_at dksJ5_vectorizedMismatch_9 14 rfl rfl)
theorem dJ5_vectorizedMismatch_225 : decode cJ5_vectorizedMismatch 225 = .ok (.goto 15, 3) := dk_167 0 15 (dk_at dksJ5_vectorizedMismatch_9 15 rfl rfl)
theorem dJ5_vectorizedMismatch_228 : decode cJ5_vectorizedMismatch 228 = .ok (.iload 16, 2) := dk_21 16 (dk_at dksJ5_vectorizedMismatch_9 18 rfl rfl)
theorem dJ5_vectorizedMismatch_230 : decode cJ5_vectorizedMismatch 230 = .ok (.invokestatic 11, 3) := dk_184 0 11 (dk_at dksJ5_vectorizedMismatch_9 20 rfl rfl)
theorem dJ5_vectorizedMismatch_233 : decode cJ5_vectorizedMismatch 233 = .ok (.getstatic 46, 3) := dk_178 0 46 (dk_at dksJ5_vectorizedMismatch_10 0 rfl rfl)
theorem dJ5_vectorizedMismatch_236 : decode cJ5_vectorizedMismatch 236 = .ok (.iload 7, 2) := dk_21 7 (dk_at dksJ5_vectorizedMismatch_10 3 rfl rfl)
theorem dJ5_vectorizedMismatch_238 : decode cJ5_vectorizedMismatch 238 = .ok (.iadd, 1) := dk_96 (dk_at dksJ5_vectorizedMismatch_10 5 rfl rfl)
theorem dJ5_vectorizedMismatch_239 : decode cJ5_vectorizedMismatch 239 = .ok (.ishr, 1) := dk_122 (dk_at dksJ5_vectorizedMismatch_10 6 rfl rfl)
theorem dJ5_vectorizedMismatch_240 : decode cJ5_vectorizedMismatch 240 = .ok (.istore 17, 2) := dk_54 17 (dk_at dksJ5_vectorizedMismatch_10 7 rfl rfl)
theorem dJ5_vectorizedMismatch_242 : decode cJ5_vectorizedMismatch 242 = .ok (.iload 9, 2) := dk_21 9 (dk_at dksJ5_vectorizedMismatch_10 9 rfl rfl)
theorem dJ5_vectorizedMismatch_244 : decode cJ5_vectorizedMismatch 244 = .ok (.iload 8, 2) := dk_21 8 (dk_at dksJ5_vectorizedMismatch_10 11 rfl rfl)
theorem dJ5_vectorizedMismatch_246 : decode cJ5_vectorizedMismatch 246 = .ok (.ishl, 1) := dk_120 (dk_at dksJ5_vectorizedMismatch_10 13 rfl rfl)
theorem dJ5_vectorizedMismatch_247 : decode cJ5_vectorizedMismatch 247 = .ok (.iload 17, 2) := dk_21 17 (dk_at dksJ5_vectorizedMismatch_10 14 rfl rfl)
theorem dJ5_vectorizedMismatch_249 : decode cJ5_vectorizedMismatch 249 = .ok (.iadd, 1) := dk_96 (dk_at dksJ5_vectorizedMismatch_10 16 rfl rfl)
theorem dJ5_vectorizedMismatch_250 : decode cJ5_vectorizedMismatch 250 = .ok (.ireturn, 1) := dk_172 (dk_at dksJ5_vectorizedMismatch_10 17 rfl rfl)
theorem dJ5_vectorizedMismatch_251 : decode cJ5_vectorizedMismatch 251 = .ok (.iload 10, 2) := dk_21 10 (dk_at dksJ5_vectorizedMismatch_10 18 rfl rfl)
theorem dJ5_vectorizedMismatch_253 : decode cJ5_vectorizedMismatch 253 = .ok (.iload 11, 2) := dk_21 11 (dk_at dksJ5_vectorizedMismatch_10 20 rfl rfl)
theorem dJ5_vectorizedMismatch_255 : decode cJ5_vectorizedMismatch 255 = .ok (.isub, 1) := dk_100 (dk_at dksJ5_vectorizedMismatch_10 22 rfl rfl)
theorem dJ5_vectorizedMismatch_256 : decode cJ5_vectorizedMismatch 256 = .ok (.istore 10, 2) := dk_54 10 (dk_at dksJ5_vectorizedMismatch_11 0 rfl rfl)
theorem dJ5_vectorizedMismatch_258 : decode cJ5_vectorizedMismatch 258 = .ok (.iload 10, 2) := dk_21 10 (dk_at dksJ5_vectorizedMismatch_11 2 rfl rfl)
theorem dJ5_vectorizedMismatch_260 : decode cJ5_vectorizedMismatch 260 = .ok (.iconst (-1), 1) := dk_2 (dk_at dksJ5_vectorizedMismatch_11 4 rfl rfl)
theorem dJ5_vectorizedMismatch_261 : decode cJ5_vectorizedMismatch 261 = .ok (.ixor, 1) := dk_130 (dk_at dksJ5_vectorizedMismatch_11 5 rfl rfl)
theorem dJ5_vectorizedMismatch_262 : decode cJ5_vectorizedMismatch 262 = .ok (.ireturn, 1) := dk_172 (dk_at dksJ5_vectorizedMismatch_11 6 rfl rfl)
theorem dJ5_vectorizedMismatch_263 : decode cJ5_vectorizedMismatch 263 = .ok (.iload 10, 2) := dk_21 10 (dk_at dksJ5_vectorizedMismatch_11 7 rfl rfl)
theorem dJ5_vectorizedMismatch_265 : decode cJ5_vectorizedMismatch 265 = .ok (.iconst (-1), 1) := dk_2 (dk_at dksJ5_vectorizedMismatch_11 9 rfl rfl)
theorem dJ5_vectorizedMismatch_266 : decode cJ5_vectorizedMismatch 266 = .ok (.ixor, 1) := dk_130 (dk_at dksJ5_vectorizedMismatch_11 10 rfl rfl)
theorem dJ5_vectorizedMismatch_267 : decode cJ5_vectorizedMismatch 267 = .ok (.ireturn, 1) := dk_172 (dk_at dksJ5_vectorizedMismatch_11 11 rfl rfl)
theorem q101 : (Jvm.Cond.initialized "jdk/internal/util/ArraysSupport") ∈ lw_all := lw_g (lw_at lw_m1 12 rfl) rfl
theorem q344 : (Jvm.Cond.static ({ cls := "jdk/internal/util/ArraysSupport", name := "newLength", desc := "(III)I" } : Jvm.MethodName)) ∈ lw_all := lw_g (lw_at lw_m2 15 rfl) rfl
theorem q345 : (Jvm.Cond.code ({ cls := "jdk/internal/util/ArraysSupport", name := "newLength", desc := "(III)I" } : Jvm.MethodName) prog_75_method_27_code (4 : Nat) (Option.some Jvm.ClassFile.FieldType.int)) ∈ lw_all := lw_g (lw_at lw_m2 16 rfl) rfl
theorem q346 : (Jvm.Cond.methodLink "jdk/internal/util/ArraysSupport" (194 : Nat) ({ cls := "java/lang/Math", name := "max", desc := "(II)I" } : Jvm.MethodName)) ∈ lw_all := lw_g (lw_at lw_m2 17 rfl) rfl
theorem q349 : (Jvm.Cond.constant "jdk/internal/util/ArraysSupport" (200 : Nat) (2147483639 : Int32)) ∈ lw_all := lw_g (lw_at lw_m2 20 rfl) rfl
theorem q350 : (Jvm.Cond.methodLink "jdk/internal/util/ArraysSupport" (201 : Nat) ({ cls := "jdk/internal/util/ArraysSupport", name := "hugeLength", desc := "(II)I" } : Jvm.MethodName)) ∈ lw_all := lw_g (lw_at lw_m2 21 rfl) rfl
theorem q351 : (Jvm.Cond.static ({ cls := "jdk/internal/util/ArraysSupport", name := "hugeLength", desc := "(II)I" } : Jvm.MethodName)) ∈ lw_all := lw_g (lw_at lw_m2 22 rfl) rfl
theorem q352 : (Jvm.Cond.code ({ cls := "jdk/internal/util/ArraysSupport", name := "hugeLength", desc := "(II)I" } : Jvm.MethodName) prog_75_method_28_code (3 : Nat) (Option.some Jvm.ClassFile.FieldType.int)) ∈ lw_all := lw_g (lw_at lw_m2 23 rfl) rfl
theorem q555 : (Jvm.Cond.static ({ cls := "jdk/internal/util/ArraysSupport", name := "vectorizedHashCode", desc := "(Ljava/lang/Object;IIII)I" } : Jvm.MethodName)) ∈ lw_all := lw_g (lw_at lw_m2 226 rfl) rfl
theorem q556 : (Jvm.Cond.code ({ cls := "jdk/internal/util/ArraysSupport", name := "vectorizedHashCode", desc := "(Ljava/lang/Object;IIII)I" } : Jvm.MethodName) prog_75_method_4_code (5 : Nat) (Option.some Jvm.ClassFile.FieldType.int)) ∈ lw_all := lw_g (lw_at lw_m2 227 rfl) rfl
theorem q557 : (Jvm.Cond.classLink "jdk/internal/util/ArraysSupport" (60 : Nat) "[B") ∈ lw_all := lw_g (lw_at lw_m2 228 rfl) rfl
theorem q558 : (Jvm.Cond.methodLink "jdk/internal/util/ArraysSupport" (62 : Nat) ({ cls := "jdk/internal/util/ArraysSupport", name := "signedHashCode", desc := "(I[BII)I" } : Jvm.MethodName)) ∈ lw_all := lw_g (lw_at lw_m2 229 rfl) rfl
theorem q559 : (Jvm.Cond.static ({ cls := "jdk/internal/util/ArraysSupport", name := "signedHashCode", desc := "(I[BII)I" } : Jvm.MethodName)) ∈ lw_all := lw_g (lw_at lw_m2 230 rfl) rfl
theorem q560 : (Jvm.Cond.code ({ cls := "jdk/internal/util/ArraysSupport", name := "signedHashCode", desc := "(I[BII)I" } : Jvm.MethodName) prog_75_method_5_code (6 : Nat) (Option.some Jvm.ClassFile.FieldType.int)) ∈ lw_all := lw_g (lw_at lw_m2 231 rfl) rfl
theorem q561 : (Jvm.Cond.methodLink "jdk/internal/util/ArraysSupport" (66 : Nat) ({ cls := "jdk/internal/util/ArraysSupport", name := "utf16hashCode", desc := "(I[BII)I" } : Jvm.MethodName)) ∈ lw_all := lw_g (lw_at lw_m2 232 rfl) rfl
theorem q562 : (Jvm.Cond.static ({ cls := "jdk/internal/util/ArraysSupport", name := "utf16hashCode", desc := "(I[BII)I" } : Jvm.MethodName)) ∈ lw_all := lw_g (lw_at lw_m2 233 rfl) rfl
theorem q563 : (Jvm.Cond.code ({ cls := "jdk/internal/util/ArraysSupport", name := "utf16hashCode", desc := "(I[BII)I" } : Jvm.MethodName) prog_75_method_10_code (6 : Nat) (Option.some Jvm.ClassFile.FieldType.int)) ∈ lw_all := lw_g (lw_at lw_m2 234 rfl) rfl
theorem q564 : (Jvm.Cond.fieldLink "jdk/internal/util/ArraysSupport" (106 : Nat) "jdk/internal/util/ArraysSupport" "JLA" "Ljdk/internal/access/JavaLangAccess;") ∈ lw_all := lw_g (lw_at lw_m2 235 rfl) rfl
theorem q565 : (Jvm.Cond.laysStatic "jdk/internal/util/ArraysSupport" "JLA" "Ljdk/internal/access/JavaLangAccess;") ∈ lw_tbl := lw_at lw_m2 236 rfl
theorem q566 : (Jvm.Cond.interfaceEntry "jdk/internal/util/ArraysSupport" (110 : Nat)) ∈ lw_tbl := lw_at lw_m2 237 rfl
theorem q567 : (Jvm.Cond.methodLink "jdk/internal/util/ArraysSupport" (110 : Nat) ({ cls := "jdk/internal/access/JavaLangAccess", name := "getUTF16Char", desc := "([BI)C" } : Jvm.MethodName)) ∈ lw_all := lw_g (lw_at lw_m2 238 rfl) rfl
theorem q588 : (Jvm.Cond.classLink "jdk/internal/util/ArraysSupport" (69 : Nat) "[C") ∈ lw_all := lw_g (lw_at lw_m3 19 rfl) rfl
theorem q589 : (Jvm.Cond.methodLink "jdk/internal/util/ArraysSupport" (71 : Nat) ({ cls := "jdk/internal/util/ArraysSupport", name := "hashCode", desc := "(I[CII)I" } : Jvm.MethodName)) ∈ lw_all := lw_g (lw_at lw_m3 20 rfl) rfl
theorem q590 : (Jvm.Cond.static ({ cls := "jdk/internal/util/ArraysSupport", name := "hashCode", desc := "(I[CII)I" } : Jvm.MethodName)) ∈ lw_all := lw_g (lw_at lw_m3 21 rfl) rfl
theorem q591 : (Jvm.Cond.code ({ cls := "jdk/internal/util/ArraysSupport", name := "hashCode", desc := "(I[CII)I" } : Jvm.MethodName) prog_75_method_7_code (6 : Nat) (Option.some Jvm.ClassFile.FieldType.int)) ∈ lw_all := lw_g (lw_at lw_m3 22 rfl) rfl
theorem q592 : (Jvm.Cond.methodLink "jdk/internal/util/ArraysSupport" (75 : Nat) ({ cls := "jdk/internal/util/ArraysSupport", name := "hashCode", desc := "(I[BII)I" } : Jvm.MethodName)) ∈ lw_all := lw_g (lw_at lw_m3 23 rfl) rfl
theorem q593 : (Jvm.Cond.static ({ cls := "jdk/internal/util/ArraysSupport", name := "hashCode", desc := "(I[BII)I" } : Jvm.MethodName)) ∈ lw_all := lw_g (lw_at lw_m3 24 rfl) rfl
theorem q594 : (Jvm.Cond.code ({ cls := "jdk/internal/util/ArraysSupport", name := "hashCode", desc := "(I[BII)I" } : Jvm.MethodName) prog_75_method_6_code (6 : Nat) (Option.some Jvm.ClassFile.FieldType.int)) ∈ lw_all := lw_g (lw_at lw_m3 25 rfl) rfl
theorem q595 : (Jvm.Cond.classLink "jdk/internal/util/ArraysSupport" (77 : Nat) "[S") ∈ lw_all := lw_g (lw_at lw_m3 26 rfl) rfl
theorem q596 : (Jvm.Cond.methodLink "jdk/internal/util/ArraysSupport" (79 : Nat) ({ cls := "jdk/internal/util/ArraysSupport", name := "hashCode", desc := "(I[SII)I" } : Jvm.MethodName)) ∈ lw_all := lw_g (lw_at lw_m3 27 rfl) rfl
theorem q597 : (Jvm.Cond.static ({ cls := "jdk/internal/util/ArraysSupport", name := "hashCode", desc := "(I[SII)I" } : Jvm.MethodName)) ∈ lw_all := lw_g (lw_at lw_m3 28 rfl) rfl
theorem q598 : (Jvm.Cond.code ({ cls := "jdk/internal/util/ArraysSupport", name := "hashCode", desc := "(I[SII)I" } : Jvm.MethodName) prog_75_method_8_code (6 : Nat) (Option.some Jvm.ClassFile.FieldType.int)) ∈ lw_all := lw_g (lw_at lw_m3 29 rfl) rfl
theorem q599 : (Jvm.Cond.classLink "jdk/internal/util/ArraysSupport" (82 : Nat) "[I") ∈ lw_all := lw_g (lw_at lw_m3 30 rfl) rfl
theorem q600 : (Jvm.Cond.methodLink "jdk/internal/util/ArraysSupport" (84 : Nat) ({ cls := "jdk/internal/util/ArraysSupport", name := "hashCode", desc := "(I[III)I" } : Jvm.MethodName)) ∈ lw_all := lw_g (lw_at lw_m3 31 rfl) rfl
theorem q601 : (Jvm.Cond.static ({ cls := "jdk/internal/util/ArraysSupport", name := "hashCode", desc := "(I[III)I" } : Jvm.MethodName)) ∈ lw_all := lw_g (lw_at lw_m3 32 rfl) rfl
theorem q602 : (Jvm.Cond.code ({ cls := "jdk/internal/util/ArraysSupport", name := "hashCode", desc := "(I[III)I" } : Jvm.MethodName) prog_75_method_9_code (6 : Nat) (Option.some Jvm.ClassFile.FieldType.int)) ∈ lw_all := lw_g (lw_at lw_m3 33 rfl) rfl
theorem q753 : (Jvm.Cond.static ({ cls := "jdk/internal/util/ArraysSupport", name := "mismatch", desc := "([B[BI)I" } : Jvm.MethodName)) ∈ lw_all := lw_g (lw_at lw_m3 184 rfl) rfl
theorem q754 : (Jvm.Cond.code ({ cls := "jdk/internal/util/ArraysSupport", name := "mismatch", desc := "([B[BI)I" } : Jvm.MethodName) prog_75_method_13_code (4 : Nat) (Option.some Jvm.ClassFile.FieldType.int)) ∈ lw_all := lw_g (lw_at lw_m3 185 rfl) rfl
theorem q755 : (Jvm.Cond.fieldLink "jdk/internal/util/ArraysSupport" (126 : Nat) "jdk/internal/misc/Unsafe" "ARRAY_BYTE_BASE_OFFSET" "I") ∈ lw_all := lw_g (lw_at lw_m3 186 rfl) rfl
theorem q757 : (Jvm.Cond.fieldLink "jdk/internal/util/ArraysSupport" (129 : Nat) "jdk/internal/util/ArraysSupport" "LOG2_ARRAY_BYTE_INDEX_SCALE" "I") ∈ lw_all := lw_g (lw_at lw_m3 188 rfl) rfl
theorem q758 : (Jvm.Cond.laysStatic "jdk/internal/util/ArraysSupport" "LOG2_ARRAY_BYTE_INDEX_SCALE" "I") ∈ lw_tbl := lw_at lw_m3 189 rfl
theorem q759 : (Jvm.Cond.methodLink "jdk/internal/util/ArraysSupport" (122 : Nat) ({ cls := "jdk/internal/util/ArraysSupport", name := "vectorizedMismatch", desc := "(Ljava/lang/Object;JLjava/lang/Object;JII)I" } : Jvm.MethodName)) ∈ lw_all := lw_g (lw_at lw_m3 190 rfl) rfl
theorem q760 : (Jvm.Cond.static ({ cls := "jdk/internal/util/ArraysSupport", name := "vectorizedMismatch", desc := "(Ljava/lang/Object;JLjava/lang/Object;JII)I" } : Jvm.MethodName)) ∈ lw_all := lw_g (lw_at lw_m3 191 rfl) rfl
theorem q761 : (Jvm.Cond.code ({ cls := "jdk/internal/util/ArraysSupport", name := "vectorizedMismatch", desc := "(Ljava/lang/Object;JLjava/lang/Object;JII)I" } : Jvm.MethodName) prog_75_method_3_code (19 : Nat) (Option.some Jvm.ClassFile.FieldType.int)) ∈ lw_all := lw_g (lw_at lw_m3 192 rfl) rfl
theorem q762 : (Jvm.Cond.fieldLink "jdk/internal/util/ArraysSupport" (20 : Nat) "jdk/internal/util/ArraysSupport" "LOG2_ARRAY_LONG_INDEX_SCALE" "I") ∈ lw_all := lw_g (lw_at lw_m3 193 rfl) rfl
theorem q763 : (Jvm.Cond.laysStatic "jdk/internal/util/ArraysSupport" "LOG2_ARRAY_LONG_INDEX_SCALE" "I") ∈ lw_tbl := lw_at lw_m3 194 rfl
theorem q764 : (Jvm.Cond.fieldLink "jdk/internal/util/ArraysSupport" (26 : Nat) "jdk/internal/util/ArraysSupport" "U" "Ljdk/internal/misc/Unsafe;") ∈ lw_all := lw_g (lw_at lw_m3 195 rfl) rfl
theorem q765 : (Jvm.Cond.laysStatic "jdk/internal/util/ArraysSupport" "U" "Ljdk/internal/misc/Unsafe;") ∈ lw_tbl := lw_at lw_m3 196 rfl
theorem q766 : (Jvm.Cond.methodLink "jdk/internal/util/ArraysSupport" (30 : Nat) ({ cls := "jdk/internal/misc/Unsafe", name := "getLongUnaligned", desc := "(Ljava/lang/Object;J)J" } : Jvm.MethodName)) ∈ lw_all := lw_g (lw_at lw_m3 197 rfl) rfl
theorem q818 : (Jvm.Cond.fieldLink "jdk/internal/util/ArraysSupport" (36 : Nat) "jdk/internal/util/ArraysSupport" "BIG_ENDIAN" "Z") ∈ lw_all := lw_g (lw_at lw_m4 9 rfl) rfl
theorem q819 : (Jvm.Cond.laysStatic "jdk/internal/util/ArraysSupport" "BIG_ENDIAN" "Z") ∈ lw_tbl := lw_at lw_m4 10 rfl
theorem q820 : (Jvm.Cond.methodLink "jdk/internal/util/ArraysSupport" (40 : Nat) ({ cls := "java/lang/Long", name := "numberOfLeadingZeros", desc := "(J)I" } : Jvm.MethodName)) ∈ lw_all := lw_g (lw_at lw_m4 11 rfl) rfl
theorem q827 : (Jvm.Cond.fieldLink "jdk/internal/util/ArraysSupport" (46 : Nat) "jdk/internal/util/ArraysSupport" "LOG2_BYTE_BIT_SIZE" "I") ∈ lw_all := lw_g (lw_at lw_m4 18 rfl) rfl
theorem q828 : (Jvm.Cond.laysStatic "jdk/internal/util/ArraysSupport" "LOG2_BYTE_BIT_SIZE" "I") ∈ lw_tbl := lw_at lw_m4 19 rfl
theorem q829 : (Jvm.Cond.methodLink "jdk/internal/util/ArraysSupport" (49 : Nat) ({ cls := "java/lang/Long", name := "numberOfTrailingZeros", desc := "(J)I" } : Jvm.MethodName)) ∈ lw_all := lw_g (lw_at lw_m4 20 rfl) rfl
theorem q835 : (Jvm.Cond.fieldLink "jdk/internal/util/ArraysSupport" (51 : Nat) "jdk/internal/util/ArraysSupport" "LOG2_ARRAY_INT_INDEX_SCALE" "I") ∈ lw_all := lw_g (lw_at lw_m4 26 rfl) rfl
theorem q836 : (Jvm.Cond.laysStatic "jdk/internal/util/ArraysSupport" "LOG2_ARRAY_INT_INDEX_SCALE" "I") ∈ lw_tbl := lw_at lw_m4 27 rfl
theorem q837 : (Jvm.Cond.methodLink "jdk/internal/util/ArraysSupport" (54 : Nat) ({ cls := "jdk/internal/misc/Unsafe", name := "getIntUnaligned", desc := "(Ljava/lang/Object;J)I" } : Jvm.MethodName)) ∈ lw_all := lw_g (lw_at lw_m4 28 rfl) rfl
theorem q854 : (Jvm.Cond.methodLink "jdk/internal/util/ArraysSupport" (58 : Nat) ({ cls := "java/lang/Integer", name := "numberOfLeadingZeros", desc := "(I)I" } : Jvm.MethodName)) ∈ lw_all := lw_g (lw_at lw_m4 45 rfl) rfl
theorem q855 : (Jvm.Cond.methodLink "jdk/internal/util/ArraysSupport" (11 : Nat) ({ cls := "java/lang/Integer", name := "numberOfTrailingZeros", desc := "(I)I" } : Jvm.MethodName)) ∈ lw_all := lw_g (lw_at lw_m4 46 rfl) rfl

/-! java/lang/Math -/
set_option maxRecDepth 100000
def RJ6 : String := "java/lang/Math"
abbrev cJ6_max : ByteArray := prog_30_method_65_code
def yJ6_max : MethodName := ⟨RJ6, "max", "(II)I"⟩
def dkwJ6_max_0 : List UInt8 := [26, 27, 161, 0, 7, 26, 167, 0, 4, 27, 172]
abbrev dktJ6_max_0 : List UInt8 := dkwJ6_max_0 ++ []
theorem dksJ6_max_0 : cJ6_max.data.toList.drop 0 = dktJ6_max_0 := by decide +kernel
theorem dJ6_max_0 : decode cJ6_max 0 = .ok (.iload_n 0, 1) := dk_26 (dk_at dksJ6_max_0 0 rfl rfl)
theorem dJ6_max_1 : decode cJ6_max 1 = .ok (.iload_n 1, 1) := dk_27 (dk_at dksJ6_max_0 1 rfl rfl)
theorem dJ6_max_2 : decode cJ6_max 2 = .ok (.if_icmp .lt 7, 3) := dk_161 0 7 (dk_at dksJ6_max_0 2 rfl rfl)
theorem dJ6_max_5 : decode cJ6_max 5 = .ok (.iload_n 0, 1) := dk_26 (dk_at dksJ6_max_0 5 rfl rfl)
theorem dJ6_max_6 : decode cJ6_max 6 = .ok (.goto 4, 3) := dk_167 0 4 (dk_at dksJ6_max_0 6 rfl rfl)
theorem dJ6_max_9 : decode cJ6_max 9 = .ok (.iload_n 1, 1) := dk_27 (dk_at dksJ6_max_0 9 rfl rfl)
theorem dJ6_max_10 : decode cJ6_max 10 = .ok (.ireturn, 1) := dk_172 (dk_at dksJ6_max_0 10 rfl rfl)
abbrev cJ6_min : ByteArray := prog_30_method_69_code
def yJ6_min : MethodName := ⟨RJ6, "min", "(II)I"⟩
def dkwJ6_min_0 : List UInt8 := [26, 27, 163, 0, 7, 26, 167, 0, 4, 27, 172]
abbrev dktJ6_min_0 : List UInt8 := dkwJ6_min_0 ++ []
theorem dksJ6_min_0 : cJ6_min.data.toList.drop 0 = dktJ6_min_0 := by decide +kernel
theorem dJ6_min_0 : decode cJ6_min 0 = .ok (.iload_n 0, 1) := dk_26 (dk_at dksJ6_min_0 0 rfl rfl)
theorem dJ6_min_1 : decode cJ6_min 1 = .ok (.iload_n 1, 1) := dk_27 (dk_at dksJ6_min_0 1 rfl rfl)
theorem dJ6_min_2 : decode cJ6_min 2 = .ok (.if_icmp .gt 7, 3) := dk_163 0 7 (dk_at dksJ6_min_0 2 rfl rfl)
theorem dJ6_min_5 : decode cJ6_min 5 = .ok (.iload_n 0, 1) := dk_26 (dk_at dksJ6_min_0 5 rfl rfl)
theorem dJ6_min_6 : decode cJ6_min 6 = .ok (.goto 4, 3) := dk_167 0 4 (dk_at dksJ6_min_0 6 rfl rfl)
theorem dJ6_min_9 : decode cJ6_min 9 = .ok (.iload_n 1, 1) := dk_27 (dk_at dksJ6_min_0 9 rfl rfl)
theorem dJ6_min_10 : decode cJ6_min 10 = .ok (.ireturn, 1) := dk_172 (dk_at dksJ6_min_0 10 rfl rfl)
abbrev cJ6_abs : ByteArray := prog_30_method_59_code
def yJ6_abs : MethodName := ⟨RJ6, "abs", "(I)I"⟩
def dkwJ6_abs_0 : List UInt8 := [26, 156, 0, 8, 26, 116, 167, 0, 4, 26, 172]
abbrev dktJ6_abs_0 : List UInt8 := dkwJ6_abs_0 ++ []
theorem dksJ6_abs_0 : cJ6_abs.data.toList.drop 0 = dktJ6_abs_0 := by decide +kernel
theorem dJ6_abs_0 : decode cJ6_abs 0 = .ok (.iload_n 0, 1) := dk_26 (dk_at dksJ6_abs_0 0 rfl rfl)
theorem dJ6_abs_1 : decode cJ6_abs 1 = .ok (.ifCond .ge 8, 3) := dk_156 0 8 (dk_at dksJ6_abs_0 1 rfl rfl)
theorem dJ6_abs_4 : decode cJ6_abs 4 = .ok (.iload_n 0, 1) := dk_26 (dk_at dksJ6_abs_0 4 rfl rfl)
theorem dJ6_abs_5 : decode cJ6_abs 5 = .ok (.ineg, 1) := dk_116 (dk_at dksJ6_abs_0 5 rfl rfl)
theorem dJ6_abs_6 : decode cJ6_abs 6 = .ok (.goto 4, 3) := dk_167 0 4 (dk_at dksJ6_abs_0 6 rfl rfl)
theorem dJ6_abs_9 : decode cJ6_abs 9 = .ok (.iload_n 0, 1) := dk_26 (dk_at dksJ6_abs_0 9 rfl rfl)
theorem dJ6_abs_10 : decode cJ6_abs 10 = .ok (.ireturn, 1) := dk_172 (dk_at dksJ6_abs_0 10 rfl rfl)
theorem q102 : (Jvm.Cond.initialized "java/lang/Math") ∈ lw_all := lw_g (lw_at lw_m1 13 rfl) rfl
theorem q347 : (Jvm.Cond.static ({ cls := "java/lang/Math", name := "max", desc := "(II)I" } : Jvm.MethodName)) ∈ lw_all := lw_g (lw_at lw_m2 18 rfl) rfl
theorem q348 : (Jvm.Cond.code ({ cls := "java/lang/Math", name := "max", desc := "(II)I" } : Jvm.MethodName) prog_30_method_65_code (2 : Nat) (Option.some Jvm.ClassFile.FieldType.int)) ∈ lw_all := lw_g (lw_at lw_m2 19 rfl) rfl
theorem q397 : (Jvm.Cond.static ({ cls := "java/lang/Math", name := "min", desc := "(II)I" } : Jvm.MethodName)) ∈ lw_all := lw_g (lw_at lw_m2 68 rfl) rfl
theorem q398 : (Jvm.Cond.code ({ cls := "java/lang/Math", name := "min", desc := "(II)I" } : Jvm.MethodName) prog_30_method_69_code (2 : Nat) (Option.some Jvm.ClassFile.FieldType.int)) ∈ lw_all := lw_g (lw_at lw_m2 69 rfl) rfl
theorem q1593 : (Jvm.Cond.static ({ cls := "java/lang/Math", name := "abs", desc := "(I)I" } : Jvm.MethodName)) ∈ lw_all := lw_g (lw_at lw_m7 64 rfl) rfl
theorem q1594 : (Jvm.Cond.code ({ cls := "java/lang/Math", name := "abs", desc := "(I)I" } : Jvm.MethodName) prog_30_method_59_code (1 : Nat) (Option.some Jvm.ClassFile.FieldType.int)) ∈ lw_all := lw_g (lw_at lw_m7 65 rfl) rfl

/-! java/util/Arrays -/
set_option maxRecDepth 100000
def RJ7 : String := "java/util/Arrays"
abbrev cJ7_copyOf : ByteArray := prog_47_method_119_code
def yJ7_copyOf : MethodName := ⟨RJ7, "copyOf", "([Ljava/lang/Object;I)[Ljava/lang/Object;"⟩
def dkwJ7_copyOf_0 : List UInt8 := [42, 27, 42, 182, 0, 86, 184, 1, 44, 176]
abbrev dktJ7_copyOf_0 : List UInt8 := dkwJ7_copyOf_0 ++ []
theorem dksJ7_copyOf_0 : cJ7_copyOf.data.toList.drop 0 = dktJ7_copyOf_0 := by decide +kernel
theorem dJ7_copyOf_0 : decode cJ7_copyOf 0 = .ok (.aload_n 0, 1) := dk_42 (dk_at dksJ7_copyOf_0 0 rfl rfl)
theorem dJ7_copyOf_1 : decode cJ7_copyOf 1 = .ok (.iload_n 1, 1) := dk_27 (dk_at dksJ7_copyOf_0 1 rfl rfl)
theorem dJ7_copyOf_2 : decode cJ7_copyOf 2 = .ok (.aload_n 0, 1) := dk_42 (dk_at dksJ7_copyOf_0 2 rfl rfl)
theorem dJ7_copyOf_3 : decode cJ7_copyOf 3 = .ok (.invokevirtual 86, 3) := dk_182 0 86 (dk_at dksJ7_copyOf_0 3 rfl rfl)
theorem dJ7_copyOf_6 : decode cJ7_copyOf 6 = .ok (.invokestatic 300, 3) := dk_184 1 44 (dk_at dksJ7_copyOf_0 6 rfl rfl)
theorem dJ7_copyOf_9 : decode cJ7_copyOf 9 = .ok (.areturn, 1) := dk_176 (dk_at dksJ7_copyOf_0 9 rfl rfl)
abbrev cJ7_copyOf_2 : ByteArray := prog_47_method_120_code
def yJ7_copyOf_2 : MethodName := ⟨RJ7, "copyOf", "([Ljava/lang/Object;ILjava/lang/Class;)[Ljava/lang/Object;"⟩
def dkwJ7_copyOf_2_1 : List UInt8 := [78, 42, 3, 45, 3, 42, 190, 27, 184, 1, 48, 184, 0, 150, 45, 176]
abbrev dktJ7_copyOf_2_1 : List UInt8 := dkwJ7_copyOf_2_1 ++ []
def dkwJ7_copyOf_2_0 : List UInt8 := [44, 18, 110, 166, 0, 10, 27, 189, 0, 2, 167, 0, 14, 44, 182, 0, 90, 27, 184, 0, 95, 192, 0, 110]
abbrev dktJ7_copyOf_2_0 : List UInt8 := dkwJ7_copyOf_2_0 ++ dktJ7_copyOf_2_1
theorem dksJ7_copyOf_2_0 : cJ7_copyOf_2.data.toList.drop 0 = dktJ7_copyOf_2_0 := by decide +kernel
theorem dksJ7_copyOf_2_1 : cJ7_copyOf_2.data.toList.drop 24 = dktJ7_copyOf_2_1 := dk_seg dksJ7_copyOf_2_0 24 rfl rfl
theorem dJ7_copyOf_2_0 : decode cJ7_copyOf_2 0 = .ok (.aload_n 2, 1) := dk_44 (dk_at dksJ7_copyOf_2_0 0 rfl rfl)
theorem dJ7_copyOf_2_1 : decode cJ7_copyOf_2 1 = .ok (.ldc 110, 2) := dk_18 110 (dk_at dksJ7_copyOf_2_0 1 rfl rfl)
theorem dJ7_copyOf_2_3 : decode cJ7_copyOf_2 3 = .ok (.if_acmp .ne 10, 3) := dk_166 0 10 (dk_at dksJ7_copyOf_2_0 3 rfl rfl)
theorem dJ7_copyOf_2_6 : decode cJ7_copyOf_2 6 = .ok (.iload_n 1, 1) := dk_27 (dk_at dksJ7_copyOf_2_0 6 rfl rfl)
theorem dJ7_copyOf_2_7 : decode cJ7_copyOf_2 7 = .ok (.anewarray 2, 3) := dk_189 0 2 (dk_at dksJ7_copyOf_2_0 7 rfl rfl)
theorem dJ7_copyOf_2_10 : decode cJ7_copyOf_2 10 = .ok (.goto 14, 3) := dk_167 0 14 (dk_at dksJ7_copyOf_2_0 10 rfl rfl)
theorem dJ7_copyOf_2_13 : decode cJ7_copyOf_2 13 = .ok (.aload_n 2, 1) := dk_44 (dk_at dksJ7_copyOf_2_0 13 rfl rfl)
theorem dJ7_copyOf_2_14 : decode cJ7_copyOf_2 14 = .ok (.invokevirtual 90, 3) := dk_182 0 90 (dk_at dksJ7_copyOf_2_0 14 rfl rfl)
theorem dJ7_copyOf_2_17 : decode cJ7_copyOf_2 17 = .ok (.iload_n 1, 1) := dk_27 (dk_at dksJ7_copyOf_2_0 17 rfl rfl)
theorem dJ7_copyOf_2_18 : decode cJ7_copyOf_2 18 = .ok (.invokestatic 95, 3) := dk_184 0 95 (dk_at dksJ7_copyOf_2_0 18 rfl rfl)
theorem dJ7_copyOf_2_21 : decode cJ7_copyOf_2 21 = .ok (.checkcast 110, 3) := dk_192 0 110 (dk_at dksJ7_copyOf_2_0 21 rfl rfl)
theorem dJ7_copyOf_2_24 : decode cJ7_copyOf_2 24 = .ok (.astore_n 3, 1) := dk_78 (dk_at dksJ7_copyOf_2_1 0 rfl rfl)
theorem dJ7_copyOf_2_25 : decode cJ7_copyOf_2 25 = .ok (.aload_n 0, 1) := dk_42 (dk_at dksJ7_copyOf_2_1 1 rfl rfl)
theorem dJ7_copyOf_2_26 : decode cJ7_copyOf_2 26 = .ok (.iconst 0, 1) := dk_3 (dk_at dksJ7_copyOf_2_1 2 rfl rfl)
theorem dJ7_copyOf_2_27 : decode cJ7_copyOf_2 27 = .ok (.aload_n 3, 1) := dk_45 (dk_at dksJ7_copyOf_2_1 3 rfl rfl)
theorem dJ7_copyOf_2_28 : decode cJ7_copyOf_2 28 = .ok (.iconst 0, 1) := dk_3 (dk_at dksJ7_copyOf_2_1 4 rfl rfl)
theorem dJ7_copyOf_2_29 : decode cJ7_copyOf_2 29 = .ok (.aload_n 0, 1) := dk_42 (dk_at dksJ7_copyOf_2_1 5 rfl rfl)
theorem dJ7_copyOf_2_30 : decode cJ7_copyOf_2 30 = .ok (.arraylength, 1) := dk_190 (dk_at dksJ7_copyOf_2_1 6 rfl rfl)
theorem dJ7_copyOf_2_31 : decode cJ7_copyOf_2 31 = .ok (.iload_n 1, 1) := dk_27 (dk_at dksJ7_copyOf_2_1 7 rfl rfl)
theorem dJ7_copyOf_2_32 : decode cJ7_copyOf_2 32 = .ok (.invokestatic 304, 3) := dk_184 1 48 (dk_at dksJ7_copyOf_2_1 8 rfl rfl)
theorem dJ7_copyOf_2_35 : decode cJ7_copyOf_2 35 = .ok (.invokestatic 150, 3) := dk_184 0 150 (dk_at dksJ7_copyOf_2_1 11 rfl rfl)
theorem dJ7_copyOf_2_38 : decode cJ7_copyOf_2 38 = .ok (.aload_n 3, 1) := dk_45 (dk_at dksJ7_copyOf_2_1 14 rfl rfl)
theorem dJ7_copyOf_2_39 : decode cJ7_copyOf_2 39 = .ok (.areturn, 1) := dk_176 (dk_at dksJ7_copyOf_2_1 15 rfl rfl)
abbrev cJ7_copyOf_3 : ByteArray := prog_47_method_123_code
def yJ7_copyOf_3 : MethodName := ⟨RJ7, "copyOf", "([II)[I"⟩
def dkwJ7_copyOf_3_1 : List UInt8 := [27, 184, 1, 48, 184, 0, 150, 44, 176]
abbrev dktJ7_copyOf_3_1 : List UInt8 := dkwJ7_copyOf_3_1 ++ []
def dkwJ7_copyOf_3_0 : List UInt8 := [27, 42, 190, 160, 0, 11, 42, 182, 1, 60, 192, 1, 61, 176, 27, 188, 10, 77, 42, 3, 44, 3, 42, 190]
abbrev dktJ7_copyOf_3_0 : List UInt8 := dkwJ7_copyOf_3_0 ++ dktJ7_copyOf_3_1
theorem dksJ7_copyOf_3_0 : cJ7_copyOf_3.data.toList.drop 0 = dktJ7_copyOf_3_0 := by decide +kernel
theorem dksJ7_copyOf_3_1 : cJ7_copyOf_3.data.toList.drop 24 = dktJ7_copyOf_3_1 := dk_seg dksJ7_copyOf_3_0 24 rfl rfl
theorem dJ7_copyOf_3_0 : decode cJ7_copyOf_3 0 = .ok (.iload_n 1, 1) := dk_27 (dk_at dksJ7_copyOf_3_0 0 rfl rfl)
theorem dJ7_copyOf_3_1 : decode cJ7_copyOf_3 1 = .ok (.aload_n 0, 1) := dk_42 (dk_at dksJ7_copyOf_3_0 1 rfl rfl)
theorem dJ7_copyOf_3_2 : decode cJ7_copyOf_3 2 = .ok (.arraylength, 1) := dk_190 (dk_at dksJ7_copyOf_3_0 2 rfl rfl)
theorem dJ7_copyOf_3_3 : decode cJ7_copyOf_3 3 = .ok (.if_icmp .ne 11, 3) := dk_160 0 11 (dk_at dksJ7_copyOf_3_0 3 rfl rfl)
theorem dJ7_copyOf_3_6 : decode cJ7_copyOf_3 6 = .ok (.aload_n 0, 1) := dk_42 (dk_at dksJ7_copyOf_3_0 6 rfl rfl)
theorem dJ7_copyOf_3_7 : decode cJ7_copyOf_3 7 = .ok (.invokevirtual 316, 3) := dk_182 1 60 (dk_at dksJ7_copyOf_3_0 7 rfl rfl)
theorem dJ7_copyOf_3_10 : decode cJ7_copyOf_3 10 = .ok (.checkcast 317, 3) := dk_192 1 61 (dk_at dksJ7_copyOf_3_0 10 rfl rfl)
theorem dJ7_copyOf_3_13 : decode cJ7_copyOf_3 13 = .ok (.areturn, 1) := dk_176 (dk_at dksJ7_copyOf_3_0 13 rfl rfl)
theorem dJ7_copyOf_3_14 : decode cJ7_copyOf_3 14 = .ok (.iload_n 1, 1) := dk_27 (dk_at dksJ7_copyOf_3_0 14 rfl rfl)
theorem dJ7_copyOf_3_15 : decode cJ7_copyOf_3 15 = .ok (.newarray .int, 2) := dk_188_10 (dk_at dksJ7_copyOf_3_0 15 rfl rfl)
theorem dJ7_copyOf_3_17 : decode cJ7_copyOf_3 17 = .ok (.astore_n 2, 1) := dk_77 (dk_at dksJ7_copyOf_3_0 17 rfl rfl)
theorem dJ7_copyOf_3_18 : decode cJ7_copyOf_3 18 = .ok (.aload_n 0, 1) := dk_42 (dk_at dksJ7_copyOf_3_0 18 rfl rfl)
theorem dJ7_copyOf_3_19 : decode cJ7_copyOf_3 19 = .ok (.iconst 0, 1) := dk_3 (dk_at dksJ7_copyOf_3_0 19 rfl rfl)
theorem dJ7_copyOf_3_20 : decode cJ7_copyOf_3 20 = .ok (.aload_n 2, 1) := dk_44 (dk_at dksJ7_copyOf_3_0 20 rfl rfl)
theorem dJ7_copyOf_3_21 : decode cJ7_copyOf_3 21 = .ok (.iconst 0, 1) := dk_3 (dk_at dksJ7_copyOf_3_0 21 rfl rfl)
theorem dJ7_copyOf_3_22 : decode cJ7_copyOf_3 22 = .ok (.aload_n 0, 1) := dk_42 (dk_at dksJ7_copyOf_3_0 22 rfl rfl)
theorem dJ7_copyOf_3_23 : decode cJ7_copyOf_3 23 = .ok (.arraylength, 1) := dk_190 (dk_at dksJ7_copyOf_3_0 23 rfl rfl)
theorem dJ7_copyOf_3_24 : decode cJ7_copyOf_3 24 = .ok (.iload_n 1, 1) := dk_27 (dk_at dksJ7_copyOf_3_1 0 rfl rfl)
theorem dJ7_copyOf_3_25 : decode cJ7_copyOf_3 25 = .ok (.invokestatic 304, 3) := dk_184 1 48 (dk_at dksJ7_copyOf_3_1 1 rfl rfl)
theorem dJ7_copyOf_3_28 : decode cJ7_copyOf_3 28 = .ok (.invokestatic 150, 3) := dk_184 0 150 (dk_at dksJ7_copyOf_3_1 4 rfl rfl)
theorem dJ7_copyOf_3_31 : decode cJ7_copyOf_3 31 = .ok (.aload_n 2, 1) := dk_44 (dk_at dksJ7_copyOf_3_1 7 rfl rfl)
theorem dJ7_copyOf_3_32 : decode cJ7_copyOf_3 32 = .ok (.areturn, 1) := dk_176 (dk_at dksJ7_copyOf_3_1 8 rfl rfl)
abbrev cJ7_copyOf_4 : ByteArray := prog_47_method_121_code
def yJ7_copyOf_4 : MethodName := ⟨RJ7, "copyOf", "([BI)[B"⟩
def dkwJ7_copyOf_4_1 : List UInt8 := [27, 184, 1, 48, 184, 0, 150, 44, 176]
abbrev dktJ7_copyOf_4_1 : List UInt8 := dkwJ7_copyOf_4_1 ++ []
def dkwJ7_copyOf_4_0 : List UInt8 := [27, 42, 190, 160, 0, 11, 42, 182, 1, 54, 192, 1, 55, 176, 27, 188, 8, 77, 42, 3, 44, 3, 42, 190]
abbrev dktJ7_copyOf_4_0 : List UInt8 := dkwJ7_copyOf_4_0 ++ dktJ7_copyOf_4_1
theorem dksJ7_copyOf_4_0 : cJ7_copyOf_4.data.toList.drop 0 = dktJ7_copyOf_4_0 := by decide +kernel
theorem dksJ7_copyOf_4_1 : cJ7_copyOf_4.data.toList.drop 24 = dktJ7_copyOf_4_1 := dk_seg dksJ7_copyOf_4_0 24 rfl rfl
theorem dJ7_copyOf_4_0 : decode cJ7_copyOf_4 0 = .ok (.iload_n 1, 1) := dk_27 (dk_at dksJ7_copyOf_4_0 0 rfl rfl)
theorem dJ7_copyOf_4_1 : decode cJ7_copyOf_4 1 = .ok (.aload_n 0, 1) := dk_42 (dk_at dksJ7_copyOf_4_0 1 rfl rfl)
theorem dJ7_copyOf_4_2 : decode cJ7_copyOf_4 2 = .ok (.arraylength, 1) := dk_190 (dk_at dksJ7_copyOf_4_0 2 rfl rfl)
theorem dJ7_copyOf_4_3 : decode cJ7_copyOf_4 3 = .ok (.if_icmp .ne 11, 3) := dk_160 0 11 (dk_at dksJ7_copyOf_4_0 3 rfl rfl)
theorem dJ7_copyOf_4_6 : decode cJ7_copyOf_4 6 = .ok (.aload_n 0, 1) := dk_42 (dk_at dksJ7_copyOf_4_0 6 rfl rfl)
theorem dJ7_copyOf_4_7 : decode cJ7_copyOf_4 7 = .ok (.invokevirtual 310, 3) := dk_182 1 54 (dk_at dksJ7_copyOf_4_0 7 rfl rfl)
theorem dJ7_copyOf_4_10 : decode cJ7_copyOf_4 10 = .ok (.checkcast 311, 3) := dk_192 1 55 (dk_at dksJ7_copyOf_4_0 10 rfl rfl)
theorem dJ7_copyOf_4_13 : decode cJ7_copyOf_4 13 = .ok (.areturn, 1) := dk_176 (dk_at dksJ7_copyOf_4_0 13 rfl rfl)
theorem dJ7_copyOf_4_14 : decode cJ7_copyOf_4 14 = .ok (.iload_n 1, 1) := dk_27 (dk_at dksJ7_copyOf_4_0 14 rfl rfl)
theorem dJ7_copyOf_4_15 : decode cJ7_copyOf_4 15 = .ok (.newarray .byte, 2) := dk_188_8 (dk_at dksJ7_copyOf_4_0 15 rfl rfl)
theorem dJ7_copyOf_4_17 : decode cJ7_copyOf_4 17 = .ok (.astore_n 2, 1) := dk_77 (dk_at dksJ7_copyOf_4_0 17 rfl rfl)
theorem dJ7_copyOf_4_18 : decode cJ7_copyOf_4 18 = .ok (.aload_n 0, 1) := dk_42 (dk_at dksJ7_copyOf_4_0 18 rfl rfl)
theorem dJ7_copyOf_4_19 : decode cJ7_copyOf_4 19 = .ok (.iconst 0, 1) := dk_3 (dk_at dksJ7_copyOf_4_0 19 rfl rfl)
theorem dJ7_copyOf_4_20 : decode cJ7_copyOf_4 20 = .ok (.aload_n 2, 1) := dk_44 (dk_at dksJ7_copyOf_4_0 20 rfl rfl)
theorem dJ7_copyOf_4_21 : decode cJ7_copyOf_4 21 = .ok (.iconst 0, 1) := dk_3 (dk_at dksJ7_copyOf_4_0 21 rfl rfl)
theorem dJ7_copyOf_4_22 : decode cJ7_copyOf_4 22 = .ok (.aload_n 0, 1) := dk_42 (dk_at dksJ7_copyOf_4_0 22 rfl rfl)
theorem dJ7_copyOf_4_23 : decode cJ7_copyOf_4 23 = .ok (.arraylength, 1) := dk_190 (dk_at dksJ7_copyOf_4_0 23 rfl rfl)
theorem dJ7_copyOf_4_24 : decode cJ7_copyOf_4 24 = .ok (.iload_n 1, 1) := dk_27 (dk_at dksJ7_copyOf_4_1 0 rfl rfl)
theorem dJ7_copyOf_4_25 : decode cJ7_copyOf_4 25 = .ok (.invokestatic 304, 3) := dk_184 1 48 (dk_at dksJ7_copyOf_4_1 1 rfl rfl)
theorem dJ7_copyOf_4_28 : decode cJ7_copyOf_4 28 = .ok (.invokestatic 150, 3) := dk_184 0 150 (dk_at dksJ7_copyOf_4_1 4 rfl rfl)
theorem dJ7_copyOf_4_31 : decode cJ7_copyOf_4 31 = .ok (.aload_n 2, 1) := dk_44 (dk_at dksJ7_copyOf_4_1 7 rfl rfl)
theorem dJ7_copyOf_4_32 : decode cJ7_copyOf_4 32 = .ok (.areturn, 1) := dk_176 (dk_at dksJ7_copyOf_4_1 8 rfl rfl)
abbrev cJ7_copyOfRange : ByteArray := prog_47_method_132_code
def yJ7_copyOfRange : MethodName := ⟨RJ7, "copyOfRange", "([BII)[B"⟩
def dkwJ7_copyOfRange_1 : List UInt8 := [176]
abbrev dktJ7_copyOfRange_1 : List UInt8 := dkwJ7_copyOfRange_1 ++ []
def dkwJ7_copyOfRange_0 : List UInt8 := [27, 154, 0, 9, 28, 42, 190, 159, 0, 10, 42, 27, 28, 184, 1, 83, 176, 42, 182, 1, 54, 192, 1, 55]
abbrev dktJ7_copyOfRange_0 : List UInt8 := dkwJ7_copyOfRange_0 ++ dktJ7_copyOfRange_1
theorem dksJ7_copyOfRange_0 : cJ7_copyOfRange.data.toList.drop 0 = dktJ7_copyOfRange_0 := by decide +kernel
theorem dksJ7_copyOfRange_1 : cJ7_copyOfRange.data.toList.drop 24 = dktJ7_copyOfRange_1 := dk_seg dksJ7_copyOfRange_0 24 rfl rfl
theorem dJ7_copyOfRange_0 : decode cJ7_copyOfRange 0 = .ok (.iload_n 1, 1) := dk_27 (dk_at dksJ7_copyOfRange_0 0 rfl rfl)
theorem dJ7_copyOfRange_1 : decode cJ7_copyOfRange 1 = .ok (.ifCond .ne 9, 3) := dk_154 0 9 (dk_at dksJ7_copyOfRange_0 1 rfl rfl)
theorem dJ7_copyOfRange_4 : decode cJ7_copyOfRange 4 = .ok (.iload_n 2, 1) := dk_28 (dk_at dksJ7_copyOfRange_0 4 rfl rfl)
theorem dJ7_copyOfRange_5 : decode cJ7_copyOfRange 5 = .ok (.aload_n 0, 1) := dk_42 (dk_at dksJ7_copyOfRange_0 5 rfl rfl)
theorem dJ7_copyOfRange_6 : decode cJ7_copyOfRange 6 = .ok (.arraylength, 1) := dk_190 (dk_at dksJ7_copyOfRange_0 6 rfl rfl)
theorem dJ7_copyOfRange_7 : decode cJ7_copyOfRange 7 = .ok (.if_icmp .eq 10, 3) := dk_159 0 10 (dk_at dksJ7_copyOfRange_0 7 rfl rfl)
theorem dJ7_copyOfRange_10 : decode cJ7_copyOfRange 10 = .ok (.aload_n 0, 1) := dk_42 (dk_at dksJ7_copyOfRange_0 10 rfl rfl)
theorem dJ7_copyOfRange_11 : decode cJ7_copyOfRange 11 = .ok (.iload_n 1, 1) := dk_27 (dk_at dksJ7_copyOfRange_0 11 rfl rfl)
theorem dJ7_copyOfRange_12 : decode cJ7_copyOfRange 12 = .ok (.iload_n 2, 1) := dk_28 (dk_at dksJ7_copyOfRange_0 12 rfl rfl)
theorem dJ7_copyOfRange_13 : decode cJ7_copyOfRange 13 = .ok (.invokestatic 339, 3) := dk_184 1 83 (dk_at dksJ7_copyOfRange_0 13 rfl rfl)
theorem dJ7_copyOfRange_16 : decode cJ7_copyOfRange 16 = .ok (.areturn, 1) := dk_176 (dk_at dksJ7_copyOfRange_0 16 rfl rfl)
theorem dJ7_copyOfRange_17 : decode cJ7_copyOfRange 17 = .ok (.aload_n 0, 1) := dk_42 (dk_at dksJ7_copyOfRange_0 17 rfl rfl)
theorem dJ7_copyOfRange_18 : decode cJ7_copyOfRange 18 = .ok (.invokevirtual 310, 3) := dk_182 1 54 (dk_at dksJ7_copyOfRange_0 18 rfl rfl)
theorem dJ7_copyOfRange_21 : decode cJ7_copyOfRange 21 = .ok (.checkcast 311, 3) := dk_192 1 55 (dk_at dksJ7_copyOfRange_0 21 rfl rfl)
theorem dJ7_copyOfRange_24 : decode cJ7_copyOfRange 24 = .ok (.areturn, 1) := dk_176 (dk_at dksJ7_copyOfRange_1 0 rfl rfl)
abbrev cJ7_copyOfRangeByte : ByteArray := prog_47_method_133_code
def yJ7_copyOfRangeByte : MethodName := ⟨RJ7, "copyOfRangeByte", "([BII)[B"⟩
def dkwJ7_copyOfRangeByte_1 : List UInt8 := [184, 1, 48, 184, 0, 150, 25, 4, 176]
abbrev dktJ7_copyOfRangeByte_1 : List UInt8 := dkwJ7_copyOfRangeByte_1 ++ []
def dkwJ7_copyOfRangeByte_0 : List UInt8 := [27, 28, 184, 1, 87, 28, 27, 100, 62, 29, 188, 8, 58, 4, 42, 27, 25, 4, 3, 42, 190, 27, 100, 29]
abbrev dktJ7_copyOfRangeByte_0 : List UInt8 := dkwJ7_copyOfRangeByte_0 ++ dktJ7_copyOfRangeByte_1
theorem dksJ7_copyOfRangeByte_0 : cJ7_copyOfRangeByte.data.toList.drop 0 = dktJ7_copyOfRangeByte_0 := by decide +kernel
theorem dksJ7_copyOfRangeByte_1 : cJ7_copyOfRangeByte.data.toList.drop 24 = dktJ7_copyOfRangeByte_1 := dk_seg dksJ7_copyOfRangeByte_0 24 rfl rfl
theorem dJ7_copyOfRangeByte_0 : decode cJ7_copyOfRangeByte 0 = .ok (.iload_n 1, 1) := dk_27 (dk_at dksJ7_copyOfRangeByte_0 0 rfl rfl)
theorem dJ7_copyOfRangeByte_1 : decode cJ7_copyOfRangeByte 1 = .ok (.iload_n 2, 1) := dk_28 (dk_at dksJ7_copyOfRangeByte_0 1 rfl rfl)
theorem dJ7_copyOfRangeByte_2 : decode cJ7_copyOfRangeByte 2 = .ok (.invokestatic 343, 3) := dk_184 1 87 (dk_at dksJ7_copyOfRangeByte_0 2 rfl rfl)
theorem dJ7_copyOfRangeByte_5 : decode cJ7_copyOfRangeByte 5 = .ok (.iload_n 2, 1) := dk_28 (dk_at dksJ7_copyOfRangeByte_0 5 rfl rfl)
theorem dJ7_copyOfRangeByte_6 : decode cJ7_copyOfRangeByte 6 = .ok (.iload_n 1, 1) := dk_27 (dk_at dksJ7_copyOfRangeByte_0 6 rfl rfl)
theorem dJ7_copyOfRangeByte_7 : decode cJ7_copyOfRangeByte 7 = .ok (.isub, 1) := dk_100 (dk_at dksJ7_copyOfRangeByte_0 7 rfl rfl)
theorem dJ7_copyOfRangeByte_8 : decode cJ7_copyOfRangeByte 8 = .ok (.istore_n 3, 1) := dk_62 (dk_at dksJ7_copyOfRangeByte_0 8 rfl rfl)
theorem dJ7_copyOfRangeByte_9 : decode cJ7_copyOfRangeByte 9 = .ok (.iload_n 3, 1) := dk_29 (dk_at dksJ7_copyOfRangeByte_0 9 rfl rfl)
theorem dJ7_copyOfRangeByte_10 : decode cJ7_copyOfRangeByte 10 = .ok (.newarray .byte, 2) := dk_188_8 (dk_at dksJ7_copyOfRangeByte_0 10 rfl rfl)
theorem dJ7_copyOfRangeByte_12 : decode cJ7_copyOfRangeByte 12 = .ok (.astore 4, 2) := dk_58 4 (dk_at dksJ7_copyOfRangeByte_0 12 rfl rfl)
theorem dJ7_copyOfRangeByte_14 : decode cJ7_copyOfRangeByte 14 = .ok (.aload_n 0, 1) := dk_42 (dk_at dksJ7_copyOfRangeByte_0 14 rfl rfl)
theorem dJ7_copyOfRangeByte_15 : decode cJ7_copyOfRangeByte 15 = .ok (.iload_n 1, 1) := dk_27 (dk_at dksJ7_copyOfRangeByte_0 15 rfl rfl)
theorem dJ7_copyOfRangeByte_16 : decode cJ7_copyOfRangeByte 16 = .ok (.aload 4, 2) := dk_25 4 (dk_at dksJ7_copyOfRangeByte_0 16 rfl rfl)
theorem dJ7_copyOfRangeByte_18 : decode cJ7_copyOfRangeByte 18 = .ok (.iconst 0, 1) := dk_3 (dk_at dksJ7_copyOfRangeByte_0 18 rfl rfl)
theorem dJ7_copyOfRangeByte_19 : decode cJ7_copyOfRangeByte 19 = .ok (.aload_n 0, 1) := dk_42 (dk_at dksJ7_copyOfRangeByte_0 19 rfl rfl)
theorem dJ7_copyOfRangeByte_20 : decode cJ7_copyOfRangeByte 20 = .ok (.arraylength, 1) := dk_190 (dk_at dksJ7_copyOfRangeByte_0 20 rfl rfl)
theorem dJ7_copyOfRangeByte_21 : decode cJ7_copyOfRangeByte 21 = .ok (.iload_n 1, 1) := dk_27 (dk_at dksJ7_copyOfRangeByte_0 21 rfl rfl)
theorem dJ7_copyOfRangeByte_22 : decode cJ7_copyOfRangeByte 22 = .ok (.isub, 1) := dk_100 (dk_at dksJ7_copyOfRangeByte_0 22 rfl rfl)
theorem dJ7_copyOfRangeByte_23 : decode cJ7_copyOfRangeByte 23 = .ok (.iload_n 3, 1) := dk_29 (dk_at dksJ7_copyOfRangeByte_0 23 rfl rfl)
theorem dJ7_copyOfRangeByte_24 : decode cJ7_copyOfRangeByte 24 = .ok (.invokestatic 304, 3) := dk_184 1 48 (dk_at dksJ7_copyOfRangeByte_1 0 rfl rfl)
theorem dJ7_copyOfRangeByte_27 : decode cJ7_copyOfRangeByte 27 = .ok (.invokestatic 150, 3) := dk_184 0 150 (dk_at dksJ7_copyOfRangeByte_1 3 rfl rfl)
theorem dJ7_copyOfRangeByte_30 : decode cJ7_copyOfRangeByte 30 = .ok (.aload 4, 2) := dk_25 4 (dk_at dksJ7_copyOfRangeByte_1 6 rfl rfl)
theorem dJ7_copyOfRangeByte_32 : decode cJ7_copyOfRangeByte 32 = .ok (.areturn, 1) := dk_176 (dk_at dksJ7_copyOfRangeByte_1 8 rfl rfl)
abbrev cJ7_checkLength : ByteArray := prog_47_method_131_code
def yJ7_checkLength : MethodName := ⟨RJ7, "checkLength", "(II)V"⟩
def dkwJ7_checkLength_1 : List UInt8 := [182, 0, 50, 27, 182, 0, 54, 182, 0, 61, 183, 0, 65, 191, 177]
abbrev dktJ7_checkLength_1 : List UInt8 := dkwJ7_checkLength_1 ++ []
def dkwJ7_checkLength_0 : List UInt8 := [27, 26, 162, 0, 35, 187, 0, 43, 89, 187, 0, 45, 89, 183, 0, 47, 26, 182, 0, 54, 19, 1, 81]
abbrev dktJ7_checkLength_0 : List UInt8 := dkwJ7_checkLength_0 ++ dktJ7_checkLength_1
theorem dksJ7_checkLength_0 : cJ7_checkLength.data.toList.drop 0 = dktJ7_checkLength_0 := by decide +kernel
theorem dksJ7_checkLength_1 : cJ7_checkLength.data.toList.drop 23 = dktJ7_checkLength_1 := dk_seg dksJ7_checkLength_0 23 rfl rfl
theorem dJ7_checkLength_0 : decode cJ7_checkLength 0 = .ok (.iload_n 1, 1) := dk_27 (dk_at dksJ7_checkLength_0 0 rfl rfl)
theorem dJ7_checkLength_1 : decode cJ7_checkLength 1 = .ok (.iload_n 0, 1) := dk_26 (dk_at dksJ7_checkLength_0 1 rfl rfl)
theorem dJ7_checkLength_2 : decode cJ7_checkLength 2 = .ok (.if_icmp .ge 35, 3) := dk_162 0 35 (dk_at dksJ7_checkLength_0 2 rfl rfl)
theorem dJ7_checkLength_5 : decode cJ7_checkLength 5 = .ok (.new 43, 3) := dk_187 0 43 (dk_at dksJ7_checkLength_0 5 rfl rfl)
theorem dJ7_checkLength_8 : decode cJ7_checkLength 8 = .ok (.dup, 1) := dk_89 (dk_at dksJ7_checkLength_0 8 rfl rfl)
theorem dJ7_checkLength_9 : decode cJ7_checkLength 9 = .ok (.new 45, 3) := dk_187 0 45 (dk_at dksJ7_checkLength_0 9 rfl rfl)
theorem dJ7_checkLength_12 : decode cJ7_checkLength 12 = .ok (.dup, 1) := dk_89 (dk_at dksJ7_checkLength_0 12 rfl rfl)
theorem dJ7_checkLength_13 : decode cJ7_checkLength 13 = .ok (.invokespecial 47, 3) := dk_183 0 47 (dk_at dksJ7_checkLength_0 13 rfl rfl)
theorem dJ7_checkLength_16 : decode cJ7_checkLength 16 = .ok (.iload_n 0, 1) := dk_26 (dk_at dksJ7_checkLength_0 16 rfl rfl)
theorem dJ7_checkLength_17 : decode cJ7_checkLength 17 = .ok (.invokevirtual 54, 3) := dk_182 0 54 (dk_at dksJ7_checkLength_0 17 rfl rfl)
theorem dJ7_checkLength_20 : decode cJ7_checkLength 20 = .ok (.ldc_w 337, 3) := dk_19 1 81 (dk_at dksJ7_checkLength_0 20 rfl rfl)
theorem dJ7_checkLength_23 : decode cJ7_checkLength 23 = .ok (.invokevirtual 50, 3) := dk_182 0 50 (dk_at dksJ7_checkLength_1 0 rfl rfl)
theorem dJ7_checkLength_26 : decode cJ7_checkLength 26 = .ok (.iload_n 1, 1) := dk_27 (dk_at dksJ7_checkLength_1 3 rfl rfl)
theorem dJ7_checkLength_27 : decode cJ7_checkLength 27 = .ok (.invokevirtual 54, 3) := dk_182 0 54 (dk_at dksJ7_checkLength_1 4 rfl rfl)
theorem dJ7_checkLength_30 : decode cJ7_checkLength 30 = .ok (.invokevirtual 61, 3) := dk_182 0 61 (dk_at dksJ7_checkLength_1 7 rfl rfl)
theorem dJ7_checkLength_33 : decode cJ7_checkLength 33 = .ok (.invokespecial 65, 3) := dk_183 0 65 (dk_at dksJ7_checkLength_1 10 rfl rfl)
theorem dJ7_checkLength_36 : decode cJ7_checkLength 36 = .ok (.athrow, 1) := dk_191 (dk_at dksJ7_checkLength_1 13 rfl rfl)
theorem dJ7_checkLength_37 : decode cJ7_checkLength 37 = .ok (.return_, 1) := dk_177 (dk_at dksJ7_checkLength_1 14 rfl rfl)
theorem q103 : (Jvm.Cond.initialized "java/util/Arrays") ∈ lw_all := lw_g (lw_at lw_m1 14 rfl) rfl
theorem q354 : (Jvm.Cond.static ({ cls := "java/util/Arrays", name := "copyOf", desc := "([Ljava/lang/Object;I)[Ljava/lang/Object;" } : Jvm.MethodName)) ∈ lw_all := lw_g (lw_at lw_m2 25 rfl) rfl
theorem q355 : (Jvm.Cond.code ({ cls := "java/util/Arrays", name := "copyOf", desc := "([Ljava/lang/Object;I)[Ljava/lang/Object;" } : Jvm.MethodName) prog_47_method_119_code (2 : Nat) (Option.some (Jvm.ClassFile.FieldType.array (Jvm.ClassFile.FieldType.object "java/lang/Object")))) ∈ lw_all := lw_g (lw_at lw_m2 26 rfl) rfl
theorem q356 : (Jvm.Cond.methodLink "java/util/Arrays" (86 : Nat) ({ cls := "java/lang/Object", name := "getClass", desc := "()Ljava/lang/Class;" } : Jvm.MethodName)) ∈ lw_all := lw_g (lw_at lw_m2 27 rfl) rfl
theorem q390 : (Jvm.Cond.methodLink "java/util/Arrays" (300 : Nat) ({ cls := "java/util/Arrays", name := "copyOf", desc := "([Ljava/lang/Object;ILjava/lang/Class;)[Ljava/lang/Object;" } : Jvm.MethodName)) ∈ lw_all := lw_g (lw_at lw_m2 61 rfl) rfl
theorem q391 : (Jvm.Cond.static ({ cls := "java/util/Arrays", name := "copyOf", desc := "([Ljava/lang/Object;ILjava/lang/Class;)[Ljava/lang/Object;" } : Jvm.MethodName)) ∈ lw_all := lw_g (lw_at lw_m2 62 rfl) rfl
theorem q392 : (Jvm.Cond.code ({ cls := "java/util/Arrays", name := "copyOf", desc := "([Ljava/lang/Object;ILjava/lang/Class;)[Ljava/lang/Object;" } : Jvm.MethodName) prog_47_method_120_code (4 : Nat) (Option.some (Jvm.ClassFile.FieldType.array (Jvm.ClassFile.FieldType.object "java/lang/Object")))) ∈ lw_all := lw_g (lw_at lw_m2 63 rfl) rfl
theorem q393 : (Jvm.Cond.classLink "java/util/Arrays" (110 : Nat) "[Ljava/lang/Object;") ∈ lw_all := lw_g (lw_at lw_m2 64 rfl) rfl
theorem q395 : (Jvm.Cond.classLink "java/util/Arrays" (2 : Nat) "java/lang/Object") ∈ lw_all := lw_g (lw_at lw_m2 66 rfl) rfl
theorem q396 : (Jvm.Cond.methodLink "java/util/Arrays" (304 : Nat) ({ cls := "java/lang/Math", name := "min", desc := "(II)I" } : Jvm.MethodName)) ∈ lw_all := lw_g (lw_at lw_m2 67 rfl) rfl
theorem q399 : (Jvm.Cond.methodLink "java/util/Arrays" (150 : Nat) ({ cls := "java/lang/System", name := "arraycopy", desc := "(Ljava/lang/Object;ILjava/lang/Object;II)V" } : Jvm.MethodName)) ∈ lw_all := lw_g (lw_at lw_m2 70 rfl) rfl
theorem q1518 : (Jvm.Cond.static ({ cls := "java/util/Arrays", name := "copyOf", desc := "([II)[I" } : Jvm.MethodName)) ∈ lw_all := lw_g (lw_at lw_m6 229 rfl) rfl
theorem q1519 : (Jvm.Cond.code ({ cls := "java/util/Arrays", name := "copyOf", desc := "([II)[I" } : Jvm.MethodName) prog_47_method_123_code (3 : Nat) (Option.some (Jvm.ClassFile.FieldType.array Jvm.ClassFile.FieldType.int))) ∈ lw_all := lw_g (lw_at lw_m6 230 rfl) rfl
theorem q1520 : (Jvm.Cond.methodLink "java/util/Arrays" (316 : Nat) ({ cls := "[I", name := "clone", desc := "()Ljava/lang/Object;" } : Jvm.MethodName)) ∈ lw_all := lw_g (lw_at lw_m6 231 rfl) rfl
theorem q1526 : (Jvm.Cond.classLink "java/util/Arrays" (317 : Nat) "[I") ∈ lw_all := lw_g (lw_at lw_m6 237 rfl) rfl
theorem q1738 : (Jvm.Cond.static ({ cls := "java/util/Arrays", name := "copyOf", desc := "([BI)[B" } : Jvm.MethodName)) ∈ lw_all := lw_g (lw_at lw_m7 209 rfl) rfl
theorem q1739 : (Jvm.Cond.code ({ cls := "java/util/Arrays", name := "copyOf", desc := "([BI)[B" } : Jvm.MethodName) prog_47_method_121_code (3 : Nat) (Option.some (Jvm.ClassFile.FieldType.array Jvm.ClassFile.FieldType.byte))) ∈ lw_all := lw_g (lw_at lw_m7 210 rfl) rfl
theorem q1740 : (Jvm.Cond.methodLink "java/util/Arrays" (310 : Nat) ({ cls := "[B", name := "clone", desc := "()Ljava/lang/Object;" } : Jvm.MethodName)) ∈ lw_all := lw_g (lw_at lw_m7 211 rfl) rfl
theorem q1744 : (Jvm.Cond.classLink "java/util/Arrays" (311 : Nat) "[B") ∈ lw_all := lw_g (lw_at lw_m7 215 rfl) rfl
theorem q1808 : (Jvm.Cond.static ({ cls := "java/util/Arrays", name := "copyOfRange", desc := "([BII)[B" } : Jvm.MethodName)) ∈ lw_all := lw_g (lw_at lw_m8 39 rfl) rfl
theorem q1809 : (Jvm.Cond.code ({ cls := "java/util/Arrays", name := "copyOfRange", desc := "([BII)[B" } : Jvm.MethodName) prog_47_method_132_code (3 : Nat) (Option.some (Jvm.ClassFile.FieldType.array Jvm.ClassFile.FieldType.byte))) ∈ lw_all := lw_g (lw_at lw_m8 40 rfl) rfl
theorem q1810 : (Jvm.Cond.methodLink "java/util/Arrays" (339 : Nat) ({ cls := "java/util/Arrays", name := "copyOfRangeByte", desc := "([BII)[B" } : Jvm.MethodName)) ∈ lw_all := lw_g (lw_at lw_m8 41 rfl) rfl
theorem q1811 : (Jvm.Cond.static ({ cls := "java/util/Arrays", name := "copyOfRangeByte", desc := "([BII)[B" } : Jvm.MethodName)) ∈ lw_all := lw_g (lw_at lw_m8 42 rfl) rfl
theorem q1812 : (Jvm.Cond.code ({ cls := "java/util/Arrays", name := "copyOfRangeByte", desc := "([BII)[B" } : Jvm.MethodName) prog_47_method_133_code (5 : Nat) (Option.some (Jvm.ClassFile.FieldType.array Jvm.ClassFile.FieldType.byte))) ∈ lw_all := lw_g (lw_at lw_m8 43 rfl) rfl
theorem q1813 : (Jvm.Cond.methodLink "java/util/Arrays" (343 : Nat) ({ cls := "java/util/Arrays", name := "checkLength", desc := "(II)V" } : Jvm.MethodName)) ∈ lw_all := lw_g (lw_at lw_m8 44 rfl) rfl
theorem q1814 : (Jvm.Cond.static ({ cls := "java/util/Arrays", name := "checkLength", desc := "(II)V" } : Jvm.MethodName)) ∈ lw_all := lw_g (lw_at lw_m8 45 rfl) rfl
theorem q1815 : (Jvm.Cond.code ({ cls := "java/util/Arrays", name := "checkLength", desc := "(II)V" } : Jvm.MethodName) prog_47_method_131_code (2 : Nat) (Option.none : Option Jvm.ClassFile.FieldType)) ∈ lw_all := lw_g (lw_at lw_m8 46 rfl) rfl

/-! java/util/AbstractMap -/
set_option maxRecDepth 100000
def RJ8 : String := "java/util/AbstractMap"
abbrev cJ8_init : ByteArray := prog_43_method_1_code
def yJ8_init : MethodName := ⟨RJ8, "<init>", "()V"⟩
theorem dJ8_init_0 : decode cJ8_init 0 = .ok (.aload_n 0, 1) := by decide +kernel
theorem dJ8_init_1 : decode cJ8_init 1 = .ok (.invokespecial 1, 3) := by decide +kernel
theorem dJ8_init_4 : decode cJ8_init 4 = .ok (.return_, 1) := by decide +kernel
theorem q105 : (Jvm.Cond.initialized "java/util/AbstractMap") ∈ lw_all := lw_g (lw_at lw_m1 16 rfl) rfl
theorem q429 : (Jvm.Cond.instanceMethod ({ cls := "java/util/AbstractMap", name := "<init>", desc := "()V" } : Jvm.MethodName)) ∈ lw_all := lw_g (lw_at lw_m2 100 rfl) rfl
theorem q430 : (Jvm.Cond.code ({ cls := "java/util/AbstractMap", name := "<init>", desc := "()V" } : Jvm.MethodName) prog_43_method_1_code (1 : Nat) (Option.none : Option Jvm.ClassFile.FieldType)) ∈ lw_all := lw_g (lw_at lw_m2 101 rfl) rfl
theorem q431 : (Jvm.Cond.methodLink "java/util/AbstractMap" (1 : Nat) ({ cls := "java/lang/Object", name := "<init>", desc := "()V" } : Jvm.MethodName)) ∈ lw_all := lw_g (lw_at lw_m2 102 rfl) rfl
theorem q475 : (Jvm.Cond.soleField "java/util/AbstractMap" "keySet") ∈ lw_all := lw_g (lw_at lw_m2 146 rfl) rfl
theorem q477 : (Jvm.Cond.soleField "java/util/AbstractMap" "values") ∈ lw_all := lw_g (lw_at lw_m2 148 rfl) rfl

/-! java/util/HashMap -/
set_option maxRecDepth 100000
def RJ9 : String := "java/util/HashMap"
abbrev cJ9_init : ByteArray := prog_49_method_7_code
def yJ9_init : MethodName := ⟨RJ9, "<init>", "()V"⟩
def dkwJ9_init_0 : List UInt8 := [42, 183, 0, 43, 42, 18, 92, 181, 0, 81, 177]
abbrev dktJ9_init_0 : List UInt8 := dkwJ9_init_0 ++ []
theorem dksJ9_init_0 : cJ9_init.data.toList.drop 0 = dktJ9_init_0 := by decide +kernel
theorem dJ9_init_0 : decode cJ9_init 0 = .ok (.aload_n 0, 1) := dk_42 (dk_at dksJ9_init_0 0 rfl rfl)
theorem dJ9_init_1 : decode cJ9_init 1 = .ok (.invokespecial 43, 3) := dk_183 0 43 (dk_at dksJ9_init_0 1 rfl rfl)
theorem dJ9_init_4 : decode cJ9_init 4 = .ok (.aload_n 0, 1) := dk_42 (dk_at dksJ9_init_0 4 rfl rfl)
theorem dJ9_init_5 : decode cJ9_init 5 = .ok (.ldc 92, 2) := dk_18 92 (dk_at dksJ9_init_0 5 rfl rfl)
theorem dJ9_init_7 : decode cJ9_init 7 = .ok (.putfield 81, 3) := dk_181 0 81 (dk_at dksJ9_init_0 7 rfl rfl)
theorem dJ9_init_10 : decode cJ9_init 10 = .ok (.return_, 1) := dk_177 (dk_at dksJ9_init_0 10 rfl rfl)
abbrev cJ9_put : ByteArray := prog_49_method_15_code
def yJ9_put : MethodName := ⟨RJ9, "put", "(Ljava/lang/Object;Ljava/lang/Object;)Ljava/lang/Object;"⟩
def dkwJ9_put_0 : List UInt8 := [42, 43, 184, 0, 149, 43, 44, 3, 4, 182, 0, 152, 176]
abbrev dktJ9_put_0 : List UInt8 := dkwJ9_put_0 ++ []
theorem dksJ9_put_0 : cJ9_put.data.toList.drop 0 = dktJ9_put_0 := by decide +kernel
theorem dJ9_put_0 : decode cJ9_put 0 = .ok (.aload_n 0, 1) := dk_42 (dk_at dksJ9_put_0 0 rfl rfl)
theorem dJ9_put_1 : decode cJ9_put 1 = .ok (.aload_n 1, 1) := dk_43 (dk_at dksJ9_put_0 1 rfl rfl)
theorem dJ9_put_2 : decode cJ9_put 2 = .ok (.invokestatic 149, 3) := dk_184 0 149 (dk_at dksJ9_put_0 2 rfl rfl)
theorem dJ9_put_5 : decode cJ9_put 5 = .ok (.aload_n 1, 1) := dk_43 (dk_at dksJ9_put_0 5 rfl rfl)
theorem dJ9_put_6 : decode cJ9_put 6 = .ok (.aload_n 2, 1) := dk_44 (dk_at dksJ9_put_0 6 rfl rfl)
theorem dJ9_put_7 : decode cJ9_put 7 = .ok (.iconst 0, 1) := dk_3 (dk_at dksJ9_put_0 7 rfl rfl)
theorem dJ9_put_8 : decode cJ9_put 8 = .ok (.iconst 1, 1) := dk_4 (dk_at dksJ9_put_0 8 rfl rfl)
theorem dJ9_put_9 : decode cJ9_put 9 = .ok (.invokevirtual 152, 3) := dk_182 0 152 (dk_at dksJ9_put_0 9 rfl rfl)
theorem dJ9_put_12 : decode cJ9_put 12 = .ok (.areturn, 1) := dk_176 (dk_at dksJ9_put_0 12 rfl rfl)
abbrev cJ9_hash : ByteArray := prog_49_method_1_code
def yJ9_hash : MethodName := ⟨RJ9, "hash", "(Ljava/lang/Object;)I"⟩
def dkwJ9_hash_0 : List UInt8 := [42, 199, 0, 7, 3, 167, 0, 14, 42, 182, 0, 1, 89, 60, 27, 16, 16, 124, 130, 172]
abbrev dktJ9_hash_0 : List UInt8 := dkwJ9_hash_0 ++ []
theorem dksJ9_hash_0 : cJ9_hash.data.toList.drop 0 = dktJ9_hash_0 := by decide +kernel
theorem dJ9_hash_0 : decode cJ9_hash 0 = .ok (.aload_n 0, 1) := dk_42 (dk_at dksJ9_hash_0 0 rfl rfl)
theorem dJ9_hash_1 : decode cJ9_hash 1 = .ok (.ifnonnull 7, 3) := dk_199 0 7 (dk_at dksJ9_hash_0 1 rfl rfl)
theorem dJ9_hash_4 : decode cJ9_hash 4 = .ok (.iconst 0, 1) := dk_3 (dk_at dksJ9_hash_0 4 rfl rfl)
theorem dJ9_hash_5 : decode cJ9_hash 5 = .ok (.goto 14, 3) := dk_167 0 14 (dk_at dksJ9_hash_0 5 rfl rfl)
theorem dJ9_hash_8 : decode cJ9_hash 8 = .ok (.aload_n 0, 1) := dk_42 (dk_at dksJ9_hash_0 8 rfl rfl)
theorem dJ9_hash_9 : decode cJ9_hash 9 = .ok (.invokevirtual 1, 3) := dk_182 0 1 (dk_at dksJ9_hash_0 9 rfl rfl)
theorem dJ9_hash_12 : decode cJ9_hash 12 = .ok (.dup, 1) := dk_89 (dk_at dksJ9_hash_0 12 rfl rfl)
theorem dJ9_hash_13 : decode cJ9_hash 13 = .ok (.istore_n 1, 1) := dk_60 (dk_at dksJ9_hash_0 13 rfl rfl)
theorem dJ9_hash_14 : decode cJ9_hash 14 = .ok (.iload_n 1, 1) := dk_27 (dk_at dksJ9_hash_0 14 rfl rfl)
theorem dJ9_hash_15 : decode cJ9_hash 15 = .ok (.bipush 16, 2) := dk_16 16 (dk_at dksJ9_hash_0 15 rfl rfl)
theorem dJ9_hash_17 : decode cJ9_hash 17 = .ok (.iushr, 1) := dk_124 (dk_at dksJ9_hash_0 17 rfl rfl)
theorem dJ9_hash_18 : decode cJ9_hash 18 = .ok (.ixor, 1) := dk_130 (dk_at dksJ9_hash_0 18 rfl rfl)
theorem dJ9_hash_19 : decode cJ9_hash 19 = .ok (.ireturn, 1) := dk_172 (dk_at dksJ9_hash_0 19 rfl rfl)
abbrev cJ9_putVal : ByteArray := prog_49_method_16_code
def yJ9_putVal : MethodName := ⟨RJ9, "putVal", "(ILjava/lang/Object;Ljava/lang/Object;ZZ)Ljava/lang/Object;"⟩
def dkwJ9_putVal_12 : List UInt8 := [181, 0, 156, 42, 180, 0, 88, 164, 0, 8, 42, 182, 0, 117, 87, 42, 21, 5, 182, 0, 205, 1, 176]
abbrev dktJ9_putVal_12 : List UInt8 := dkwJ9_putVal_12 ++ []
def dkwJ9_putVal_11 : List UInt8 := [182, 0, 198, 25, 12, 176, 42, 89, 180, 0, 202, 4, 96, 181, 0, 202, 42, 89, 180, 0, 156, 4, 96, 90]
abbrev dktJ9_putVal_11 : List UInt8 := dkwJ9_putVal_11 ++ dktJ9_putVal_12
def dkwJ9_putVal_10 : List UInt8 := [180, 0, 162, 58, 12, 21, 4, 153, 0, 8, 25, 12, 199, 0, 9, 25, 10, 45, 181, 0, 162, 42, 25, 10]
abbrev dktJ9_putVal_10 : List UInt8 := dkwJ9_putVal_10 ++ dktJ9_putVal_11
def dkwJ9_putVal_9 : List UInt8 := [153, 0, 6, 167, 0, 13, 25, 10, 58, 7, 132, 12, 1, 167, 255, 171, 25, 10, 198, 0, 35, 25, 10]
abbrev dktJ9_putVal_9 : List UInt8 := dkwJ9_putVal_9 ++ dktJ9_putVal_10
def dkwJ9_putVal_8 : List UInt8 := [25, 10, 180, 0, 170, 89, 58, 11, 44, 165, 0, 29, 44, 198, 0, 15, 44, 25, 11, 182, 0, 173]
abbrev dktJ9_putVal_8 : List UInt8 := dkwJ9_putVal_8 ++ dktJ9_putVal_9
def dkwJ9_putVal_7 : List UInt8 := [16, 7, 161, 0, 60, 42, 25, 6, 27, 182, 0, 194, 167, 0, 50, 25, 10, 180, 0, 168, 27, 160, 0, 31]
abbrev dktJ9_putVal_7 : List UInt8 := dkwJ9_putVal_7 ++ dktJ9_putVal_8
def dkwJ9_putVal_6 : List UInt8 := [180, 0, 177, 89, 58, 10, 199, 0, 33, 25, 7, 42, 27, 44, 45, 1, 182, 0, 186, 181, 0, 177, 21, 12]
abbrev dktJ9_putVal_6 : List UInt8 := dkwJ9_putVal_6 ++ dktJ9_putVal_7
def dkwJ9_putVal_5 : List UInt8 := [192, 0, 180, 42, 25, 6, 27, 44, 45, 182, 0, 190, 58, 10, 167, 0, 94, 3, 54, 12, 25, 7]
abbrev dktJ9_putVal_5 : List UInt8 := dkwJ9_putVal_5 ++ dktJ9_putVal_6
def dkwJ9_putVal_4 : List UInt8 := [182, 0, 173, 153, 0, 10, 25, 7, 58, 10, 167, 0, 121, 25, 7, 193, 0, 180, 153, 0, 22, 25, 7]
abbrev dktJ9_putVal_4 : List UInt8 := dkwJ9_putVal_4 ++ dktJ9_putVal_5
def dkwJ9_putVal_3 : List UInt8 := [160, 0, 35, 25, 7, 180, 0, 170, 89, 58, 11, 44, 165, 0, 16, 44, 198, 0, 19, 44, 25, 11]
abbrev dktJ9_putVal_3 : List UInt8 := dkwJ9_putVal_3 ++ dktJ9_putVal_4
def dkwJ9_putVal_2 : List UInt8 := [25, 6, 21, 9, 42, 27, 44, 45, 1, 182, 0, 186, 83, 167, 0, 199, 25, 7, 180, 0, 168, 27]
abbrev dktJ9_putVal_2 : List UInt8 := dkwJ9_putVal_2 ++ dktJ9_putVal_3
def dkwJ9_putVal_1 : List UInt8 := [58, 6, 190, 54, 8, 25, 6, 21, 8, 4, 100, 27, 126, 89, 54, 9, 50, 89, 58, 7, 199, 0, 19]
abbrev dktJ9_putVal_1 : List UInt8 := dkwJ9_putVal_1 ++ dktJ9_putVal_2
def dkwJ9_putVal_0 : List UInt8 := [42, 180, 0, 105, 89, 58, 6, 198, 0, 12, 25, 6, 190, 89, 54, 8, 154, 0, 13, 42, 182, 0, 117, 89]
abbrev dktJ9_putVal_0 : List UInt8 := dkwJ9_putVal_0 ++ dktJ9_putVal_1
theorem dksJ9_putVal_0 : cJ9_putVal.data.toList.drop 0 = dktJ9_putVal_0 := by decide +kernel
theorem dksJ9_putVal_1 : cJ9_putVal.data.toList.drop 24 = dktJ9_putVal_1 := dk_seg dksJ9_putVal_0 24 rfl rfl
theorem dksJ9_putVal_2 : cJ9_putVal.data.toList.drop 47 = dktJ9_putVal_2 := dk_seg dksJ9_putVal_1 23 rfl rfl
theorem dksJ9_putVal_3 : cJ9_putVal.data.toList.drop 69 = dktJ9_putVal_3 := dk_seg dksJ9_putVal_2 22 rfl rfl
theorem dksJ9_putVal_4 : cJ9_putVal.data.toList.drop 91 = dktJ9_putVal_4 := dk_seg dksJ9_putVal_3 22 rfl rfl
theorem dksJ9_putVal_5 : cJ9_putVal.data.toList.drop 114 = dktJ9_putVal_5 := dk_seg dksJ9_putVal_4 23 rfl rfl
theorem dksJ9_putVal_6 : cJ9_putVal.data.toList.drop 136 = dktJ9_putVal_6 := dk_seg dksJ9_putVal_5 22 rfl rfl
theorem dksJ9_putVal_7 : cJ9_putVal.data.toList.drop 160 = dktJ9_putVal_7 := dk_seg dksJ9_putVal_6 24 rfl rfl
theorem dksJ9_putVal_8 : cJ9_putVal.data.toList.drop 184 = dktJ9_putVal_8 := dk_seg dksJ9_putVal_7 24 rfl rfl
theorem dksJ9_putVal_9 : cJ9_putVal.data.toList.drop 206 = dktJ9_putVal_9 := dk_seg dksJ9_putVal_8 22 rfl rfl
theorem dksJ9_putVal_10 : cJ9_putVal.data.toList.drop 229 = dktJ9_putVal_10 := dk_seg dksJ9_putVal_9 23 rfl rfl
theorem dksJ9_putVal_11 : cJ9_putVal.data.toList.drop 253 = dktJ9_putVal_11 := dk_seg dksJ9_putVal_10 24 rfl rfl
theorem dksJ9_putVal_12 : cJ9_putVal.data.toList.drop 277 = dktJ9_putVal_12 := dk_seg dksJ9_putVal_11 24 rfl rfl
theorem dJ9_putVal_0 : decode cJ9_putVal 0 = .ok (.aload_n 0, 1) := dk_42 (dk_at dksJ9_putVal_0 0 rfl rfl)
theorem dJ9_putVal_1 : decode cJ9_putVal 1 = .ok (.getfield 105, 3) := dk_180 0 105 (dk_at dksJ9_putVal_0 1 rfl rfl)
theorem dJ9_putVal_4 : decode cJ9_putVal 4 = .ok (.dup, 1) := dk_89 (dk_at dksJ9_putVal_0 4 rfl rfl)
theorem dJ9_putVal_5 : decode cJ9_putVal 5 = .ok (.astore 6, 2) := dk_58 6 (dk_at dksJ9_putVal_0 5 rfl rfl)
theorem dJ9_putVal_7 : decode cJ9_putVal 7 = .ok (.ifnull 12, 3) := dk_198 0 12 (dk_at dksJ9_putVal_0 7 rfl rfl)
theorem dJ9_putVal_10 : decode cJ9_putVal 10 = .ok (.aload 6, 2) := dk_25 6 (dk_at dksJ9_putVal_0 10 rfl rfl)
theorem dJ9_putVal_12 : decode cJ9_putVal 12 = .ok (.arraylength, 1) := dk_190 (dk_at dksJ9_putVal_0 12 rfl rfl)
theorem dJ9_putVal_13 : decode cJ9_putVal 13 = .ok (.dup, 1) := dk_89 (dk_at dksJ9_putVal_0 13 rfl rfl)
theorem dJ9_putVal_14 : decode cJ9_putVal 14 = .ok (.istore 8, 2) := dk_54 8 (dk_at dksJ9_putVal_0 14 rfl rfl)
theorem dJ9_putVal_16 : decode cJ9_putVal 16 = .ok (.ifCond .ne 13, 3) := dk_154 0 13 (dk_at dksJ9_putVal_0 16 rfl rfl)
theorem dJ9_putVal_19 : decode cJ9_putVal 19 = .ok (.aload_n 0, 1) := dk_42 (dk_at dksJ9_putVal_0 19 rfl rfl)
theorem dJ9_putVal_20 : decode cJ9_putVal 20 = .ok (.invokevirtual 117, 3) := dk_182 0 117 (dk_at dksJ9_putVal_0 20 rfl rfl)
theorem dJ9_putVal_23 : decode cJ9_putVal 23 = .ok (.dup, 1) := dk_89 (dk_at dksJ9_putVal_0 23 rfl rfl)
theorem dJ9_putVal_24 : decode cJ9_putVal 24 = .ok (.astore 6, 2) := dk_58 6 (dk_at dksJ9_putVal_1 0 rfl rfl)
theorem dJ9_putVal_26 : decode cJ9_putVal 26 = .ok (.arraylength, 1) := dk_190 (dk_at dksJ9_putVal_1 2 rfl rfl)
theorem dJ9_putVal_27 : decode cJ9_putVal 27 = .ok (.istore 8, 2) := dk_54 8 (dk_at dksJ9_putVal_1 3 rfl rfl)
theorem dJ9_putVal_29 : decode cJ9_putVal 29 = .ok (.aload 6, 2) := dk_25 6 (dk_at dksJ9_putVal_1 5 rfl rfl)
theorem dJ9_putVal_31 : decode cJ9_putVal 31 = .ok (.iload 8, 2) := dk_21 8 (dk_at dksJ9_putVal_1 7 rfl rfl)
theorem dJ9_putVal_33 : decode cJ9_putVal 33 = .ok (.iconst 1, 1) := dk_4 (dk_at dksJ9_putVal_1 9 rfl rfl)
theorem dJ9_putVal_34 : decode cJ9_putVal 34 = .ok (.isub, 1) := dk_100 (dk_at dksJ9_putVal_1 10 rfl rfl)
theorem dJ9_putVal_35 : decode cJ9_putVal 35 = .ok (.iload_n 1, 1) := dk_27 (dk_at dksJ9_putVal_1 11 rfl rfl)
theorem dJ9_putVal_36 : decode cJ9_putVal 36 = .ok (.iand, 1) := dk_126 (dk_at dksJ9_putVal_1 12 rfl rfl)
theorem dJ9_putVal_37 : decode cJ9_putVal 37 = .ok (.dup, 1) := dk_89 (dk_at dksJ9_putVal_1 13 rfl rfl)
theorem dJ9_putVal_38 : decode cJ9_putVal 38 = .ok (.istore 9, 2) := dk_54 9 (dk_at dksJ9_putVal_1 14 rfl rfl)
theorem dJ9_putVal_40 : decode cJ9_putVal 40 = .ok (.aaload, 1) := dk_50 (dk_at dksJ9_putVal_1 16 rfl rfl)
theorem dJ9_putVal_41 : decode cJ9_putVal 41 = .ok (.dup, 1) := dk_89 (dk_at dksJ9_putVal_1 17 rfl rfl)
theorem dJ9_putVal_42 : decode cJ9_putVal 42 = .ok (.astore 7, 2) := dk_58 7 (dk_at dksJ9_putVal_1 18 rfl rfl)
theorem dJ9_putVal_44 : decode cJ9_putVal 44 = .ok (.ifnonnull 19, 3) := dk_199 0 19 (dk_at dksJ9_putVal_1 20 rfl rfl)
theorem dJ9_putVal_47 : decode cJ9_putVal 47 = .ok (.aload 6, 2) := dk_25 6 (dk_at dksJ9_putVal_2 0 rfl rfl)
theorem dJ9_putVal_49 : decode cJ9_putVal 49 = .ok (.iload 9, 2) := dk_21 9 (dk_at dksJ9_putVal_2 2 rfl rfl)
theorem dJ9_putVal_51 : decode cJ9_putVal 51 = .ok (.aload_n 0, 1) := dk_42 (dk_at dksJ9_putVal_2 4 rfl rfl)
theorem dJ9_putVal_52 : decode cJ9_putVal 52 = .ok (.iload_n 1, 1) := dk_27 (dk_at dksJ9_putVal_2 5 rfl rfl)
theorem dJ9_putVal_53 : decode cJ9_putVal 53 = .ok (.aload_n 2, 1) := dk_44 (dk_at dksJ9_putVal_2 6 rfl rfl)
theorem dJ9_putVal_54 : decode cJ9_putVal 54 = .ok (.aload_n 3, 1) := dk_45 (dk_at dksJ9_putVal_2 7 rfl rfl)
theorem dJ9_putVal_55 : decode cJ9_putVal 55 = .ok (.aconst_null, 1) := dk_1 (dk_at dksJ9_putVal_2 8 rfl rfl)
theorem dJ9_putVal_56 : decode cJ9_putVal 56 = .ok (.invokevirtual 186, 3) := dk_182 0 186 (dk_at dksJ9_putVal_2 9 rfl rfl)
theorem dJ9_putVal_59 : decode cJ9_putVal 59 = .ok (.aastore, 1) := dk_83 (dk_at dksJ9_putVal_2 12 rfl rfl)
theorem dJ9_putVal_60 : decode cJ9_putVal 60 = .ok (.goto 199, 3) := dk_167 0 199 (dk_at dksJ9_putVal_2 13 rfl rfl)
theorem dJ9_putVal_63 : decode cJ9_putVal 63 = .ok (.aload 7, 2) := dk_25 7 (dk_at dksJ9_putVal_2 16 rfl rfl)
theorem dJ9_putVal_65 : decode cJ9_putVal 65 = .ok (.getfield 168, 3) := dk_180 0 168 (dk_at dksJ9_putVal_2 18 rfl rfl)
theorem dJ9_putVal_68 : decode cJ9_putVal 68 = .ok (.iload_n 1, 1) := dk_27 (dk_at dksJ9_putVal_2 21 rfl rfl)
theorem dJ9_putVal_69 : decode cJ9_putVal 69 = .ok (.if_icmp .ne 35, 3) := dk_160 0 35 (dk_at dksJ9_putVal_3 0 rfl rfl)
theorem dJ9_putVal_72 : decode cJ9_putVal 72 = .ok (.aload 7, 2) := dk_25 7 (dk_at dksJ9_putVal_3 3 rfl rfl)
theorem dJ9_putVal_74 : decode cJ9_putVal 74 = .ok (.getfield 170, 3) := dk_180 0 170 (dk_at dksJ9_putVal_3 5 rfl rfl)
theorem dJ9_putVal_77 : decode cJ9_putVal 77 = .ok (.dup, 1) := dk_89 (dk_at dksJ9_putVal_3 8 rfl rfl)
theorem dJ9_putVal_78 : decode cJ9_putVal 78 = .ok (.astore 11, 2) := dk_58 11 (dk_at dksJ9_putVal_3 9 rfl rfl)
theorem dJ9_putVal_80 : decode cJ9_putVal 80 = .ok (.aload_n 2, 1) := dk_44 (dk_at dksJ9_putVal_3 11 rfl rfl)
theorem dJ9_putVal_81 : decode cJ9_putVal 81 = .ok (.if_acmp .eq 16, 3) := dk_165 0 16 (dk_at dksJ9_putVal_3 12 rfl rfl)
theorem dJ9_putVal_84 : decode cJ9_putVal 84 = .ok (.aload_n 2, 1) := dk_44 (dk_at dksJ9_putVal_3 15 rfl rfl)
theorem dJ9_putVal_85 : decode cJ9_putVal 85 = .ok (.ifnull 19, 3) := dk_198 0 19 (dk_at dksJ9_putVal_3 16 rfl rfl)
theorem dJ9_putVal_88 : decode cJ9_putVal 88 = .ok (.aload_n 2, 1) := dk_44 (dk_at dksJ9_putVal_3 19 rfl rfl)
theorem dJ9_putVal_89 : decode cJ9_putVal 89 = .ok (.aload 11, 2) := dk_25 11 (dk_at dksJ9_putVal_3 20 rfl rfl)
theorem dJ9_putVal_91 : decode cJ9_putVal 91 = .ok (.invokevirtual 173, 3) := dk_182 0 173 (dk_at dksJ9_putVal_4 0 rfl rfl)
theorem dJ9_putVal_94 : decode cJ9_putVal 94 = .ok (.ifCond .eq 10, 3) := dk_153 0 10 (dk_at dksJ9_putVal_4 3 rfl rfl)
theorem dJ9_putVal_97 : decode cJ9_putVal 97 = .ok (.aload 7, 2) := dk_25 7 (dk_at dksJ9_putVal_4 6 rfl rfl)
theorem dJ9_putVal_99 : decode cJ9_putVal 99 = .ok (.astore 10, 2) := dk_58 10 (dk_at dksJ9_putVal_4 8 rfl rfl)
theorem dJ9_putVal_101 : decode cJ9_putVal 101 = .ok (.goto 121, 3) := dk_167 0 121 (dk_at dksJ9_putVal_4 10 rfl rfl)
theorem dJ9_putVal_104 : decode cJ9_putVal 104 = .ok (.aload 7, 2) := dk_25 7 (dk_at dksJ9_putVal_4 13 rfl rfl)
theorem dJ9_putVal_106 : decode cJ9_putVal 106 = .ok (.instanceof 180, 3) := dk_193 0 180 (dk_at dksJ9_putVal_4 15 rfl rfl)
theorem dJ9_putVal_109 : decode cJ9_putVal 109 = .ok (.ifCond .eq 22, 3) := dk_153 0 22 (dk_at dksJ9_putVal_4 18 rfl rfl)
theorem dJ9_putVal_112 : decode cJ9_putVal 112 = .ok (.aload 7, 2) := dk_25 7 (dk_at dksJ9_putVal_4 21 rfl rfl)
theorem dJ9_putVal_114 : decode cJ9_putVal 114 = .ok (.checkcast 180, 3) := dk_192 0 180 (dk_at dksJ9_putVal_5 0 rfl rfl)
theorem dJ9_putVal_117 : decode cJ9_putVal 117 = .ok (.aload_n 0, 1) := dk_42 (dk_at dksJ9_putVal_5 3 rfl rfl)
theorem dJ9_putVal_118 : decode cJ9_putVal 118 = .ok (.aload 6, 2) := dk_25 6 (dk_at dksJ9_putVal_5 4 rfl rfl)
theorem dJ9_putVal_120 : decode cJ9_putVal 120 = .ok (.iload_n 1, 1) := dk_27 (dk_at dksJ9_putVal_5 6 rfl rfl)
theorem dJ9_putVal_121 : decode cJ9_putVal 121 = .ok (.aload_n 2, 1) := dk_44 (dk_at dksJ9_putVal_5 7 rfl rfl)
theorem dJ9_putVal_122 : decode cJ9_putVal 122 = .ok (.aload_n 3, 1) := dk_45 (dk_at dksJ9_putVal_5 8 rfl rfl)
theorem dJ9_putVal_123 : decode cJ9_putVal 123 = .ok (.invokevirtual 190, 3) := dk_182 0 190 (dk_at dksJ9_putVal_5 9 rfl rfl)
theorem dJ9_putVal_126 : decode cJ9_putVal 126 = .ok (.astore 10, 2) := dk_58 10 (dk_at dksJ9_putVal_5 12 rfl rfl)
theorem dJ9_putVal_128 : decode cJ9_putVal 128 = .ok (.goto 94, 3) := dk_167 0 94 (dk_at dksJ9_putVal_5 14 rfl rfl)
theorem dJ9_putVal_131 : decode cJ9_putVal 131 = .ok (.iconst 0, 1) := dk_3 (dk_at dksJ9_putVal_5 17 rfl rfl)
theorem dJ9_putVal_132 : decode cJ9_putVal 132 = .ok (.istore 12, 2) := dk_54 12 (dk_at dksJ9_putVal_5 18 rfl rfl)
theorem dJ9_putVal_134 : decode cJ9_putVal 134 = .ok (.aload 7, 2) := dk_25 7 (dk_at dksJ9_putVal_5 20 rfl rfl)
theorem dJ9_putVal_136 : decode cJ9_putVal 136 = .ok (.getfield 177, 3) := dk_180 0 177 (dk_at dksJ9_putVal_6 0 rfl rfl)
theorem dJ9_putVal_139 : decode cJ9_putVal 139 = .ok (.dup, 1) := dk_89 (dk_at dksJ9_putVal_6 3 rfl rfl)
theorem dJ9_putVal_140 : decode cJ9_putVal 140 = .ok (.astore 10, 2) := dk_58 10 (dk_at dksJ9_putVal_6 4 rfl rfl)
theorem dJ9_putVal_142 : decode cJ9_putVal 142 = .ok (.ifnonnull 33, 3) := dk_199 0 33 (dk_at dksJ9_putVal_6 6 rfl rfl)
theorem dJ9_putVal_145 : decode cJ9_putVal 145 = .ok (.aload 7, 2) := dk_25 7 (dk_at dksJ9_putVal_6 9 rfl rfl)
theorem dJ9_putVal_147 : decode cJ9_putVal 147 = .ok (.aload_n 0, 1) := dk_42 (dk_at dksJ9_putVal_6 11 rfl rfl)
theorem dJ9_putVal_148 : decode cJ9_putVal 148 = .ok (.iload_n 1, 1) := dk_27 (dk_at dksJ9_putVal_6 12 rfl rfl)
theorem dJ9_putVal_149 : decode cJ9_putVal 149 = .ok (.aload_n 2, 1) := dk_44 (dk_at dksJ9_putVal_6 13 rfl rfl)
theorem dJ9_putVal_150 : decode cJ9_putVal 150 = .ok (.aload_n 3, 1) := dk_45 (dk_at dksJ9_putVal_6 14 rfl rfl)
theorem dJ9_putVal_151 : decode cJ9_putVal 151 = .ok (.aconst_null, 1) := dk_1 (dk_at dksJ9_putVal_6 15 rfl rfl)
theorem dJ9_putVal_152 : decode cJ9_putVal 152 = .ok (.invokevirtual 186, 3) := dk_182 0 186 (dk_at dksJ9_putVal_6 16 rfl rfl)
theorem dJ9_putVal_155 : decode cJ9_putVal 155 = .ok (.putfield 177, 3) := dk_181 0 177 (dk_at dksJ9_putVal_6 19 rfl rfl)
theorem dJ9_putVal_158 : decode cJ9_putVal 158 = .ok (.iload 12, 2) := dk_21 12 (dk_at dksJ9_putVal_6 22 rfl rfl)
theorem dJ9_putVal_160 : decode cJ9_putVal 160 = .ok (.bipush 7, 2) := dk_16 7 (dk_at dksJ9_putVal_7 0 rfl rfl)
theorem dJ9_putVal_162 : decode cJ9_putVal 162 = .ok (.if_icmp .lt 60, 3) := dk_161 0 60 (dk_at dksJ9_putVal_7 2 rfl rfl)
theorem dJ9_putVal_165 : decode cJ9_putVal 165 = .ok (.aload_n 0, 1) := dk_42 (dk_at dksJ9_putVal_7 5 rfl rfl)
theorem dJ9_putVal_166 : decode cJ9_putVal 166 = .ok (.aload 6, 2) := dk_25 6 (dk_at dksJ9_putVal_7 6 rfl rfl)
theorem dJ9_putVal_168 : decode cJ9_putVal 168 = .ok (.iload_n 1, 1) := dk_27 (dk_at dksJ9_putVal_7 8 rfl rfl)
theorem dJ9_putVal_169 : decode cJ9_putVal 169 = .ok (.invokevirtual 194, 3) := dk_182 0 194 (dk_at dksJ9_putVal_7 9 rfl rfl)
theorem dJ9_putVal_172 : decode cJ9_putVal 172 = .ok (.goto 50, 3) := dk_167 0 50 (dk_at dksJ9_putVal_7 12 rfl rfl)
theorem dJ9_putVal_175 : decode cJ9_putVal 175 = .ok (.aload 10, 2) := dk_25 10 (dk_at dksJ9_putVal_7 15 rfl rfl)
theorem dJ9_putVal_177 : decode cJ9_putVal 177 = .ok (.getfield 168, 3) := dk_180 0 168 (dk_at dksJ9_putVal_7 17 rfl rfl)
theorem dJ9_putVal_180 : decode cJ9_putVal 180 = .ok (.iload_n 1, 1) := dk_27 (dk_at dksJ9_putVal_7 20 rfl rfl)
theorem dJ9_putVal_181 : decode cJ9_putVal 181 = .ok (.if_icmp .ne 31, 3) := dk_160 0 31 (dk_at dksJ9_putVal_7 21 rfl rfl)
theorem dJ9_putVal_184 : decode cJ9_putVal 184 = .ok (.aload 10, 2) := dk_25 10 (dk_at dksJ9_putVal_8 0 rfl rfl)
theorem dJ9_putVal_186 : decode cJ9_putVal 186 = .ok (.getfield 170, 3) := dk_180 0 170 (dk_at dksJ9_putVal_8 2 rfl rfl)
theorem dJ9_putVal_189 : decode cJ9_putVal 189 = .ok (.dup, 1) := dk_89 (dk_at dksJ9_putVal_8 5 rfl rfl)
theorem dJ9_putVal_190 : decode cJ9_putVal 190 = .ok (.astore 11, 2) := dk_58 11 (dk_at dksJ9_putVal_8 6 rfl rfl)
theorem dJ9_putVal_192 : decode cJ9_putVal 192 = .ok (.aload_n 2, 1) := dk_44 (dk_at dksJ9_putVal_8 8 rfl rfl)
theorem dJ9_putVal_193 : decode cJ9_putVal 193 = .ok (.if_acmp .eq 29, 3) := dk_165 0 29 (dk_at dksJ9_putVal_8 9 rfl rfl)
theorem dJ9_putVal_196 : decode cJ9_putVal 196 = .ok (.aload_n 2, 1) := dk_44 (dk_at dksJ9_putVal_8 12 rfl rfl)
theorem dJ9_putVal_197 : decode cJ9_putVal 197 = .ok (.ifnull 15, 3) := dk_198 0 15 (dk_at dksJ9_putVal_8 13 rfl rfl)
theorem dJ9_putVal_200 : decode cJ9_putVal 200 = .ok (.aload_n 2, 1) := dk_44 (dk_at dksJ9_putVal_8 16 rfl rfl)
theorem dJ9_putVal_201 : decode cJ9_putVal 201 = .ok (.aload 11, 2) := dk_25 11 (dk_at dksJ9_putVal_8 17 rfl rfl)
theorem dJ9_putVal_203 : decode cJ9_putVal 203 = .ok (.invokevirtual 173, 3) := dk_182 0 173 (dk_at dksJ9_putVal_8 19 rfl rfl)
theorem dJ9_putVal_206 : decode cJ9_putVal 206 = .ok (.ifCond .eq 6, 3) := dk_153 0 6 (dk_at dksJ9_putVal_9 0 rfl rfl)
theorem dJ9_putVal_209 : decode cJ9_putVal 209 = .ok (.goto 13, 3) := dk_167 0 13 (dk_at dksJ9_putVal_9 3 rfl rfl)
theorem dJ9_putVal_212 : decode cJ9_putVal 212 = .ok (.aload 10, 2) := dk_25 10 (dk_at dksJ9_putVal_9 6 rfl rfl)
theorem dJ9_putVal_214 : decode cJ9_putVal 214 = .ok (.astore 7, 2) := dk_58 7 (dk_at dksJ9_putVal_9 8 rfl rfl)
theorem dJ9_putVal_216 : decode cJ9_putVal 216 = .ok (.iinc 12 1, 3) := dk_132 12 1 (dk_at dksJ9_putVal_9 10 rfl rfl)
theorem dJ9_putVal_219 : decode cJ9_putVal 219 = .ok (.goto (-85), 3) := dk_167 255 171 (dk_at dksJ9_putVal_9 13 rfl rfl)
theorem dJ9_putVal_222 : decode cJ9_putVal 222 = .ok (.aload 10, 2) := dk_25 10 (dk_at dksJ9_putVal_9 16 rfl rfl)
theorem dJ9_putVal_224 : decode cJ9_putVal 224 = .ok (.ifnull 35, 3) := dk_198 0 35 (dk_at dksJ9_putVal_9 18 rfl rfl)
theorem dJ9_putVal_227 : decode cJ9_putVal 227 = .ok (.aload 10, 2) := dk_25 10 (dk_at dksJ9_putVal_9 21 rfl rfl)
theorem dJ9_putVal_229 : decode cJ9_putVal 229 = .ok (.getfield 162, 3) := dk_180 0 162 (dk_at dksJ9_putVal_10 0 rfl rfl)
theorem dJ9_putVal_232 : decode cJ9_putVal 232 = .ok (.astore 12, 2) := dk_58 12 (dk_at dksJ9_putVal_10 3 rfl rfl)
theorem dJ9_putVal_234 : decode cJ9_putVal 234 = .ok (.iload 4, 2) := dk_21 4 (dk_at dksJ9_putVal_10 5 rfl rfl)
theorem dJ9_putVal_236 : decode cJ9_putVal 236 = .ok (.ifCond .eq 8, 3) := dk_153 0 8 (dk_at dksJ9_putVal_10 7 rfl rfl)
theorem dJ9_putVal_239 : decode cJ9_putVal 239 = .ok (.aload 12, 2) := dk_25 12 (dk_at dksJ9_putVal_10 10 rfl rfl)
theorem dJ9_putVal_241 : decode cJ9_putVal 241 = .ok (.ifnonnull 9, 3) := dk_199 0 9 (dk_at dksJ9_putVal_10 12 rfl rfl)
theorem dJ9_putVal_244 : decode cJ9_putVal 244 = .ok (.aload 10, 2) := dk_25 10 (dk_at dksJ9_putVal_10 15 rfl rfl)
theorem dJ9_putVal_246 : decode cJ9_putVal 246 = .ok (.aload_n 3, 1) := dk_45 (dk_at dksJ9_putVal_10 17 rfl rfl)
theorem dJ9_putVal_247 : decode cJ9_putVal 247 = .ok (.putfield 162, 3) := dk_181 0 162 (dk_at dksJ9_putVal_10 18 rfl rfl)
theorem dJ9_putVal_250 : decode cJ9_putVal 250 = .ok (.aload_n 0, 1) := dk_42 (dk_at dksJ9_putVal_10 21 rfl rfl)
theorem dJ9_putVal_251 : decode cJ9_putVal 251 = .ok (.aload 10, 2) := dk_25 10 (dk_at dksJ9_putVal_10 22 rfl rfl)
theorem dJ9_putVal_253 : decode cJ9_putVal 253 = .ok (.invokevirtual 198, 3) := dk_182 0 198 (dk_at dksJ9_putVal_11 0 rfl rfl)
theorem dJ9_putVal_256 : decode cJ9_putVal 256 = .ok (.aload 12, 2) := dk_25 12 (dk_at dksJ9_putVal_11 3 rfl rfl)
theorem dJ9_putVal_258 : decode cJ9_putVal 258 = .ok (.areturn, 1) := dk_176 (dk_at dksJ9_putVal_11 5 rfl rfl)
theorem dJ9_putVal_259 : decode cJ9_putVal 259 = .ok (.aload_n 0, 1) := dk_42 (dk_at dksJ9_putVal_11 6 rfl rfl)
theorem dJ9_putVal_260 : decode cJ9_putVal 260 = .ok (.dup, 1) := dk_89 (dk_at dksJ9_putVal_11 7 rfl rfl)
theorem dJ9_putVal_261 : decode cJ9_putVal 261 = .ok (.getfield 202, 3) := dk_180 0 202 (dk_at dksJ9_putVal_11 8 rfl rfl)
theorem dJ9_putVal_264 : decode cJ9_putVal 264 = .ok (.iconst 1, 1) := dk_4 (dk_at dksJ9_putVal_11 11 rfl rfl)
theorem dJ9_putVal_265 : decode cJ9_putVal 265 = .ok (.iadd, 1) := dk_96 (dk_at dksJ9_putVal_11 12 rfl rfl)
theorem dJ9_putVal_266 : decode cJ9_putVal 266 = .ok (.putfield 202, 3) := dk_181 0 202 (dk_at dksJ9_putVal_11 13 rfl rfl)
theorem dJ9_putVal_269 : decode cJ9_putVal 269 = .ok (.aload_n 0, 1) := dk_42 (dk_at dksJ9_putVal_11 16 rfl rfl)
theorem dJ9_putVal_270 : decode cJ9_putVal 270 = .ok (.dup, 1) := dk_89 (dk_at dksJ9_putVal_11 17 rfl rfl)
theorem dJ9_putVal_271 : decode cJ9_putVal 271 = .ok (.getfield 156, 3) := dk_180 0 156 (dk_at dksJ9_putVal_11 18 rfl rfl)
theorem dJ9_putVal_274 : decode cJ9_putVal 274 = .ok (.iconst 1, 1) := dk_4 (dk_at dksJ9_putVal_11 21 rfl rfl)
theorem dJ9_putVal_275 : decode cJ9_putVal 275 = .ok (.iadd, 1) := dk_96 (dk_at dksJ9_putVal_11 22 rfl rfl)
theorem dJ9_putVal_276 : decode cJ9_putVal 276 = .ok (.dup_x1, 1) := dk_90 (dk_at dksJ9_putVal_11 23 rfl rfl)
theorem dJ9_putVal_277 : decode cJ9_putVal 277 = .ok (.putfield 156, 3) := dk_181 0 156 (dk_at dksJ9_putVal_12 0 rfl rfl)
theorem dJ9_putVal_280 : decode cJ9_putVal 280 = .ok (.aload_n 0, 1) := dk_42 (dk_at dksJ9_putVal_12 3 rfl rfl)
theorem dJ9_putVal_281 : decode cJ9_putVal 281 = .ok (.getfield 88, 3) := dk_180 0 88 (dk_at dksJ9_putVal_12 4 rfl rfl)
theorem dJ9_putVal_284 : decode cJ9_putVal 284 = .ok (.if_icmp .le 8, 3) := dk_164 0 8 (dk_at dksJ9_putVal_12 7 rfl rfl)
theorem dJ9_putVal_287 : decode cJ9_putVal 287 = .ok (.aload_n 0, 1) := dk_42 (dk_at dksJ9_putVal_12 10 rfl rfl)
theorem dJ9_putVal_288 : decode cJ9_putVal 288 = .ok (.invokevirtual 117, 3) := dk_182 0 117 (dk_at dksJ9_putVal_12 11 rfl rfl)
theorem dJ9_putVal_291 : decode cJ9_putVal 291 = .ok (.pop, 1) := dk_87 (dk_at dksJ9_putVal_12 14 rfl rfl)
theorem dJ9_putVal_292 : decode cJ9_putVal 292 = .ok (.aload_n 0, 1) := dk_42 (dk_at dksJ9_putVal_12 15 rfl rfl)
theorem dJ9_putVal_293 : decode cJ9_putVal 293 = .ok (.iload 5, 2) := dk_21 5 (dk_at dksJ9_putVal_12 16 rfl rfl)
theorem dJ9_putVal_295 : decode cJ9_putVal 295 = .ok (.invokevirtual 205, 3) := dk_182 0 205 (dk_at dksJ9_putVal_12 18 rfl rfl)
theorem dJ9_putVal_298 : decode cJ9_putVal 298 = .ok (.aconst_null, 1) := dk_1 (dk_at dksJ9_putVal_12 21 rfl rfl)
theorem dJ9_putVal_299 : decode cJ9_putVal 299 = .ok (.areturn, 1) := dk_176 (dk_at dksJ9_putVal_12 22 rfl rfl)
abbrev cJ9_resize : ByteArray := prog_49_method_17_code
def yJ9_resize : MethodName := ⟨RJ9, "resize", "()[Ljava/util/HashMap$Node;"⟩
def dkwJ9_resize_15 : List UInt8 := [25, 6, 176]
abbrev dktJ9_resize_15 : List UInt8 := dkwJ9_resize_15 ++ []
def dkwJ9_resize_14 : List UInt8 := [198, 0, 18, 25, 12, 1, 181, 0, 177, 25, 6, 21, 7, 28, 96, 25, 11, 83, 132, 7, 1, 167, 255, 57]
abbrev dktJ9_resize_14 : List UInt8 := dkwJ9_resize_14 ++ dktJ9_resize_15
def dkwJ9_resize_13 : List UInt8 := [199, 255, 185, 25, 10, 198, 0, 16, 25, 10, 1, 181, 0, 177, 25, 6, 21, 7, 25, 9, 83, 25, 12]
abbrev dktJ9_resize_13 : List UInt8 := dkwJ9_resize_13 ++ dktJ9_resize_14
def dkwJ9_resize_12 : List UInt8 := [25, 8, 58, 11, 167, 0, 10, 25, 12, 25, 8, 181, 0, 177, 25, 8, 58, 12, 25, 13, 89, 58, 8]
abbrev dktJ9_resize_12 : List UInt8 := dkwJ9_resize_12 ++ dktJ9_resize_13
def dkwJ9_resize_11 : List UInt8 := [58, 9, 167, 0, 10, 25, 10, 25, 8, 181, 0, 177, 25, 8, 58, 10, 167, 0, 26, 25, 12, 199, 0, 10]
abbrev dktJ9_resize_11 : List UInt8 := dkwJ9_resize_11 ++ dktJ9_resize_12
def dkwJ9_resize_10 : List UInt8 := [25, 8, 180, 0, 177, 58, 13, 25, 8, 180, 0, 168, 28, 126, 154, 0, 29, 25, 10, 199, 0, 10, 25, 8]
abbrev dktJ9_resize_10 : List UInt8 := dkwJ9_resize_10 ++ dktJ9_resize_11
def dkwJ9_resize_9 : List UInt8 := [42, 25, 6, 21, 7, 28, 182, 0, 211, 167, 0, 127, 1, 58, 9, 1, 58, 10, 1, 58, 11, 1, 58, 12]
abbrev dktJ9_resize_9 : List UInt8 := dkwJ9_resize_9 ++ dktJ9_resize_10
def dkwJ9_resize_8 : List UInt8 := [21, 4, 4, 100, 126, 25, 8, 83, 167, 0, 152, 25, 8, 193, 0, 180, 153, 0, 20, 25, 8, 192, 0, 180]
abbrev dktJ9_resize_8 : List UInt8 := dkwJ9_resize_8 ++ dktJ9_resize_9
def dkwJ9_resize_7 : List UInt8 := [198, 0, 183, 43, 21, 7, 1, 83, 25, 8, 180, 0, 177, 199, 0, 21, 25, 6, 25, 8, 180, 0, 168]
abbrev dktJ9_resize_7 : List UInt8 := dkwJ9_resize_7 ++ dktJ9_resize_8
def dkwJ9_resize_6 : List UInt8 := [181, 0, 105, 43, 198, 0, 208, 3, 54, 7, 21, 7, 28, 162, 0, 199, 43, 21, 7, 50, 89, 58, 8]
abbrev dktJ9_resize_6 : List UInt8 := dkwJ9_resize_6 ++ dktJ9_resize_7
def dkwJ9_resize_5 : List UInt8 := [167, 0, 5, 18, 209, 54, 5, 42, 21, 5, 181, 0, 88, 21, 4, 189, 0, 163, 58, 6, 42, 25, 6]
abbrev dktJ9_resize_5 : List UInt8 := dkwJ9_resize_5 ++ dktJ9_resize_6
def dkwJ9_resize_4 : List UInt8 := [180, 0, 81, 106, 56, 6, 21, 4, 18, 42, 162, 0, 17, 23, 6, 18, 210, 150, 156, 0, 9, 23, 6, 139]
abbrev dktJ9_resize_4 : List UInt8 := dkwJ9_resize_4 ++ dktJ9_resize_5
def dkwJ9_resize_3 : List UInt8 := [54, 4, 167, 0, 11, 16, 16, 54, 4, 16, 12, 54, 5, 21, 5, 154, 0, 38, 21, 4, 134, 42]
abbrev dktJ9_resize_3 : List UInt8 := dkwJ9_resize_3 ++ dktJ9_resize_4
def dkwJ9_resize_2 : List UInt8 := [18, 42, 162, 0, 35, 28, 16, 16, 161, 0, 29, 29, 4, 120, 54, 5, 167, 0, 21, 29, 158, 0, 9, 29]
abbrev dktJ9_resize_2 : List UInt8 := dkwJ9_resize_2 ++ dktJ9_resize_3
def dkwJ9_resize_1 : List UInt8 := [28, 158, 0, 42, 28, 18, 42, 161, 0, 11, 42, 18, 209, 181, 0, 88, 43, 176, 28, 4, 120, 89, 54, 4]
abbrev dktJ9_resize_1 : List UInt8 := dkwJ9_resize_1 ++ dktJ9_resize_2
def dkwJ9_resize_0 : List UInt8 := [42, 180, 0, 105, 76, 43, 199, 0, 7, 3, 167, 0, 5, 43, 190, 61, 42, 180, 0, 88, 62, 3, 54, 5]
abbrev dktJ9_resize_0 : List UInt8 := dkwJ9_resize_0 ++ dktJ9_resize_1
theorem dksJ9_resize_0 : cJ9_resize.data.toList.drop 0 = dktJ9_resize_0 := by decide +kernel
theorem dksJ9_resize_1 : cJ9_resize.data.toList.drop 24 = dktJ9_resize_1 := dk_seg dksJ9_resize_0 24 rfl rfl
theorem dksJ9_resize_2 : cJ9_resize.data.toList.drop 48 = dktJ9_resize_2 := dk_seg dksJ9_resize_1 24 rfl rfl
theorem dksJ9_resize_3 : cJ9_resize.data.toList.drop 72 = dktJ9_resize_3 := dk_seg dksJ9_resize_2 24 rfl rfl
theorem dksJ9_resize_4 : cJ9_resize.data.toList.drop 94 = dktJ9_resize_4 := dk_seg dksJ9_resize_3 22 rfl rfl
theorem dksJ9_resize_5 : cJ9_resize.data.toList.drop 118 = dktJ9_resize_5 := dk_seg dksJ9_resize_4 24 rfl rfl
theorem dksJ9_resize_6 : cJ9_resize.data.toList.drop 141 = dktJ9_resize_6 := dk_seg dksJ9_resize_5 23 rfl rfl
theorem dksJ9_resize_7 : cJ9_resize.data.toList.drop 164 = dktJ9_resize_7 := dk_seg dksJ9_resize_6 23 rfl rfl
theorem dksJ9_resize_8 : cJ9_resize.data.toList.drop 187 = dktJ9_resize_8 := dk_seg dksJ9_resize_7 23 rfl rfl
theorem dksJ9_resize_9 : cJ9_resize.data.toList.drop 211 = dktJ9_resize_9 := dk_seg dksJ9_resize_8 24 rfl rfl
theorem dksJ9_resize_10 : cJ9_resize.data.toList.drop 235 = dktJ9_resize_10 := dk_seg dksJ9_resize_9 24 rfl rfl
theorem dksJ9_resize_11 : cJ9_resize.data.toList.drop 259 = dktJ9_resize_11 := dk_seg dksJ9_resize_10 24 rfl rfl
theorem dksJ9_resize_12 : cJ9_resize.data.toList.drop 283 = dktJ9_resize_12 := dk_seg dksJ9_resize_11 24 rfl rfl
theorem dksJ9_resize_13 : cJ9_resize.data.toList.drop 306 = dktJ9_resize_13 := dk_seg dksJ9_resize_12 23 rfl rfl
theorem dksJ9_resize_14 : cJ9_resize.data.toList.drop 329 = dktJ9_resize_14 := dk_seg dksJ9_resize_13 23 rfl rfl
theorem dksJ9_resize_15 : cJ9_resize.data.toList.drop 353 = dktJ9_resize_15 := dk_seg dksJ9_resize_14 24 rfl rfl
theorem dJ9_resize_0 : decode cJ9_resize 0 = .ok (.aload_n 0, 1) := dk_42 (dk_at dksJ9_resize_0 0 rfl rfl)
theorem dJ9_resize_1 : decode cJ9_resize 1 = .ok (.getfield 105, 3) := dk_180 0 105 (dk_at dksJ9_resize_0 1 rfl rfl)
theorem dJ9_resize_4 : decode cJ9_resize 4 = .ok (.astore_n 1, 1) := dk_76 (dk_at dksJ9_resize_0 4 rfl rfl)
theorem dJ9_resize_5 : decode cJ9_resize 5 = .ok (.aload_n 1, 1) := dk_43 (dk_at dksJ9_resize_0 5 rfl rfl)
theorem dJ9_resize_6 : decode cJ9_resize 6 = .ok (.ifnonnull 7, 3) := dk_199 0 7 (dk_at dksJ9_resize_0 6 rfl rfl)
theorem dJ9_resize_9 : decode cJ9_resize 9 = .ok (.iconst 0, 1) := dk_3 (dk_at dksJ9_resize_0 9 rfl rfl)
theorem dJ9_resize_10 : decode cJ9_resize 10 = .ok (.goto 5, 3) := dk_167 0 5 (dk_at dksJ9_resize_0 10 rfl rfl)
theorem dJ9_resize_13 : decode cJ9_resize 13 = .ok (.aload_n 1, 1) := dk_43 (dk_at dksJ9_resize_0 13 rfl rfl)
theorem dJ9_resize_14 : decode cJ9_resize 14 = .ok (.arraylength, 1) := dk_190 (dk_at dksJ9_resize_0 14 rfl rfl)
theorem dJ9_resize_15 : decode cJ9_resize 15 = .ok (.istore_n 2, 1) := dk_61 (dk_at dksJ9_resize_0 15 rfl rfl)
theorem dJ9_resize_16 : decode cJ9_resize 16 = .ok (.aload_n 0, 1) := dk_42 (dk_at dksJ9_resize_0 16 rfl rfl)
theorem dJ9_resize_17 : decode cJ9_resize 17 = .ok (.getfield 88, 3) := dk_180 0 88 (dk_at dksJ9_resize_0 17 rfl rfl)
theorem dJ9_resize_20 : decode cJ9_resize 20 = .ok (.istore_n 3, 1) := dk_62 (dk_at dksJ9_resize_0 20 rfl rfl)
theorem dJ9_resize_21 : decode cJ9_resize 21 = .ok (.iconst 0, 1) := dk_3 (dk_at dksJ9_resize_0 21 rfl rfl)
theorem dJ9_resize_22 : decode cJ9_resize 22 = .ok (.istore 5, 2) := dk_54 5 (dk_at dksJ9_resize_0 22 rfl rfl)
theorem dJ9_resize_24 : decode cJ9_resize 24 = .ok (.iload_n 2, 1) := dk_28 (dk_at dksJ9_resize_1 0 rfl rfl)
theorem dJ9_resize_25 : decode cJ9_resize 25 = .ok (.ifCond .le 42, 3) := dk_158 0 42 (dk_at dksJ9_resize_1 1 rfl rfl)
theorem dJ9_resize_28 : decode cJ9_resize 28 = .ok (.iload_n 2, 1) := dk_28 (dk_at dksJ9_resize_1 4 rfl rfl)
theorem dJ9_resize_29 : decode cJ9_resize 29 = .ok (.ldc 42, 2) := dk_18 42 (dk_at dksJ9_resize_1 5 rfl rfl)
theorem dJ9_resize_31 : decode cJ9_resize 31 = .ok (.if_icmp .lt 11, 3) := dk_161 0 11 (dk_at dksJ9_resize_1 7 rfl rfl)
theorem dJ9_resize_34 : decode cJ9_resize 34 = .ok (.aload_n 0, 1) := dk_42 (dk_at dksJ9_resize_1 10 rfl rfl)
theorem dJ9_resize_35 : decode cJ9_resize 35 = .ok (.ldc 209, 2) := dk_18 209 (dk_at dksJ9_resize_1 11 rfl rfl)
theorem dJ9_resize_37 : decode cJ9_resize 37 = .ok (.putfield 88, 3) := dk_181 0 88 (dk_at dksJ9_resize_1 13 rfl rfl)
theorem dJ9_resize_40 : decode cJ9_resize 40 = .ok (.aload_n 1, 1) := dk_43 (dk_at dksJ9_resize_1 16 rfl rfl)
theorem dJ9_resize_41 : decode cJ9_resize 41 = .ok (.areturn, 1) := dk_176 (dk_at dksJ9_resize_1 17 rfl rfl)
theorem dJ9_resize_42 : decode cJ9_resize 42 = .ok (.iload_n 2, 1) := dk_28 (dk_at dksJ9_resize_1 18 rfl rfl)
theorem dJ9_resize_43 : decode cJ9_resize 43 = .ok (.iconst 1, 1) := dk_4 (dk_at dksJ9_resize_1 19 rfl rfl)
theorem dJ9_resize_44 : decode cJ9_resize 44 = .ok (.ishl, 1) := dk_120 (dk_at dksJ9_resize_1 20 rfl rfl)
theorem dJ9_resize_45 : decode cJ9_resize 45 = .ok (.dup, 1) := dk_89 (dk_at dksJ9_resize_1 21 rfl rfl)
theorem dJ9_resize_46 : decode cJ9_resize 46 = .ok (.istore 4, 2) := dk_54 4 (dk_at dksJ9_resize_1 22 rfl rfl)
theorem dJ9_resize_48 : decode cJ9_resize 48 = .ok (.ldc 42, 2) := dk_18 42 (dk_at dksJ9_resize_2 0 rfl rfl)
theorem dJ9_resize_50 : decode cJ9_resize 50 = .ok (.if_icmp .ge 35, 3) := dk_162 0 35 (dk_at dksJ9_resize_2 2 rfl rfl)
theorem dJ9_resize_53 : decode cJ9_resize 53 = .ok (.iload_n 2, 1) := dk_28 (dk_at dksJ9_resize_2 5 rfl rfl)
theorem dJ9_resize_54 : decode cJ9_resize 54 = .ok (.bipush 16, 2) := dk_16 16 (dk_at dksJ9_resize_2 6 rfl rfl)
theorem dJ9_resize_56 : decode cJ9_resize 56 = .ok (.if_icmp .lt 29, 3) := dk_161 0 29 (dk_at dksJ9_resize_2 8 rfl rfl)
theorem dJ9_resize_59 : decode cJ9_resize 59 = .ok (.iload_n 3, 1) := dk_29 (dk_at dksJ9_resize_2 11 rfl rfl)
theorem dJ9_resize_60 : decode cJ9_resize 60 = .ok (.iconst 1, 1) := dk_4 (dk_at dksJ9_resize_2 12 rfl rfl)
theorem dJ9_resize_61 : decode cJ9_resize 61 = .ok (.ishl, 1) := dk_120 (dk_at dksJ9_resize_2 13 rfl rfl)
theorem dJ9_resize_62 : decode cJ9_resize 62 = .ok (.istore 5, 2) := dk_54 5 (dk_at dksJ9_resize_2 14 rfl rfl)
theorem dJ9_resize_64 : decode cJ9_resize 64 = .ok (.goto 21, 3) := dk_167 0 21 (dk_at dksJ9_resize_2 16 rfl rfl)
theorem dJ9_resize_67 : decode cJ9_resize 67 = .ok (.iload_n 3, 1) := dk_29 (dk_at dksJ9_resize_2 19 rfl rfl)
theorem dJ9_resize_68 : decode cJ9_resize 68 = .ok (.ifCond .le 9, 3) := dk_158 0 9 (dk_at dksJ9_resize_2 20 rfl rfl)
theorem dJ9_resize_71 : decode cJ9_resize 71 = .ok (.iload_n 3, 1) := dk_29 (dk_at dksJ9_resize_2 23 rfl rfl)
theorem dJ9_resize_72 : decode cJ9_resize 72 = .ok (.istore 4, 2) := dk_54 4 (dk_at dksJ9_resize_3 0 rfl rfl)
theorem dJ9_resize_74 : decode cJ9_resize 74 = .ok (.goto 11, 3) := dk_167 0 11 (dk_at dksJ9_resize_3 2 rfl rfl)
theorem dJ9_resize_77 : decode cJ9_resize 77 = .ok (.bipush 16, 2) := dk_16 16 (dk_at dksJ9_resize_3 5 rfl rfl)
theorem dJ9_resize_79 : decode cJ9_resize 79 = .ok (.istore 4, 2) := dk_54 4 (dk_at dksJ9_resize_3 7 rfl rfl)
theorem dJ9_resize_81 : decode cJ9_resize 81 = .ok (.bipush 12, 2) := dk_16 12 (dk_at dksJ9_resize_3 9 rfl rfl)
theorem dJ9_resize_83 : decode cJ9_resize 83 = .ok (.istore 5, 2) := dk_54 5 (dk_at dksJ9_resize_3 11 rfl rfl)
theorem dJ9_resize_85 : decode cJ9_resize 85 = .ok (.iload 5, 2) := dk_21 5 (dk_at dksJ9_resize_3 13 rfl rfl)
theorem dJ9_resize_87 : decode cJ9_resize 87 = .ok (.ifCond .ne 38, 3) := dk_154 0 38 (dk_at dksJ9_resize_3 15 rfl rfl)
theorem dJ9_resize_90 : decode cJ9_resize 90 = .ok (.iload 4, 2) := dk_21 4 (dk_at dksJ9_resize_3 18 rfl rfl)
theorem dJ9_resize_92 : decode cJ9_resize 92 = .ok (.i2f, 1) := dk_134 (dk_at dksJ9_resize_3 20 rfl rfl)
theorem dJ9_resize_93 : decode cJ9_resize 93 = .ok (.aload_n 0, 1) := dk_42 (dk_at dksJ9_resize_3 21 rfl rfl)
theorem dJ9_resize_94 : decode cJ9_resize 94 = .ok (.getfield 81, 3) := dk_180 0 81 (dk_at dksJ9_resize_4 0 rfl rfl)
theorem dJ9_resize_97 : decode cJ9_resize 97 = .ok (.fmul, 1) := dk_106 (dk_at dksJ9_resize_4 3 rfl rfl)
theorem dJ9_resize_98 : decode cJ9_resize 98 = .ok (.fstore 6, 2) := dk_56 6 (dk_at dksJ9_resize_4 4 rfl rfl)
theorem dJ9_resize_100 : decode cJ9_resize 100 = .ok (.iload 4, 2) := dk_21 4 (dk_at dksJ9_resize_4 6 rfl rfl)
theorem dJ9_resize_102 : decode cJ9_resize 102 = .ok (.ldc 42, 2) := dk_18 42 (dk_at dksJ9_resize_4 8 rfl rfl)
theorem dJ9_resize_104 : decode cJ9_resize 104 = .ok (.if_icmp .ge 17, 3) := dk_162 0 17 (dk_at dksJ9_resize_4 10 rfl rfl)
theorem dJ9_resize_107 : decode cJ9_resize 107 = .ok (.fload 6, 2) := dk_23 6 (dk_at dksJ9_resize_4 13 rfl rfl)
theorem dJ9_resize_109 : decode cJ9_resize 109 = .ok (.ldc 210, 2) := dk_18 210 (dk_at dksJ9_resize_4 15 rfl rfl)
theorem dJ9_resize_111 : decode cJ9_resize 111 = .ok (.fcmp .g, 1) := dk_150 (dk_at dksJ9_resize_4 17 rfl rfl)
theorem dJ9_resize_112 : decode cJ9_resize 112 = .ok (.ifCond .ge 9, 3) := dk_156 0 9 (dk_at dksJ9_resize_4 18 rfl rfl)
theorem dJ9_resize_115 : decode cJ9_resize 115 = .ok (.fload 6, 2) := dk_23 6 (dk_at dksJ9_resize_4 21 rfl rfl)
theorem dJ9_resize_117 : decode cJ9_resize 117 = .ok (.f2i, 1) := dk_139 (dk_at dksJ9_resize_4 23 rfl rfl)
theorem dJ9_resize_118 : decode cJ9_resize 118 = .ok (.goto 5, 3) := dk_167 0 5 (dk_at dksJ9_resize_5 0 rfl rfl)
theorem dJ9_resize_121 : decode cJ9_resize 121 = .ok (.ldc 209, 2) := dk_18 209 (dk_at dksJ9_resize_5 3 rfl rfl)
theorem dJ9_resize_123 : decode cJ9_resize 123 = .ok (.istore 5, 2) := dk_54 5 (dk_at dksJ9_resize_5 5 rfl rfl)
theorem dJ9_resize_125 : decode cJ9_resize 125 = .ok (.aload_n 0, 1) := dk_42 (dk_at dksJ9_resize_5 7 rfl rfl)
theorem dJ9_resize_126 : decode cJ9_resize 126 = .ok (.iload 5, 2) := dk_21 5 (dk_at dksJ9_resize_5 8 rfl rfl)
theorem dJ9_resize_128 : decode cJ9_resize 128 = .ok (.putfield 88, 3) := dk_181 0 88 (dk_at dksJ9_resize_5 10 rfl rfl)
theorem dJ9_resize_131 : decode cJ9_resize 131 = .ok (.iload 4, 2) := dk_21 4 (dk_at dksJ9_resize_5 13 rfl rfl)
theorem dJ9_resize_133 : decode cJ9_resize 133 = .ok (.anewarray 163, 3) := dk_189 0 163 (dk_at dksJ9_resize_5 15 rfl rfl)
theorem dJ9_resize_136 : decode cJ9_resize 136 = .ok (.astore 6, 2) := dk_58 6 (dk_at dksJ9_resize_5 18 rfl rfl)
theorem dJ9_resize_138 : decode cJ9_resize 138 = .ok (.aload_n 0, 1) := dk_42 (dk_at dksJ9_resize_5 20 rfl rfl)
theorem dJ9_resize_139 : decode cJ9_resize 139 = .ok (.aload 6, 2) := dk_25 6 (dk_at dksJ9_resize_5 21 rfl rfl)
theorem dJ9_resize_141 : decode cJ9_resize 141 = .ok (.putfield 105, 3) := dk_181 0 105 (dk_at dksJ9_resize_6 0 rfl rfl)
theorem dJ9_resize_144 : decode cJ9_resize 144 = .ok (.aload_n 1, 1) := dk_43 (dk_at dksJ9_resize_6 3 rfl rfl)
theorem dJ9_resize_145 : decode cJ9_resize 145 = .ok (.ifnull 208, 3) := dk_198 0 208 (dk_at dksJ9_resize_6 4 rfl rfl)
theorem dJ9_resize_148 : decode cJ9_resize 148 = .ok (.iconst 0, 1) := dk_3 (dk_at dksJ9_resize_6 7 rfl rfl)
theorem dJ9_resize_149 : decode cJ9_resize 149 = .ok (.istore 7, 2) := dk_54 7 (dk_at dksJ9_resize_6 8 rfl rfl)
theorem dJ9_resize_151 : decode cJ9_resize 151 = .ok (.iload 7, 2) := dk_21 7 (dk_at dksJ9_resize_6 10 rfl rfl)
theorem dJ9_resize_153 : decode cJ9_resize 153 = .ok (.iload_n 2, 1) := dk_28 (dk_at dksJ9_resize_6 12 rfl rfl)
theorem dJ9_resize_154 : decode cJ9_resize 154 = .ok (.if_icmp .ge 199, 3) := dk_162 0 199 (dk_at dksJ9_resize_6 13 rfl rfl)
theorem dJ9_resize_157 : decode cJ9_resize 157 = .ok (.aload_n 1, 1) := dk_43 (dk_at dksJ9_resize_6 16 rfl rfl)
theorem dJ9_resize_158 : decode cJ9_resize 158 = .ok (.iload 7, 2) := dk_21 7 (dk_at dksJ9_resize_6 17 rfl rfl)
theorem dJ9_resize_160 : decode cJ9_resize 160 = .ok (.aaload, 1) := dk_50 (dk_at dksJ9_resize_6 19 rfl rfl)
theorem dJ9_resize_161 : decode cJ9_resize 161 = .ok (.dup, 1) := dk_89 (dk_at dksJ9_resize_6 20 rfl rfl)
theorem dJ9_resize_162 : decode cJ9_resize 162 = .ok (.astore 8, 2) := dk_58 8 (dk_at dksJ9_resize_6 21 rfl rfl)
theorem dJ9_resize_164 : decode cJ9_resize 164 = .ok (.ifnull 183, 3) := dk_198 0 183 (dk_at dksJ9_resize_7 0 rfl rfl)
theorem dJ9_resize_167 : decode cJ9_resize 167 = .ok (.aload_n 1, 1) := dk_43 (dk_at dksJ9_resize_7 3 rfl rfl)
theorem dJ9_resize_168 : decode cJ9_resize 168 = .ok (.iload 7, 2) := dk_21 7 (dk_at dksJ9_resize_7 4 rfl rfl)
theorem dJ9_resize_170 : decode cJ9_resize 170 = .ok (.aconst_null, 1) := dk_1 (dk_at dksJ9_resize_7 6 rfl rfl)
theorem dJ9_resize_171 : decode cJ9_resize 171 = .ok (.aastore, 1) := dk_83 (dk_at dksJ9_resize_7 7 rfl rfl)
theorem dJ9_resize_172 : decode cJ9_resize 172 = .ok (.aload 8, 2) := dk_25 8 (dk_at dksJ9_resize_7 8 rfl rfl)
theorem dJ9_resize_174 : decode cJ9_resize 174 = .ok (.getfield 177, 3) := dk_180 0 177 (dk_at dksJ9_resize_7 10 rfl rfl)
theorem dJ9_resize_177 : decode cJ9_resize 177 = .ok (.ifnonnull 21, 3) := dk_199 0 21 (dk_at dksJ9_resize_7 13 rfl rfl)
theorem dJ9_resize_180 : decode cJ9_resize 180 = .ok (.aload 6, 2) := dk_25 6 (dk_at dksJ9_resize_7 16 rfl rfl)
theorem dJ9_resize_182 : decode cJ9_resize 182 = .ok (.aload 8, 2) := dk_25 8 (dk_at dksJ9_resize_7 18 rfl rfl)
theorem dJ9_resize_184 : decode cJ9_resize 184 = .ok (.getfield 168, 3) := dk_180 0 168 (dk_at dksJ9_resize_7 20 rfl rfl)
theorem dJ9_resize_187 : decode cJ9_resize 187 = .ok (.iload 4, 2) := dk_21 4 (dk_at dksJ9_resize_8 0 rfl rfl)
theorem dJ9_resize_189 : decode cJ9_resize 189 = .ok (.iconst 1, 1) := dk_4 (dk_at dksJ9_resize_8 2 rfl rfl)
theorem dJ9_resize_190 : decode cJ9_resize 190 = .ok (.isub, 1) := dk_100 (dk_at dksJ9_resize_8 3 rfl rfl)
theorem dJ9_resize_191 : decode cJ9_resize 191 = .ok (.iand, 1) := dk_126 (dk_at dksJ9_resize_8 4 rfl rfl)
theorem dJ9_resize_192 : decode cJ9_resize 192 = .ok (.aload 8, 2) := dk_25 8 (dk_at dksJ9_resize_8 5 rfl rfl)
theorem dJ9_resize_194 : decode cJ9_resize 194 = .ok (.aastore, 1) := dk_83 (dk_at dksJ9_resize_8 7 rfl rfl)
theorem dJ9_resize_195 : decode cJ9_resize 195 = .ok (.goto 152, 3) := dk_167 0 152 (dk_at dksJ9_resize_8 8 rfl rfl)
theorem dJ9_resize_198 : decode cJ9_resize 198 = .ok (.aload 8, 2) := dk_25 8 (dk_at dksJ9_resize_8 11 rfl rfl)
theorem dJ9_resize_200 : decode cJ9_resize 200 = .ok (.instanceof 180, 3) := dk_193 0 180 (dk_at dksJ9_resize_8 13 rfl rfl)
theorem dJ9_resize_203 : decode cJ9_resize 203 = .ok (.ifCond .eq 20, 3) := dk_153 0 20 (dk_at dksJ9_resize_8 16 rfl rfl)
theorem dJ9_resize_206 : decode cJ9_resize 206 = .ok (.aload 8, 2) := dk_25 8 (dk_at dksJ9_resize_8 19 rfl rfl)
theorem dJ9_resize_208 : decode cJ9_resize 208 = .ok (.checkcast 180, 3) := dk_192 0 180 (dk_at dksJ9_resize_8 21 rfl rfl)
theorem dJ9_resize_211 : decode cJ9_resize 211 = .ok (.aload_n 0, 1) := dk_42 (dk_at dksJ9_resize_9 0 rfl rfl)
theorem dJ9_resize_212 : decode cJ9_resize 212 = .ok (.aload 6, 2) := dk_25 6 (dk_at dksJ9_resize_9 1 rfl rfl)
theorem dJ9_resize_214 : decode cJ9_resize 214 = .ok (.iload 7, 2) := dk_21 7 (dk_at dksJ9_resize_9 3 rfl rfl)
theorem dJ9_resize_216 : decode cJ9_resize 216 = .ok (.iload_n 2, 1) := dk_28 (dk_at dksJ9_resize_9 5 rfl rfl)
theorem dJ9_resize_217 : decode cJ9_resize 217 = .ok (.invokevirtual 211, 3) := dk_182 0 211 (dk_at dksJ9_resize_9 6 rfl rfl)
theorem dJ9_resize_220 : decode cJ9_resize 220 = .ok (.goto 127, 3) := dk_167 0 127 (dk_at dksJ9_resize_9 9 rfl rfl)
theorem dJ9_resize_223 : decode cJ9_resize 223 = .ok (.aconst_null, 1) := dk_1 (dk_at dksJ9_resize_9 12 rfl rfl)
theorem dJ9_resize_224 : decode cJ9_resize 224 = .ok (.astore 9, 2) := dk_58 9 (dk_at dksJ9_resize_9 13 rfl rfl)
theorem dJ9_resize_226 : decode cJ9_resize 226 = .ok (.aconst_null, 1) := dk_1 (dk_at dksJ9_resize_9 15 rfl rfl)
theorem dJ9_resize_227 : decode cJ9_resize 227 = .ok (.astore 10, 2) := dk_58 10 (dk_at dksJ9_resize_9 16 rfl rfl)
theorem dJ9_resize_229 : decode cJ9_resize 229 = .ok (.aconst_null, 1) := dk_1 (dk_at dksJ9_resize_9 18 rfl rfl)
theorem dJ9_resize_230 : decode cJ9_resize 230 = .ok (.astore 11, 2) := dk_58 11 (dk_at dksJ9_resize_9 19 rfl rfl)
theorem dJ9_resize_232 : decode cJ9_resize 232 = .ok (.aconst_null, 1) := dk_1 (dk_at dksJ9_resize_9 21 rfl rfl)
theorem dJ9_resize_233 : decode cJ9_resize 233 = .ok (.astore 12, 2) := dk_58 12 (dk_at dksJ9_resize_9 22 rfl rfl)
theorem dJ9_resize_235 : decode cJ9_resize 235 = .ok (.aload 8, 2) := dk_25 8 (dk_at dksJ9_resize_10 0 rfl rfl)
theorem dJ9_resize_237 : decode cJ9_resize 237 = .ok (.getfield 177, 3) := dk_180 0 177 (dk_at dksJ9_resize_10 2 rfl rfl)
theorem dJ9_resize_240 : decode cJ9_resize 240 = .ok (.astore 13, 2) := dk_58 13 (dk_at dksJ9_resize_10 5 rfl rfl)
theorem dJ9_resize_242 : decode cJ9_resize 242 = .ok (.aload 8, 2) := dk_25 8 (dk_at dksJ9_resize_10 7 rfl rfl)
theorem dJ9_resize_244 : decode cJ9_resize 244 = .ok (.getfield 168, 3) := dk_180 0 168 (dk_at dksJ9_resize_10 9 rfl rfl)
theorem dJ9_resize_247 : decode cJ9_resize 247 = .ok (.iload_n 2, 1) := dk_28 (dk_at dksJ9_resize_10 12 rfl rfl)
theorem dJ9_resize_248 : decode cJ9_resize 248 = .ok (.iand, 1) := dk_126 (dk_at dksJ9_resize_10 13 rfl rfl)
theorem dJ9_resize_249 : decode cJ9_resize 249 = .ok (.ifCond .ne 29, 3) := dk_154 0 29 (dk_at dksJ9_resize_10 14 rfl rfl)
theorem dJ9_resize_252 : decode cJ9_resize 252 = .ok (.aload 10, 2) := dk_25 10 (dk_at dksJ9_resize_10 17 rfl rfl)
theorem dJ9_resize_254 : decode cJ9_resize 254 = .ok (.ifnonnull 10, 3) := dk_199 0 10 (dk_at dksJ9_resize_10 19 rfl rfl)
theorem dJ9_resize_257 : decode cJ9_resize 257 = .ok (.aload 8, 2) := dk_25 8 (dk_at dksJ9_resize_10 22 rfl rfl)
theorem dJ9_resize_259 : decode cJ9_resize 259 = .ok (.astore 9, 2) := dk_58 9 (dk_at dksJ9_resize_11 0 rfl rfl)
theorem dJ9_resize_261 : decode cJ9_resize 261 = .ok (.goto 10, 3) := dk_167 0 10 (dk_at dksJ9_resize_11 2 rfl rfl)
theorem dJ9_resize_264 : decode cJ9_resize 264 = .ok (.aload 10, 2) := dk_25 10 (dk_at dksJ9_resize_11 5 rfl rfl)
theorem dJ9_resize_266 : decode cJ9_resize 266 = .ok (.aload 8, 2) := dk_25 8 (dk_at dksJ9_resize_11 7 rfl rfl)
theorem dJ9_resize_268 : decode cJ9_resize 268 = .ok (.putfield 177, 3) := dk_181 0 177 (dk_at dksJ9_resize_11 9 rfl rfl)
theorem dJ9_resize_271 : decode cJ9_resize 271 = .ok (.aload 8, 2) := dk_25 8 (dk_at dksJ9_resize_11 12 rfl rfl)
theorem dJ9_resize_273 : decode cJ9_resize 273 = .ok (.astore 10, 2) := dk_58 10 (dk_at dksJ9_resize_11 14 rfl rfl)
theorem dJ9_resize_275 : decode cJ9_resize 275 = .ok (.goto 26, 3) := dk_167 0 26 (dk_at dksJ9_resize_11 16 rfl rfl)
theorem dJ9_resize_278 : decode cJ9_resize 278 = .ok (.aload 12, 2) := dk_25 12 (dk_at dksJ9_resize_11 19 rfl rfl)
theorem dJ9_resize_280 : decode cJ9_resize 280 = .ok (.ifnonnull 10, 3) := dk_199 0 10 (dk_at dksJ9_resize_11 21 rfl rfl)
theorem dJ9_resize_283 : decode cJ9_resize 283 = .ok (.aload 8, 2) := dk_25 8 (dk_at dksJ9_resize_12 0 rfl rfl)
theorem dJ9_resize_285 : decode cJ9_resize 285 = .ok (.astore 11, 2) := dk_58 11 (dk_at dksJ9_resize_12 2 rfl rfl)
theorem dJ9_resize_287 : decode cJ9_resize 287 = .ok (.goto 10, 3) := dk_167 0 10 (dk_at dksJ9_resize_12 4 rfl rfl)
theorem dJ9_resize_290 : decode cJ9_resize 290 = .ok (.aload 12, 2) := dk_25 12 (dk_at dksJ9_resize_12 7 rfl rfl)
theorem dJ9_resize_292 : decode cJ9_resize 292 = .ok (.aload 8, 2) := dk_25 8 (dk_at dksJ9_resize_12 9 rfl rfl)
theorem dJ9_resize_294 : decode cJ9_resize 294 = .ok (.putfield 177, 3) := dk_181 0 177 (dk_at dksJ9_resize_12 11 rfl rfl)
theorem dJ9_resize_297 : decode cJ9_resize 297 = .ok (.aload 8, 2) := dk_25 8 (dk_at dksJ9_resize_12 14 rfl rfl)
theorem dJ9_resize_299 : decode cJ9_resize 299 = .ok (.astore 12, 2) := dk_58 12 (dk_at dksJ9_resize_12 16 rfl rfl)
theorem dJ9_resize_301 : decode cJ9_resize 301 = .ok (.aload 13, 2) := dk_25 13 (dk_at dksJ9_resize_12 18 rfl rfl)
theorem dJ9_resize_303 : decode cJ9_resize 303 = .ok (.dup, 1) := dk_89 (dk_at dksJ9_resize_12 20 rfl rfl)
theorem dJ9_resize_304 : decode cJ9_resize 304 = .ok (.astore 8, 2) := dk_58 8 (dk_at dksJ9_resize_12 21 rfl rfl)
theorem dJ9_resize_306 : decode cJ9_resize 306 = .ok (.ifnonnull (-71), 3) := dk_199 255 185 (dk_at dksJ9_resize_13 0 rfl rfl)
theorem dJ9_resize_309 : decode cJ9_resize 309 = .ok (.aload 10, 2) := dk_25 10 (dk_at dksJ9_resize_13 3 rfl rfl)
theorem dJ9_resize_311 : decode cJ9_resize 311 = .ok (.ifnull 16, 3) := dk_198 0 16 (dk_at dksJ9_resize_13 5 rfl rfl)
theorem dJ9_resize_314 : decode cJ9_resize 314 = .ok (.aload 10, 2) := dk_25 10 (dk_at dksJ9_resize_13 8 rfl rfl)
theorem dJ9_resize_316 : decode cJ9_resize 316 = .ok (.aconst_null, 1) := dk_1 (dk_at dksJ9_resize_13 10 rfl rfl)
theorem dJ9_resize_317 : decode cJ9_resize 317 = .ok (.putfield 177, 3) := dk_181 0 177 (dk_at dksJ9_resize_13 11 rfl rfl)
theorem dJ9_resize_320 : decode cJ9_resize 320 = .ok (.aload 6, 2) := dk_25 6 (dk_at dksJ9_resize_13 14 rfl rfl)
theorem dJ9_resize_322 : decode cJ9_resize 322 = .ok (.iload 7, 2) := dk_21 7 (dk_at dksJ9_resize_13 16 rfl rfl)
theorem dJ9_resize_324 : decode cJ9_resize 324 = .ok (.aload 9, 2) := dk_25 9 (dk_at dksJ9_resize_13 18 rfl rfl)
theorem dJ9_resize_326 : decode cJ9_resize 326 = .ok (.aastore, 1) := dk_83 (dk_at dksJ9_resize_13 20 rfl rfl)
theorem dJ9_resize_327 : decode cJ9_resize 327 = .ok (.aload 12, 2) := dk_25 12 (dk_at dksJ9_resize_13 21 rfl rfl)
theorem dJ9_resize_329 : decode cJ9_resize 329 = .ok (.ifnull 18, 3) := dk_198 0 18 (dk_at dksJ9_resize_14 0 rfl rfl)
theorem dJ9_resize_332 : decode cJ9_resize 332 = .ok (.aload 12, 2) := dk_25 12 (dk_at dksJ9_resize_14 3 rfl rfl)
theorem dJ9_resize_334 : decode cJ9_resize 334 = .ok (.aconst_null, 1) := dk_1 (dk_at dksJ9_resize_14 5 rfl rfl)
theorem dJ9_resize_335 : decode cJ9_resize 335 = .ok (.putfield 177, 3) := dk_181 0 177 (dk_at dksJ9_resize_14 6 rfl rfl)
theorem dJ9_resize_338 : decode cJ9_resize 338 = .ok (.aload 6, 2) := dk_25 6 (dk_at dksJ9_resize_14 9 rfl rfl)
theorem dJ9_resize_340 : decode cJ9_resize 340 = .ok (.iload 7, 2) := dk_21 7 (dk_at dksJ9_resize_14 11 rfl rfl)
theorem dJ9_resize_342 : decode cJ9_resize 342 = .ok (.iload_n 2, 1) := dk_28 (dk_at dksJ9_resize_14 13 rfl rfl)
theorem dJ9_resize_343 : decode cJ9_resize 343 = .ok (.iadd, 1) := dk_96 (dk_at dksJ9_resize_14 14 rfl rfl)
theorem dJ9_resize_344 : decode cJ9_resize 344 = .ok (.aload 11, 2) := dk_25 11 (dk_at dksJ9_resize_14 15 rfl rfl)
theorem dJ9_resize_346 : decode cJ9_resize 346 = .ok (.aastore, 1) := dk_83 (dk_at dksJ9_resize_14 17 rfl rfl)
theorem dJ9_resize_347 : decode cJ9_resize 347 = .ok (.iinc 7 1, 3) := dk_132 7 1 (dk_at dksJ9_resize_14 18 rfl rfl)
theorem dJ9_resize_350 : decode cJ9_resize 350 = .ok (.goto (-199), 3) := dk_167 255 57 (dk_at dksJ9_resize_14 21 rfl rfl)
theorem dJ9_resize_353 : decode cJ9_resize 353 = .ok (.aload 6, 2) := dk_25 6 (dk_at dksJ9_resize_15 0 rfl rfl)
theorem dJ9_resize_355 : decode cJ9_resize 355 = .ok (.areturn, 1) := dk_176 (dk_at dksJ9_resize_15 2 rfl rfl)
abbrev cJ9_comparableClassFor : ByteArray := prog_49_method_2_code
def yJ9_comparableClassFor : MethodName := ⟨RJ9, "comparableClassFor", "(Ljava/lang/Object;)Ljava/lang/Class;"⟩
def dkwJ9_comparableClassFor_4 : List UInt8 := [4, 160, 0, 12, 45, 3, 50, 43, 166, 0, 5, 43, 176, 132, 7, 1, 167, 255, 186, 1, 176]
abbrev dktJ9_comparableClassFor_4 : List UInt8 := dkwJ9_comparableClassFor_4 ++ []
def dkwJ9_comparableClassFor_3 : List UInt8 := [185, 0, 23, 1, 0, 18, 7, 166, 0, 30, 25, 4, 185, 0, 27, 1, 0, 89, 78, 198, 0, 18, 45, 190]
abbrev dktJ9_comparableClassFor_3 : List UInt8 := dkwJ9_comparableClassFor_3 ++ dktJ9_comparableClassFor_4
def dkwJ9_comparableClassFor_2 : List UInt8 := [25, 5, 21, 7, 50, 58, 8, 25, 8, 193, 0, 21, 153, 0, 48, 25, 8, 192, 0, 21, 89, 58, 4]
abbrev dktJ9_comparableClassFor_2 : List UInt8 := dkwJ9_comparableClassFor_2 ++ dktJ9_comparableClassFor_3
def dkwJ9_comparableClassFor_1 : List UInt8 := [89, 77, 198, 0, 87, 44, 58, 5, 25, 5, 190, 54, 6, 3, 54, 7, 21, 7, 21, 6, 162, 0, 69]
abbrev dktJ9_comparableClassFor_1 : List UInt8 := dkwJ9_comparableClassFor_1 ++ dktJ9_comparableClassFor_2
def dkwJ9_comparableClassFor_0 : List UInt8 := [42, 193, 0, 7, 153, 0, 109, 42, 182, 0, 9, 89, 76, 18, 13, 166, 0, 5, 43, 176, 43, 182, 0, 15]
abbrev dktJ9_comparableClassFor_0 : List UInt8 := dkwJ9_comparableClassFor_0 ++ dktJ9_comparableClassFor_1
theorem dksJ9_comparableClassFor_0 : cJ9_comparableClassFor.data.toList.drop 0 = dktJ9_comparableClassFor_0 := by decide +kernel
theorem dksJ9_comparableClassFor_1 : cJ9_comparableClassFor.data.toList.drop 24 = dktJ9_comparableClassFor_1 := dk_seg dksJ9_comparableClassFor_0 24 rfl rfl
theorem dksJ9_comparableClassFor_2 : cJ9_comparableClassFor.data.toList.drop 47 = dktJ9_comparableClassFor_2 := dk_seg dksJ9_comparableClassFor_1 23 rfl rfl
theorem dksJ9_comparableClassFor_3 : cJ9_comparableClassFor.data.toList.drop 70 = dktJ9_comparableClassFor_3 := dk_seg dksJ9_comparableClassFor_2 23 rfl rfl
theorem dksJ9_comparableClassFor_4 : cJ9_comparableClassFor.data.toList.drop 94 = dktJ9_comparableClassFor_4 := dk_seg dksJ9_comparableClassFor_3 24 rfl rfl
theorem dJ9_comparableClassFor_0 : decode cJ9_comparableClassFor 0 = .ok (.aload_n 0, 1) := dk_42 (dk_at dksJ9_comparableClassFor_0 0 rfl rfl)
theorem dJ9_comparableClassFor_1 : decode cJ9_comparableClassFor 1 = .ok (.instanceof 7, 3) := dk_193 0 7 (dk_at dksJ9_comparableClassFor_0 1 rfl rfl)
theorem dJ9_comparableClassFor_4 : decode cJ9_comparableClassFor 4 = .ok (.ifCond .eq 109, 3) := dk_153 0 109 (dk_at dksJ9_comparableClassFor_0 4 rfl rfl)
theorem dJ9_comparableClassFor_7 : decode cJ9_comparableClassFor 7 = .ok (.aload_n 0, 1) := dk_42 (dk_at dksJ9_comparableClassFor_0 7 rfl rfl)
theorem dJ9_comparableClassFor_8 : decode cJ9_comparableClassFor 8 = .ok (.invokevirtual 9, 3) := dk_182 0 9 (dk_at dksJ9_comparableClassFor_0 8 rfl rfl)
theorem dJ9_comparableClassFor_11 : decode cJ9_comparableClassFor 11 = .ok (.dup, 1) := dk_89 (dk_at dksJ9_comparableClassFor_0 11 rfl rfl)
theorem dJ9_comparableClassFor_12 : decode cJ9_comparableClassFor 12 = .ok (.astore_n 1, 1) := dk_76 (dk_at dksJ9_comparableClassFor_0 12 rfl rfl)
theorem dJ9_comparableClassFor_13 : decode cJ9_comparableClassFor 13 = .ok (.ldc 13, 2) := dk_18 13 (dk_at dksJ9_comparableClassFor_0 13 rfl rfl)
theorem dJ9_comparableClassFor_15 : decode cJ9_comparableClassFor 15 = .ok (.if_acmp .ne 5, 3) := dk_166 0 5 (dk_at dksJ9_comparableClassFor_0 15 rfl rfl)
theorem dJ9_comparableClassFor_18 : decode cJ9_comparableClassFor 18 = .ok (.aload_n 1, 1) := dk_43 (dk_at dksJ9_comparableClassFor_0 18 rfl rfl)
theorem dJ9_comparableClassFor_19 : decode cJ9_comparableClassFor 19 = .ok (.areturn, 1) := dk_176 (dk_at dksJ9_comparableClassFor_0 19 rfl rfl)
theorem dJ9_comparableClassFor_20 : decode cJ9_comparableClassFor 20 = .ok (.aload_n 1, 1) := dk_43 (dk_at dksJ9_comparableClassFor_0 20 rfl rfl)
theorem dJ9_comparableClassFor_21 : decode cJ9_comparableClassFor 21 = .ok (.invokevirtual 15, 3) := dk_182 0 15 (dk_at dksJ9_comparableClassFor_0 21 rfl rfl)
theorem dJ9_comparableClassFor_24 : decode cJ9_comparableClassFor 24 = .ok (.dup, 1) := dk_89 (dk_at dksJ9_comparableClassFor_1 0 rfl rfl)
theorem dJ9_comparableClassFor_25 : decode cJ9_comparableClassFor 25 = .ok (.astore_n 2, 1) := dk_77 (dk_at dksJ9_comparableClassFor_1 1 rfl rfl)
theorem dJ9_comparableClassFor_26 : decode cJ9_comparableClassFor 26 = .ok (.ifnull 87, 3) := dk_198 0 87 (dk_at dksJ9_comparableClassFor_1 2 rfl rfl)
theorem dJ9_comparableClassFor_29 : decode cJ9_comparableClassFor 29 = .ok (.aload_n 2, 1) := dk_44 (dk_at dksJ9_comparableClassFor_1 5 rfl rfl)
theorem dJ9_comparableClassFor_30 : decode cJ9_comparableClassFor 30 = .ok (.astore 5, 2) := dk_58 5 (dk_at dksJ9_comparableClassFor_1 6 rfl rfl)
theorem dJ9_comparableClassFor_32 : decode cJ9_comparableClassFor 32 = .ok (.aload 5, 2) := dk_25 5 (dk_at dksJ9_comparableClassFor_1 8 rfl rfl)
theorem dJ9_comparableClassFor_34 : decode cJ9_comparableClassFor 34 = .ok (.arraylength, 1) := dk_190 (dk_at dksJ9_comparableClassFor_1 10 rfl rfl)
theorem dJ9_comparableClassFor_35 : decode cJ9_comparableClassFor 35 = .ok (.istore 6, 2) := dk_54 6 (dk_at dksJ9_comparableClassFor_1 11 rfl rfl)
theorem dJ9_comparableClassFor_37 : decode cJ9_comparableClassFor 37 = .ok (.iconst 0, 1) := dk_3 (dk_at dksJ9_comparableClassFor_1 13 rfl rfl)
theorem dJ9_comparableClassFor_38 : decode cJ9_comparableClassFor 38 = .ok (.istore 7, 2) := dk_54 7 (dk_at dksJ9_comparableClassFor_1 14 rfl rfl)
theorem dJ9_comparableClassFor_40 : decode cJ9_comparableClassFor 40 = .ok (.iload 7, 2) := dk_21 7 (dk_at dksJ9_comparableClassFor_1 16 rfl rfl)
theorem dJ9_comparableClassFor_42 : decode cJ9_comparableClassFor 42 = .ok (.iload 6, 2) := dk_21 6 (dk_at dksJ9_comparableClassFor_1 18 rfl rfl)
theorem dJ9_comparableClassFor_44 : decode cJ9_comparableClassFor 44 = .ok (.if_icmp .ge 69, 3) := dk_162 0 69 (dk_at dksJ9_comparableClassFor_1 20 rfl rfl)
theorem dJ9_comparableClassFor_47 : decode cJ9_comparableClassFor 47 = .ok (.aload 5, 2) := dk_25 5 (dk_at dksJ9_comparableClassFor_2 0 rfl rfl)
theorem dJ9_comparableClassFor_49 : decode cJ9_comparableClassFor 49 = .ok (.iload 7, 2) := dk_21 7 (dk_at dksJ9_comparableClassFor_2 2 rfl rfl)
theorem dJ9_comparableClassFor_51 : decode cJ9_comparableClassFor 51 = .ok (.aaload, 1) := dk_50 (dk_at dksJ9_comparableClassFor_2 4 rfl rfl)
theorem dJ9_comparableClassFor_52 : decode cJ9_comparableClassFor 52 = .ok (.astore 8, 2) := dk_58 8 (dk_at dksJ9_comparableClassFor_2 5 rfl rfl)
theorem dJ9_comparableClassFor_54 : decode cJ9_comparableClassFor 54 = .ok (.aload 8, 2) := dk_25 8 (dk_at dksJ9_comparableClassFor_2 7 rfl rfl)
theorem dJ9_comparableClassFor_56 : decode cJ9_comparableClassFor 56 = .ok (.instanceof 21, 3) := dk_193 0 21 (dk_at dksJ9_comparableClassFor_2 9 rfl rfl)
theorem dJ9_comparableClassFor_59 : decode cJ9_comparableClassFor 59 = .ok (.ifCond .eq 48, 3) := dk_153 0 48 (dk_at dksJ9_comparableClassFor_2 12 rfl rfl)
theorem dJ9_comparableClassFor_62 : decode cJ9_comparableClassFor 62 = .ok (.aload 8, 2) := dk_25 8 (dk_at dksJ9_comparableClassFor_2 15 rfl rfl)
theorem dJ9_comparableClassFor_64 : decode cJ9_comparableClassFor 64 = .ok (.checkcast 21, 3) := dk_192 0 21 (dk_at dksJ9_comparableClassFor_2 17 rfl rfl)
theorem dJ9_comparableClassFor_67 : decode cJ9_comparableClassFor 67 = .ok (.dup, 1) := dk_89 (dk_at dksJ9_comparableClassFor_2 20 rfl rfl)
theorem dJ9_comparableClassFor_68 : decode cJ9_comparableClassFor 68 = .ok (.astore 4, 2) := dk_58 4 (dk_at dksJ9_comparableClassFor_2 21 rfl rfl)
theorem dJ9_comparableClassFor_70 : decode cJ9_comparableClassFor 70 = .ok (.invokeinterface 23 1, 5) := by decide +kernel
theorem dJ9_comparableClassFor_75 : decode cJ9_comparableClassFor 75 = .ok (.ldc 7, 2) := dk_18 7 (dk_at dksJ9_comparableClassFor_3 5 rfl rfl)
theorem dJ9_comparableClassFor_77 : decode cJ9_comparableClassFor 77 = .ok (.if_acmp .ne 30, 3) := dk_166 0 30 (dk_at dksJ9_comparableClassFor_3 7 rfl rfl)
theorem dJ9_comparableClassFor_80 : decode cJ9_comparableClassFor 80 = .ok (.aload 4, 2) := dk_25 4 (dk_at dksJ9_comparableClassFor_3 10 rfl rfl)
theorem dJ9_comparableClassFor_82 : decode cJ9_comparableClassFor 82 = .ok (.invokeinterface 27 1, 5) := by decide +kernel
theorem dJ9_comparableClassFor_87 : decode cJ9_comparableClassFor 87 = .ok (.dup, 1) := dk_89 (dk_at dksJ9_comparableClassFor_3 17 rfl rfl)
theorem dJ9_comparableClassFor_88 : decode cJ9_comparableClassFor 88 = .ok (.astore_n 3, 1) := dk_78 (dk_at dksJ9_comparableClassFor_3 18 rfl rfl)
theorem dJ9_comparableClassFor_89 : decode cJ9_comparableClassFor 89 = .ok (.ifnull 18, 3) := dk_198 0 18 (dk_at dksJ9_comparableClassFor_3 19 rfl rfl)
theorem dJ9_comparableClassFor_92 : decode cJ9_comparableClassFor 92 = .ok (.aload_n 3, 1) := dk_45 (dk_at dksJ9_comparableClassFor_3 22 rfl rfl)
theorem dJ9_comparableClassFor_93 : decode cJ9_comparableClassFor 93 = .ok (.arraylength, 1) := dk_190 (dk_at dksJ9_comparableClassFor_3 23 rfl rfl)
theorem dJ9_comparableClassFor_94 : decode cJ9_comparableClassFor 94 = .ok (.iconst 1, 1) := dk_4 (dk_at dksJ9_comparableClassFor_4 0 rfl rfl)
theorem dJ9_comparableClassFor_95 : decode cJ9_comparableClassFor 95 = .ok (.if_icmp .ne 12, 3) := dk_160 0 12 (dk_at dksJ9_comparableClassFor_4 1 rfl rfl)
theorem dJ9_comparableClassFor_98 : decode cJ9_comparableClassFor 98 = .ok (.aload_n 3, 1) := dk_45 (dk_at dksJ9_comparableClassFor_4 4 rfl rfl)
theorem dJ9_comparableClassFor_99 : decode cJ9_comparableClassFor 99 = .ok (.iconst 0, 1) := dk_3 (dk_at dksJ9_comparableClassFor_4 5 rfl rfl)
theorem dJ9_comparableClassFor_100 : decode cJ9_comparableClassFor 100 = .ok (.aaload, 1) := dk_50 (dk_at dksJ9_comparableClassFor_4 6 rfl rfl)
theorem dJ9_comparableClassFor_101 : decode cJ9_comparableClassFor 101 = .ok (.aload_n 1, 1) := dk_43 (dk_at dksJ9_comparableClassFor_4 7 rfl rfl)
theorem dJ9_comparableClassFor_102 : decode cJ9_comparableClassFor 102 = .ok (.if_acmp .ne 5, 3) := dk_166 0 5 (dk_at dksJ9_comparableClassFor_4 8 rfl rfl)
theorem dJ9_comparableClassFor_105 : decode cJ9_comparableClassFor 105 = .ok (.aload_n 1, 1) := dk_43 (dk_at dksJ9_comparableClassFor_4 11 rfl rfl)
theorem dJ9_comparableClassFor_106 : decode cJ9_comparableClassFor 106 = .ok (.areturn, 1) := dk_176 (dk_at dksJ9_comparableClassFor_4 12 rfl rfl)
theorem dJ9_comparableClassFor_107 : decode cJ9_comparableClassFor 107 = .ok (.iinc 7 1, 3) := dk_132 7 1 (dk_at dksJ9_comparableClassFor_4 13 rfl rfl)
theorem dJ9_comparableClassFor_110 : decode cJ9_comparableClassFor 110 = .ok (.goto (-70), 3) := dk_167 255 186 (dk_at dksJ9_comparableClassFor_4 16 rfl rfl)
theorem dJ9_comparableClassFor_113 : decode cJ9_comparableClassFor 113 = .ok (.aconst_null, 1) := dk_1 (dk_at dksJ9_comparableClassFor_4 19 rfl rfl)
theorem dJ9_comparableClassFor_114 : decode cJ9_comparableClassFor 114 = .ok (.areturn, 1) := dk_176 (dk_at dksJ9_comparableClassFor_4 20 rfl rfl)
abbrev cJ9_compareComparables : ByteArray := prog_49_method_3_code
def yJ9_compareComparables : MethodName := ⟨RJ9, "compareComparables", "(Ljava/lang/Class;Ljava/lang/Object;Ljava/lang/Object;)I"⟩
def dkwJ9_compareComparables_1 : List UInt8 := [185, 0, 30, 2, 0, 172]
abbrev dktJ9_compareComparables_1 : List UInt8 := dkwJ9_compareComparables_1 ++ []
def dkwJ9_compareComparables_0 : List UInt8 := [44, 198, 0, 11, 44, 182, 0, 9, 42, 165, 0, 7, 3, 167, 0, 13, 43, 192, 0, 7, 44]
abbrev dktJ9_compareComparables_0 : List UInt8 := dkwJ9_compareComparables_0 ++ dktJ9_compareComparables_1
theorem dksJ9_compareComparables_0 : cJ9_compareComparables.data.toList.drop 0 = dktJ9_compareComparables_0 := by decide +kernel
theorem dksJ9_compareComparables_1 : cJ9_compareComparables.data.toList.drop 21 = dktJ9_compareComparables_1 := dk_seg dksJ9_compareComparables_0 21 rfl rfl
theorem dJ9_compareComparables_0 : decode cJ9_compareComparables 0 = .ok (.aload_n 2, 1) := dk_44 (dk_at dksJ9_compareComparables_0 0 rfl rfl)
theorem dJ9_compareComparables_1 : decode cJ9_compareComparables 1 = .ok (.ifnull 11, 3) := dk_198 0 11 (dk_at dksJ9_compareComparables_0 1 rfl rfl)
theorem dJ9_compareComparables_4 : decode cJ9_compareComparables 4 = .ok (.aload_n 2, 1) := dk_44 (dk_at dksJ9_compareComparables_0 4 rfl rfl)
theorem dJ9_compareComparables_5 : decode cJ9_compareComparables 5 = .ok (.invokevirtual 9, 3) := dk_182 0 9 (dk_at dksJ9_compareComparables_0 5 rfl rfl)
theorem dJ9_compareComparables_8 : decode cJ9_compareComparables 8 = .ok (.aload_n 0, 1) := dk_42 (dk_at dksJ9_compareComparables_0 8 rfl rfl)
theorem dJ9_compareComparables_9 : decode cJ9_compareComparables 9 = .ok (.if_acmp .eq 7, 3) := dk_165 0 7 (dk_at dksJ9_compareComparables_0 9 rfl rfl)
theorem dJ9_compareComparables_12 : decode cJ9_compareComparables 12 = .ok (.iconst 0, 1) := dk_3 (dk_at dksJ9_compareComparables_0 12 rfl rfl)
theorem dJ9_compareComparables_13 : decode cJ9_compareComparables 13 = .ok (.goto 13, 3) := dk_167 0 13 (dk_at dksJ9_compareComparables_0 13 rfl rfl)
theorem dJ9_compareComparables_16 : decode cJ9_compareComparables 16 = .ok (.aload_n 1, 1) := dk_43 (dk_at dksJ9_compareComparables_0 16 rfl rfl)
theorem dJ9_compareComparables_17 : decode cJ9_compareComparables 17 = .ok (.checkcast 7, 3) := dk_192 0 7 (dk_at dksJ9_compareComparables_0 17 rfl rfl)
theorem dJ9_compareComparables_20 : decode cJ9_compareComparables 20 = .ok (.aload_n 2, 1) := dk_44 (dk_at dksJ9_compareComparables_0 20 rfl rfl)
theorem dJ9_compareComparables_21 : decode cJ9_compareComparables 21 = .ok (.invokeinterface 30 2, 5) := by decide +kernel
theorem dJ9_compareComparables_26 : decode cJ9_compareComparables 26 = .ok (.ireturn, 1) := dk_172 (dk_at dksJ9_compareComparables_1 5 rfl rfl)
abbrev cJ9_treeifyBin : ByteArray := prog_49_method_18_code
def yJ9_treeifyBin : MethodName := ⟨RJ9, "treeifyBin", "([Ljava/util/HashMap$Node;I)V"⟩
def dkwJ9_treeifyBin_4 : List UInt8 := [21, 4, 25, 6, 91, 83, 198, 0, 9, 25, 6, 43, 182, 0, 224, 177]
abbrev dktJ9_treeifyBin_4 : List UInt8 := dkwJ9_treeifyBin_4 ++ []
def dkwJ9_treeifyBin_3 : List UInt8 := [25, 7, 25, 8, 181, 0, 223, 25, 8, 58, 7, 25, 5, 180, 0, 177, 89, 58, 5, 199, 255, 209, 43]
abbrev dktJ9_treeifyBin_3 : List UInt8 := dkwJ9_treeifyBin_3 ++ dktJ9_treeifyBin_4
def dkwJ9_treeifyBin_2 : List UInt8 := [182, 0, 215, 58, 8, 25, 7, 199, 0, 10, 25, 8, 58, 6, 167, 0, 17, 25, 8, 25, 7, 181, 0, 219]
abbrev dktJ9_treeifyBin_2 : List UInt8 := dkwJ9_treeifyBin_2 ++ dktJ9_treeifyBin_3
def dkwJ9_treeifyBin_1 : List UInt8 := [100, 28, 126, 89, 54, 4, 50, 89, 58, 5, 198, 0, 75, 1, 58, 6, 1, 58, 7, 42, 25, 5, 1]
abbrev dktJ9_treeifyBin_1 : List UInt8 := dkwJ9_treeifyBin_1 ++ dktJ9_treeifyBin_2
def dkwJ9_treeifyBin_0 : List UInt8 := [43, 198, 0, 12, 43, 190, 89, 62, 16, 64, 162, 0, 11, 42, 182, 0, 117, 87, 167, 0, 91, 43, 29, 4]
abbrev dktJ9_treeifyBin_0 : List UInt8 := dkwJ9_treeifyBin_0 ++ dktJ9_treeifyBin_1
theorem dksJ9_treeifyBin_0 : cJ9_treeifyBin.data.toList.drop 0 = dktJ9_treeifyBin_0 := by decide +kernel
theorem dksJ9_treeifyBin_1 : cJ9_treeifyBin.data.toList.drop 24 = dktJ9_treeifyBin_1 := dk_seg dksJ9_treeifyBin_0 24 rfl rfl
theorem dksJ9_treeifyBin_2 : cJ9_treeifyBin.data.toList.drop 47 = dktJ9_treeifyBin_2 := dk_seg dksJ9_treeifyBin_1 23 rfl rfl
theorem dksJ9_treeifyBin_3 : cJ9_treeifyBin.data.toList.drop 71 = dktJ9_treeifyBin_3 := dk_seg dksJ9_treeifyBin_2 24 rfl rfl
theorem dksJ9_treeifyBin_4 : cJ9_treeifyBin.data.toList.drop 94 = dktJ9_treeifyBin_4 := dk_seg dksJ9_treeifyBin_3 23 rfl rfl
theorem dJ9_treeifyBin_0 : decode cJ9_treeifyBin 0 = .ok (.aload_n 1, 1) := dk_43 (dk_at dksJ9_treeifyBin_0 0 rfl rfl)
theorem dJ9_treeifyBin_1 : decode cJ9_treeifyBin 1 = .ok (.ifnull 12, 3) := dk_198 0 12 (dk_at dksJ9_treeifyBin_0 1 rfl rfl)
theorem dJ9_treeifyBin_4 : decode cJ9_treeifyBin 4 = .ok (.aload_n 1, 1) := dk_43 (dk_at dksJ9_treeifyBin_0 4 rfl rfl)
theorem dJ9_treeifyBin_5 : decode cJ9_treeifyBin 5 = .ok (.arraylength, 1) := dk_190 (dk_at dksJ9_treeifyBin_0 5 rfl rfl)
theorem dJ9_treeifyBin_6 : decode cJ9_treeifyBin 6 = .ok (.dup, 1) := dk_89 (dk_at dksJ9_treeifyBin_0 6 rfl rfl)
theorem dJ9_treeifyBin_7 : decode cJ9_treeifyBin 7 = .ok (.istore_n 3, 1) := dk_62 (dk_at dksJ9_treeifyBin_0 7 rfl rfl)
theorem dJ9_treeifyBin_8 : decode cJ9_treeifyBin 8 = .ok (.bipush 64, 2) := dk_16 64 (dk_at dksJ9_treeifyBin_0 8 rfl rfl)
theorem dJ9_treeifyBin_10 : decode cJ9_treeifyBin 10 = .ok (.if_icmp .ge 11, 3) := dk_162 0 11 (dk_at dksJ9_treeifyBin_0 10 rfl rfl)
theorem dJ9_treeifyBin_13 : decode cJ9_treeifyBin 13 = .ok (.aload_n 0, 1) := dk_42 (dk_at dksJ9_treeifyBin_0 13 rfl rfl)
theorem dJ9_treeifyBin_14 : decode cJ9_treeifyBin 14 = .ok (.invokevirtual 117, 3) := dk_182 0 117 (dk_at dksJ9_treeifyBin_0 14 rfl rfl)
theorem dJ9_treeifyBin_17 : decode cJ9_treeifyBin 17 = .ok (.pop, 1) := dk_87 (dk_at dksJ9_treeifyBin_0 17 rfl rfl)
theorem dJ9_treeifyBin_18 : decode cJ9_treeifyBin 18 = .ok (.goto 91, 3) := dk_167 0 91 (dk_at dksJ9_treeifyBin_0 18 rfl rfl)
theorem dJ9_treeifyBin_21 : decode cJ9_treeifyBin 21 = .ok (.aload_n 1, 1) := dk_43 (dk_at dksJ9_treeifyBin_0 21 rfl rfl)
theorem dJ9_treeifyBin_22 : decode cJ9_treeifyBin 22 = .ok (.iload_n 3, 1) := dk_29 (dk_at dksJ9_treeifyBin_0 22 rfl rfl)
theorem dJ9_treeifyBin_23 : decode cJ9_treeifyBin 23 = .ok (.iconst 1, 1) := dk_4 (dk_at dksJ9_treeifyBin_0 23 rfl rfl)
theorem dJ9_treeifyBin_24 : decode cJ9_treeifyBin 24 = .ok (.isub, 1) := dk_100 (dk_at dksJ9_treeifyBin_1 0 rfl rfl)
theorem dJ9_treeifyBin_25 : decode cJ9_treeifyBin 25 = .ok (.iload_n 2, 1) := dk_28 (dk_at dksJ9_treeifyBin_1 1 rfl rfl)
theorem dJ9_treeifyBin_26 : decode cJ9_treeifyBin 26 = .ok (.iand, 1) := dk_126 (dk_at dksJ9_treeifyBin_1 2 rfl rfl)
theorem dJ9_treeifyBin_27 : decode cJ9_treeifyBin 27 = .ok (.dup, 1) := dk_89 (dk_at dksJ9_treeifyBin_1 3 rfl rfl)
theorem dJ9_treeifyBin_28 : decode cJ9_treeifyBin 28 = .ok (.istore 4, 2) := dk_54 4 (dk_at dksJ9_treeifyBin_1 4 rfl rfl)
theorem dJ9_treeifyBin_30 : decode cJ9_treeifyBin 30 = .ok (.aaload, 1) := dk_50 (dk_at dksJ9_treeifyBin_1 6 rfl rfl)
theorem dJ9_treeifyBin_31 : decode cJ9_treeifyBin 31 = .ok (.dup, 1) := dk_89 (dk_at dksJ9_treeifyBin_1 7 rfl rfl)
theorem dJ9_treeifyBin_32 : decode cJ9_treeifyBin 32 = .ok (.astore 5, 2) := dk_58 5 (dk_at dksJ9_treeifyBin_1 8 rfl rfl)
theorem dJ9_treeifyBin_34 : decode cJ9_treeifyBin 34 = .ok (.ifnull 75, 3) := dk_198 0 75 (dk_at dksJ9_treeifyBin_1 10 rfl rfl)
theorem dJ9_treeifyBin_37 : decode cJ9_treeifyBin 37 = .ok (.aconst_null, 1) := dk_1 (dk_at dksJ9_treeifyBin_1 13 rfl rfl)
theorem dJ9_treeifyBin_38 : decode cJ9_treeifyBin 38 = .ok (.astore 6, 2) := dk_58 6 (dk_at dksJ9_treeifyBin_1 14 rfl rfl)
theorem dJ9_treeifyBin_40 : decode cJ9_treeifyBin 40 = .ok (.aconst_null, 1) := dk_1 (dk_at dksJ9_treeifyBin_1 16 rfl rfl)
theorem dJ9_treeifyBin_41 : decode cJ9_treeifyBin 41 = .ok (.astore 7, 2) := dk_58 7 (dk_at dksJ9_treeifyBin_1 17 rfl rfl)
theorem dJ9_treeifyBin_43 : decode cJ9_treeifyBin 43 = .ok (.aload_n 0, 1) := dk_42 (dk_at dksJ9_treeifyBin_1 19 rfl rfl)
theorem dJ9_treeifyBin_44 : decode cJ9_treeifyBin 44 = .ok (.aload 5, 2) := dk_25 5 (dk_at dksJ9_treeifyBin_1 20 rfl rfl)
theorem dJ9_treeifyBin_46 : decode cJ9_treeifyBin 46 = .ok (.aconst_null, 1) := dk_1 (dk_at dksJ9_treeifyBin_1 22 rfl rfl)
theorem dJ9_treeifyBin_47 : decode cJ9_treeifyBin 47 = .ok (.invokevirtual 215, 3) := dk_182 0 215 (dk_at dksJ9_treeifyBin_2 0 rfl rfl)
theorem dJ9_treeifyBin_50 : decode cJ9_treeifyBin 50 = .ok (.astore 8, 2) := dk_58 8 (dk_at dksJ9_treeifyBin_2 3 rfl rfl)
theorem dJ9_treeifyBin_52 : decode cJ9_treeifyBin 52 = .ok (.aload 7, 2) := dk_25 7 (dk_at dksJ9_treeifyBin_2 5 rfl rfl)
theorem dJ9_treeifyBin_54 : decode cJ9_treeifyBin 54 = .ok (.ifnonnull 10, 3) := dk_199 0 10 (dk_at dksJ9_treeifyBin_2 7 rfl rfl)
theorem dJ9_treeifyBin_57 : decode cJ9_treeifyBin 57 = .ok (.aload 8, 2) := dk_25 8 (dk_at dksJ9_treeifyBin_2 10 rfl rfl)
theorem dJ9_treeifyBin_59 : decode cJ9_treeifyBin 59 = .ok (.astore 6, 2) := dk_58 6 (dk_at dksJ9_treeifyBin_2 12 rfl rfl)
theorem dJ9_treeifyBin_61 : decode cJ9_treeifyBin 61 = .ok (.goto 17, 3) := dk_167 0 17 (dk_at dksJ9_treeifyBin_2 14 rfl rfl)
theorem dJ9_treeifyBin_64 : decode cJ9_treeifyBin 64 = .ok (.aload 8, 2) := dk_25 8 (dk_at dksJ9_treeifyBin_2 17 rfl rfl)
theorem dJ9_treeifyBin_66 : decode cJ9_treeifyBin 66 = .ok (.aload 7, 2) := dk_25 7 (dk_at dksJ9_treeifyBin_2 19 rfl rfl)
theorem dJ9_treeifyBin_68 : decode cJ9_treeifyBin 68 = .ok (.putfield 219, 3) := dk_181 0 219 (dk_at dksJ9_treeifyBin_2 21 rfl rfl)
theorem dJ9_treeifyBin_71 : decode cJ9_treeifyBin 71 = .ok (.aload 7, 2) := dk_25 7 (dk_at dksJ9_treeifyBin_3 0 rfl rfl)
theorem dJ9_treeifyBin_73 : decode cJ9_treeifyBin 73 = .ok (.aload 8, 2) := dk_25 8 (dk_at dksJ9_treeifyBin_3 2 rfl rfl)
theorem dJ9_treeifyBin_75 : decode cJ9_treeifyBin 75 = .ok (.putfield 223, 3) := dk_181 0 223 (dk_at dksJ9_treeifyBin_3 4 rfl rfl)
theorem dJ9_treeifyBin_78 : decode cJ9_treeifyBin 78 = .ok (.aload 8, 2) := dk_25 8 (dk_at dksJ9_treeifyBin_3 7 rfl rfl)
theorem dJ9_treeifyBin_80 : decode cJ9_treeifyBin 80 = .ok (.astore 7, 2) := dk_58 7 (dk_at dksJ9_treeifyBin_3 9 rfl rfl)
theorem dJ9_treeifyBin_82 : decode cJ9_treeifyBin 82 = .ok (.aload 5, 2) := dk_25 5 (dk_at dksJ9_treeifyBin_3 11 rfl rfl)
theorem dJ9_treeifyBin_84 : decode cJ9_treeifyBin 84 = .ok (.getfield 177, 3) := dk_180 0 177 (dk_at dksJ9_treeifyBin_3 13 rfl rfl)
theorem dJ9_treeifyBin_87 : decode cJ9_treeifyBin 87 = .ok (.dup, 1) := dk_89 (dk_at dksJ9_treeifyBin_3 16 rfl rfl)
theorem dJ9_treeifyBin_88 : decode cJ9_treeifyBin 88 = .ok (.astore 5, 2) := dk_58 5 (dk_at dksJ9_treeifyBin_3 17 rfl rfl)
theorem dJ9_treeifyBin_90 : decode cJ9_treeifyBin 90 = .ok (.ifnonnull (-47), 3) := dk_199 255 209 (dk_at dksJ9_treeifyBin_3 19 rfl rfl)
theorem dJ9_treeifyBin_93 : decode cJ9_treeifyBin 93 = .ok (.aload_n 1, 1) := dk_43 (dk_at dksJ9_treeifyBin_3 22 rfl rfl)
theorem dJ9_treeifyBin_94 : decode cJ9_treeifyBin 94 = .ok (.iload 4, 2) := dk_21 4 (dk_at dksJ9_treeifyBin_4 0 rfl rfl)
theorem dJ9_treeifyBin_96 : decode cJ9_treeifyBin 96 = .ok (.aload 6, 2) := dk_25 6 (dk_at dksJ9_treeifyBin_4 2 rfl rfl)
theorem dJ9_treeifyBin_98 : decode cJ9_treeifyBin 98 = .ok (.dup_x2, 1) := dk_91 (dk_at dksJ9_treeifyBin_4 4 rfl rfl)
theorem dJ9_treeifyBin_99 : decode cJ9_treeifyBin 99 = .ok (.aastore, 1) := dk_83 (dk_at dksJ9_treeifyBin_4 5 rfl rfl)
theorem dJ9_treeifyBin_100 : decode cJ9_treeifyBin 100 = .ok (.ifnull 9, 3) := dk_198 0 9 (dk_at dksJ9_treeifyBin_4 6 rfl rfl)
theorem dJ9_treeifyBin_103 : decode cJ9_treeifyBin 103 = .ok (.aload 6, 2) := dk_25 6 (dk_at dksJ9_treeifyBin_4 9 rfl rfl)
theorem dJ9_treeifyBin_105 : decode cJ9_treeifyBin 105 = .ok (.aload_n 1, 1) := dk_43 (dk_at dksJ9_treeifyBin_4 11 rfl rfl)
theorem dJ9_treeifyBin_106 : decode cJ9_treeifyBin 106 = .ok (.invokevirtual 224, 3) := dk_182 0 224 (dk_at dksJ9_treeifyBin_4 12 rfl rfl)
theorem dJ9_treeifyBin_109 : decode cJ9_treeifyBin 109 = .ok (.return_, 1) := dk_177 (dk_at dksJ9_treeifyBin_4 15 rfl rfl)
abbrev cJ9_containsKey : ByteArray := prog_49_method_14_code
def yJ9_containsKey : MethodName := ⟨RJ9, "containsKey", "(Ljava/lang/Object;)Z"⟩
def dkwJ9_containsKey_0 : List UInt8 := [42, 43, 182, 0, 158, 198, 0, 7, 4, 167, 0, 4, 3, 172]
abbrev dktJ9_containsKey_0 : List UInt8 := dkwJ9_containsKey_0 ++ []
theorem dksJ9_containsKey_0 : cJ9_containsKey.data.toList.drop 0 = dktJ9_containsKey_0 := by decide +kernel
theorem dJ9_containsKey_0 : decode cJ9_containsKey 0 = .ok (.aload_n 0, 1) := dk_42 (dk_at dksJ9_containsKey_0 0 rfl rfl)
theorem dJ9_containsKey_1 : decode cJ9_containsKey 1 = .ok (.aload_n 1, 1) := dk_43 (dk_at dksJ9_containsKey_0 1 rfl rfl)
theorem dJ9_containsKey_2 : decode cJ9_containsKey 2 = .ok (.invokevirtual 158, 3) := dk_182 0 158 (dk_at dksJ9_containsKey_0 2 rfl rfl)
theorem dJ9_containsKey_5 : decode cJ9_containsKey 5 = .ok (.ifnull 7, 3) := dk_198 0 7 (dk_at dksJ9_containsKey_0 5 rfl rfl)
theorem dJ9_containsKey_8 : decode cJ9_containsKey 8 = .ok (.iconst 1, 1) := dk_4 (dk_at dksJ9_containsKey_0 8 rfl rfl)
theorem dJ9_containsKey_9 : decode cJ9_containsKey 9 = .ok (.goto 4, 3) := dk_167 0 4 (dk_at dksJ9_containsKey_0 9 rfl rfl)
theorem dJ9_containsKey_12 : decode cJ9_containsKey 12 = .ok (.iconst 0, 1) := dk_3 (dk_at dksJ9_containsKey_0 12 rfl rfl)
theorem dJ9_containsKey_13 : decode cJ9_containsKey 13 = .ok (.ireturn, 1) := dk_172 (dk_at dksJ9_containsKey_0 13 rfl rfl)
abbrev cJ9_getNode : ByteArray := prog_49_method_13_code
def yJ9_getNode : MethodName := ⟨RJ9, "getNode", "(Ljava/lang/Object;)Ljava/util/HashMap$Node;"⟩
def dkwJ9_getNode_6 : List UInt8 := [89, 58, 4, 199, 255, 210, 1, 176]
abbrev dktJ9_getNode_6 : List UInt8 := dkwJ9_getNode_6 ++ []
def dkwJ9_getNode_5 : List UInt8 := [165, 0, 16, 43, 198, 0, 15, 43, 25, 7, 182, 0, 173, 153, 0, 6, 25, 4, 176, 25, 4, 180, 0, 177]
abbrev dktJ9_getNode_5 : List UInt8 := dkwJ9_getNode_5 ++ dktJ9_getNode_6
def dkwJ9_getNode_4 : List UInt8 := [43, 182, 0, 182, 176, 25, 4, 180, 0, 168, 21, 6, 160, 0, 31, 25, 4, 180, 0, 170, 89, 58, 7, 43]
abbrev dktJ9_getNode_4 : List UInt8 := dkwJ9_getNode_4 ++ dktJ9_getNode_5
def dkwJ9_getNode_3 : List UInt8 := [176, 45, 180, 0, 177, 89, 58, 4, 198, 0, 70, 45, 193, 0, 180, 153, 0, 14, 45, 192, 0, 180, 21, 6]
abbrev dktJ9_getNode_3 : List UInt8 := dkwJ9_getNode_3 ++ dktJ9_getNode_4
def dkwJ9_getNode_2 : List UInt8 := [180, 0, 170, 89, 58, 7, 43, 165, 0, 16, 43, 198, 0, 14, 43, 25, 7, 182, 0, 173, 153, 0, 5, 45]
abbrev dktJ9_getNode_2 : List UInt8 := dkwJ9_getNode_2 ++ dktJ9_getNode_3
def dkwJ9_getNode_1 : List UInt8 := [184, 0, 149, 89, 54, 6, 126, 50, 89, 78, 198, 0, 115, 45, 180, 0, 168, 21, 6, 160, 0, 29, 45]
abbrev dktJ9_getNode_1 : List UInt8 := dkwJ9_getNode_1 ++ dktJ9_getNode_2
def dkwJ9_getNode_0 : List UInt8 := [42, 180, 0, 105, 89, 77, 198, 0, 142, 44, 190, 89, 54, 5, 158, 0, 134, 44, 21, 5, 4, 100, 43]
abbrev dktJ9_getNode_0 : List UInt8 := dkwJ9_getNode_0 ++ dktJ9_getNode_1
theorem dksJ9_getNode_0 : cJ9_getNode.data.toList.drop 0 = dktJ9_getNode_0 := by decide +kernel
theorem dksJ9_getNode_1 : cJ9_getNode.data.toList.drop 23 = dktJ9_getNode_1 := dk_seg dksJ9_getNode_0 23 rfl rfl
theorem dksJ9_getNode_2 : cJ9_getNode.data.toList.drop 46 = dktJ9_getNode_2 := dk_seg dksJ9_getNode_1 23 rfl rfl
theorem dksJ9_getNode_3 : cJ9_getNode.data.toList.drop 70 = dktJ9_getNode_3 := dk_seg dksJ9_getNode_2 24 rfl rfl
theorem dksJ9_getNode_4 : cJ9_getNode.data.toList.drop 94 = dktJ9_getNode_4 := dk_seg dksJ9_getNode_3 24 rfl rfl
theorem dksJ9_getNode_5 : cJ9_getNode.data.toList.drop 118 = dktJ9_getNode_5 := dk_seg dksJ9_getNode_4 24 rfl rfl
theorem dksJ9_getNode_6 : cJ9_getNode.data.toList.drop 142 = dktJ9_getNode_6 := dk_seg dksJ9_getNode_5 24 rfl rfl
theorem dJ9_getNode_0 : decode cJ9_getNode 0 = .ok (.aload_n 0, 1) := dk_42 (dk_at dksJ9_getNode_0 0 rfl rfl)
theorem dJ9_getNode_1 : decode cJ9_getNode 1 = .ok (.getfield 105, 3) := dk_180 0 105 (dk_at dksJ9_getNode_0 1 rfl rfl)
theorem dJ9_getNode_4 : decode cJ9_getNode 4 = .ok (.dup, 1) := dk_89 (dk_at dksJ9_getNode_0 4 rfl rfl)
theorem dJ9_getNode_5 : decode cJ9_getNode 5 = .ok (.astore_n 2, 1) := dk_77 (dk_at dksJ9_getNode_0 5 rfl rfl)
theorem dJ9_getNode_6 : decode cJ9_getNode 6 = .ok (.ifnull 142, 3) := dk_198 0 142 (dk_at dksJ9_getNode_0 6 rfl rfl)
theorem dJ9_getNode_9 : decode cJ9_getNode 9 = .ok (.aload_n 2, 1) := dk_44 (dk_at dksJ9_getNode_0 9 rfl rfl)
theorem dJ9_getNode_10 : decode cJ9_getNode 10 = .ok (.arraylength, 1) := dk_190 (dk_at dksJ9_getNode_0 10 rfl rfl)
theorem dJ9_getNode_11 : decode cJ9_getNode 11 = .ok (.dup, 1) := dk_89 (dk_at dksJ9_getNode_0 11 rfl rfl)
theorem dJ9_getNode_12 : decode cJ9_getNode 12 = .ok (.istore 5, 2) := dk_54 5 (dk_at dksJ9_getNode_0 12 rfl rfl)
theorem dJ9_getNode_14 : decode cJ9_getNode 14 = .ok (.ifCond .le 134, 3) := dk_158 0 134 (dk_at dksJ9_getNode_0 14 rfl rfl)
theorem dJ9_getNode_17 : decode cJ9_getNode 17 = .ok (.aload_n 2, 1) := dk_44 (dk_at dksJ9_getNode_0 17 rfl rfl)
theorem dJ9_getNode_18 : decode cJ9_getNode 18 = .ok (.iload 5, 2) := dk_21 5 (dk_at dksJ9_getNode_0 18 rfl rfl)
theorem dJ9_getNode_20 : decode cJ9_getNode 20 = .ok (.iconst 1, 1) := dk_4 (dk_at dksJ9_getNode_0 20 rfl rfl)
theorem dJ9_getNode_21 : decode cJ9_getNode 21 = .ok (.isub, 1) := dk_100 (dk_at dksJ9_getNode_0 21 rfl rfl)
theorem dJ9_getNode_22 : decode cJ9_getNode 22 = .ok (.aload_n 1, 1) := dk_43 (dk_at dksJ9_getNode_0 22 rfl rfl)
theorem dJ9_getNode_23 : decode cJ9_getNode 23 = .ok (.invokestatic 149, 3) := dk_184 0 149 (dk_at dksJ9_getNode_1 0 rfl rfl)
theorem dJ9_getNode_26 : decode cJ9_getNode 26 = .ok (.dup, 1) := dk_89 (dk_at dksJ9_getNode_1 3 rfl rfl)
theorem dJ9_getNode_27 : decode cJ9_getNode 27 = .ok (.istore 6, 2) := dk_54 6 (dk_at dksJ9_getNode_1 4 rfl rfl)
theorem dJ9_getNode_29 : decode cJ9_getNode 29 = .ok (.iand, 1) := dk_126 (dk_at dksJ9_getNode_1 6 rfl rfl)
theorem dJ9_getNode_30 : decode cJ9_getNode 30 = .ok (.aaload, 1) := dk_50 (dk_at dksJ9_getNode_1 7 rfl rfl)
theorem dJ9_getNode_31 : decode cJ9_getNode 31 = .ok (.dup, 1) := dk_89 (dk_at dksJ9_getNode_1 8 rfl rfl)
theorem dJ9_getNode_32 : decode cJ9_getNode 32 = .ok (.astore_n 3, 1) := dk_78 (dk_at dksJ9_getNode_1 9 rfl rfl)
theorem dJ9_getNode_33 : decode cJ9_getNode 33 = .ok (.ifnull 115, 3) := dk_198 0 115 (dk_at dksJ9_getNode_1 10 rfl rfl)
theorem dJ9_getNode_36 : decode cJ9_getNode 36 = .ok (.aload_n 3, 1) := dk_45 (dk_at dksJ9_getNode_1 13 rfl rfl)
theorem dJ9_getNode_37 : decode cJ9_getNode 37 = .ok (.getfield 168, 3) := dk_180 0 168 (dk_at dksJ9_getNode_1 14 rfl rfl)
theorem dJ9_getNode_40 : decode cJ9_getNode 40 = .ok (.iload 6, 2) := dk_21 6 (dk_at dksJ9_getNode_1 17 rfl rfl)
theorem dJ9_getNode_42 : decode cJ9_getNode 42 = .ok (.if_icmp .ne 29, 3) := dk_160 0 29 (dk_at dksJ9_getNode_1 19 rfl rfl)
theorem dJ9_getNode_45 : decode cJ9_getNode 45 = .ok (.aload_n 3, 1) := dk_45 (dk_at dksJ9_getNode_1 22 rfl rfl)
theorem dJ9_getNode_46 : decode cJ9_getNode 46 = .ok (.getfield 170, 3) := dk_180 0 170 (dk_at dksJ9_getNode_2 0 rfl rfl)
theorem dJ9_getNode_49 : decode cJ9_getNode 49 = .ok (.dup, 1) := dk_89 (dk_at dksJ9_getNode_2 3 rfl rfl)
theorem dJ9_getNode_50 : decode cJ9_getNode 50 = .ok (.astore 7, 2) := dk_58 7 (dk_at dksJ9_getNode_2 4 rfl rfl)
theorem dJ9_getNode_52 : decode cJ9_getNode 52 = .ok (.aload_n 1, 1) := dk_43 (dk_at dksJ9_getNode_2 6 rfl rfl)
theorem dJ9_getNode_53 : decode cJ9_getNode 53 = .ok (.if_acmp .eq 16, 3) := dk_165 0 16 (dk_at dksJ9_getNode_2 7 rfl rfl)
theorem dJ9_getNode_56 : decode cJ9_getNode 56 = .ok (.aload_n 1, 1) := dk_43 (dk_at dksJ9_getNode_2 10 rfl rfl)
theorem dJ9_getNode_57 : decode cJ9_getNode 57 = .ok (.ifnull 14, 3) := dk_198 0 14 (dk_at dksJ9_getNode_2 11 rfl rfl)
theorem dJ9_getNode_60 : decode cJ9_getNode 60 = .ok (.aload_n 1, 1) := dk_43 (dk_at dksJ9_getNode_2 14 rfl rfl)
theorem dJ9_getNode_61 : decode cJ9_getNode 61 = .ok (.aload 7, 2) := dk_25 7 (dk_at dksJ9_getNode_2 15 rfl rfl)
theorem dJ9_getNode_63 : decode cJ9_getNode 63 = .ok (.invokevirtual 173, 3) := dk_182 0 173 (dk_at dksJ9_getNode_2 17 rfl rfl)
theorem dJ9_getNode_66 : decode cJ9_getNode 66 = .ok (.ifCond .eq 5, 3) := dk_153 0 5 (dk_at dksJ9_getNode_2 20 rfl rfl)
theorem dJ9_getNode_69 : decode cJ9_getNode 69 = .ok (.aload_n 3, 1) := dk_45 (dk_at dksJ9_getNode_2 23 rfl rfl)
theorem dJ9_getNode_70 : decode cJ9_getNode 70 = .ok (.areturn, 1) := dk_176 (dk_at dksJ9_getNode_3 0 rfl rfl)
theorem dJ9_getNode_71 : decode cJ9_getNode 71 = .ok (.aload_n 3, 1) := dk_45 (dk_at dksJ9_getNode_3 1 rfl rfl)
theorem dJ9_getNode_72 : decode cJ9_getNode 72 = .ok (.getfield 177, 3) := dk_180 0 177 (dk_at dksJ9_getNode_3 2 rfl rfl)
theorem dJ9_getNode_75 : decode cJ9_getNode 75 = .ok (.dup, 1) := dk_89 (dk_at dksJ9_getNode_3 5 rfl rfl)
theorem dJ9_getNode_76 : decode cJ9_getNode 76 = .ok (.astore 4, 2) := dk_58 4 (dk_at dksJ9_getNode_3 6 rfl rfl)
theorem dJ9_getNode_78 : decode cJ9_getNode 78 = .ok (.ifnull 70, 3) := dk_198 0 70 (dk_at dksJ9_getNode_3 8 rfl rfl)
theorem dJ9_getNode_81 : decode cJ9_getNode 81 = .ok (.aload_n 3, 1) := dk_45 (dk_at dksJ9_getNode_3 11 rfl rfl)
theorem dJ9_getNode_82 : decode cJ9_getNode 82 = .ok (.instanceof 180, 3) := dk_193 0 180 (dk_at dksJ9_getNode_3 12 rfl rfl)
theorem dJ9_getNode_85 : decode cJ9_getNode 85 = .ok (.ifCond .eq 14, 3) := dk_153 0 14 (dk_at dksJ9_getNode_3 15 rfl rfl)
theorem dJ9_getNode_88 : decode cJ9_getNode 88 = .ok (.aload_n 3, 1) := dk_45 (dk_at dksJ9_getNode_3 18 rfl rfl)
theorem dJ9_getNode_89 : decode cJ9_getNode 89 = .ok (.checkcast 180, 3) := dk_192 0 180 (dk_at dksJ9_getNode_3 19 rfl rfl)
theorem dJ9_getNode_92 : decode cJ9_getNode 92 = .ok (.iload 6, 2) := dk_21 6 (dk_at dksJ9_getNode_3 22 rfl rfl)
theorem dJ9_getNode_94 : decode cJ9_getNode 94 = .ok (.aload_n 1, 1) := dk_43 (dk_at dksJ9_getNode_4 0 rfl rfl)
theorem dJ9_getNode_95 : decode cJ9_getNode 95 = .ok (.invokevirtual 182, 3) := dk_182 0 182 (dk_at dksJ9_getNode_4 1 rfl rfl)
theorem dJ9_getNode_98 : decode cJ9_getNode 98 = .ok (.areturn, 1) := dk_176 (dk_at dksJ9_getNode_4 4 rfl rfl)
theorem dJ9_getNode_99 : decode cJ9_getNode 99 = .ok (.aload 4, 2) := dk_25 4 (dk_at dksJ9_getNode_4 5 rfl rfl)
theorem dJ9_getNode_101 : decode cJ9_getNode 101 = .ok (.getfield 168, 3) := dk_180 0 168 (dk_at dksJ9_getNode_4 7 rfl rfl)
theorem dJ9_getNode_104 : decode cJ9_getNode 104 = .ok (.iload 6, 2) := dk_21 6 (dk_at dksJ9_getNode_4 10 rfl rfl)
theorem dJ9_getNode_106 : decode cJ9_getNode 106 = .ok (.if_icmp .ne 31, 3) := dk_160 0 31 (dk_at dksJ9_getNode_4 12 rfl rfl)
theorem dJ9_getNode_109 : decode cJ9_getNode 109 = .ok (.aload 4, 2) := dk_25 4 (dk_at dksJ9_getNode_4 15 rfl rfl)
theorem dJ9_getNode_111 : decode cJ9_getNode 111 = .ok (.getfield 170, 3) := dk_180 0 170 (dk_at dksJ9_getNode_4 17 rfl rfl)
theorem dJ9_getNode_114 : decode cJ9_getNode 114 = .ok (.dup, 1) := dk_89 (dk_at dksJ9_getNode_4 20 rfl rfl)
theorem dJ9_getNode_115 : decode cJ9_getNode 115 = .ok (.astore 7, 2) := dk_58 7 (dk_at dksJ9_getNode_4 21 rfl rfl)
theorem dJ9_getNode_117 : decode cJ9_getNode 117 = .ok (.aload_n 1, 1) := dk_43 (dk_at dksJ9_getNode_4 23 rfl rfl)
theorem dJ9_getNode_118 : decode cJ9_getNode 118 = .ok (.if_acmp .eq 16, 3) := dk_165 0 16 (dk_at dksJ9_getNode_5 0 rfl rfl)
theorem dJ9_getNode_121 : decode cJ9_getNode 121 = .ok (.aload_n 1, 1) := dk_43 (dk_at dksJ9_getNode_5 3 rfl rfl)
theorem dJ9_getNode_122 : decode cJ9_getNode 122 = .ok (.ifnull 15, 3) := dk_198 0 15 (dk_at dksJ9_getNode_5 4 rfl rfl)
theorem dJ9_getNode_125 : decode cJ9_getNode 125 = .ok (.aload_n 1, 1) := dk_43 (dk_at dksJ9_getNode_5 7 rfl rfl)
theorem dJ9_getNode_126 : decode cJ9_getNode 126 = .ok (.aload 7, 2) := dk_25 7 (dk_at dksJ9_getNode_5 8 rfl rfl)
theorem dJ9_getNode_128 : decode cJ9_getNode 128 = .ok (.invokevirtual 173, 3) := dk_182 0 173 (dk_at dksJ9_getNode_5 10 rfl rfl)
theorem dJ9_getNode_131 : decode cJ9_getNode 131 = .ok (.ifCond .eq 6, 3) := dk_153 0 6 (dk_at dksJ9_getNode_5 13 rfl rfl)
theorem dJ9_getNode_134 : decode cJ9_getNode 134 = .ok (.aload 4, 2) := dk_25 4 (dk_at dksJ9_getNode_5 16 rfl rfl)
theorem dJ9_getNode_136 : decode cJ9_getNode 136 = .ok (.areturn, 1) := dk_176 (dk_at dksJ9_getNode_5 18 rfl rfl)
theorem dJ9_getNode_137 : decode cJ9_getNode 137 = .ok (.aload 4, 2) := dk_25 4 (dk_at dksJ9_getNode_5 19 rfl rfl)
theorem dJ9_getNode_139 : decode cJ9_getNode 139 = .ok (.getfield 177, 3) := dk_180 0 177 (dk_at dksJ9_getNode_5 21 rfl rfl)
theorem dJ9_getNode_142 : decode cJ9_getNode 142 = .ok (.dup, 1) := dk_89 (dk_at dksJ9_getNode_6 0 rfl rfl)
theorem dJ9_getNode_143 : decode cJ9_getNode 143 = .ok (.astore 4, 2) := dk_58 4 (dk_at dksJ9_getNode_6 1 rfl rfl)
theorem dJ9_getNode_145 : decode cJ9_getNode 145 = .ok (.ifnonnull (-46), 3) := dk_199 255 210 (dk_at dksJ9_getNode_6 3 rfl rfl)
theorem dJ9_getNode_148 : decode cJ9_getNode 148 = .ok (.aconst_null, 1) := dk_1 (dk_at dksJ9_getNode_6 6 rfl rfl)
theorem dJ9_getNode_149 : decode cJ9_getNode 149 = .ok (.areturn, 1) := dk_176 (dk_at dksJ9_getNode_6 7 rfl rfl)
abbrev cJ9_init_2 : ByteArray := prog_49_method_5_code
def yJ9_init_2 : MethodName := ⟨RJ9, "<init>", "(IF)V"⟩
def dkwJ9_init_2_4 : List UInt8 := [181, 0, 88, 177]
abbrev dktJ9_init_2_4 : List UInt8 := dkwJ9_init_2_4 ++ []
def dkwJ9_init_2_3 : List UInt8 := [182, 0, 56, 36, 182, 0, 78, 182, 0, 63, 183, 0, 67, 191, 42, 36, 181, 0, 81, 42, 27, 184, 0, 85]
abbrev dktJ9_init_2_3 : List UInt8 := dkwJ9_init_2_3 ++ dktJ9_init_2_4
def dkwJ9_init_2_2 : List UInt8 := [158, 0, 10, 36, 184, 0, 70, 153, 0, 30, 187, 0, 49, 89, 187, 0, 51, 89, 183, 0, 53, 18, 76]
abbrev dktJ9_init_2_2 : List UInt8 := dkwJ9_init_2_2 ++ dktJ9_init_2_3
def dkwJ9_init_2_1 : List UInt8 := [27, 182, 0, 60, 182, 0, 63, 183, 0, 67, 191, 27, 18, 42, 164, 0, 6, 18, 42, 60, 36, 11, 150]
abbrev dktJ9_init_2_1 : List UInt8 := dkwJ9_init_2_1 ++ dktJ9_init_2_2
def dkwJ9_init_2_0 : List UInt8 := [42, 183, 0, 43, 27, 156, 0, 30, 187, 0, 49, 89, 187, 0, 51, 89, 183, 0, 53, 18, 54, 182, 0, 56]
abbrev dktJ9_init_2_0 : List UInt8 := dkwJ9_init_2_0 ++ dktJ9_init_2_1
theorem dksJ9_init_2_0 : cJ9_init_2.data.toList.drop 0 = dktJ9_init_2_0 := by decide +kernel
theorem dksJ9_init_2_1 : cJ9_init_2.data.toList.drop 24 = dktJ9_init_2_1 := dk_seg dksJ9_init_2_0 24 rfl rfl
theorem dksJ9_init_2_2 : cJ9_init_2.data.toList.drop 47 = dktJ9_init_2_2 := dk_seg dksJ9_init_2_1 23 rfl rfl
theorem dksJ9_init_2_3 : cJ9_init_2.data.toList.drop 70 = dktJ9_init_2_3 := dk_seg dksJ9_init_2_2 23 rfl rfl
theorem dksJ9_init_2_4 : cJ9_init_2.data.toList.drop 94 = dktJ9_init_2_4 := dk_seg dksJ9_init_2_3 24 rfl rfl
theorem dJ9_init_2_0 : decode cJ9_init_2 0 = .ok (.aload_n 0, 1) := dk_42 (dk_at dksJ9_init_2_0 0 rfl rfl)
theorem dJ9_init_2_1 : decode cJ9_init_2 1 = .ok (.invokespecial 43, 3) := dk_183 0 43 (dk_at dksJ9_init_2_0 1 rfl rfl)
theorem dJ9_init_2_4 : decode cJ9_init_2 4 = .ok (.iload_n 1, 1) := dk_27 (dk_at dksJ9_init_2_0 4 rfl rfl)
theorem dJ9_init_2_5 : decode cJ9_init_2 5 = .ok (.ifCond .ge 30, 3) := dk_156 0 30 (dk_at dksJ9_init_2_0 5 rfl rfl)
theorem dJ9_init_2_8 : decode cJ9_init_2 8 = .ok (.new 49, 3) := dk_187 0 49 (dk_at dksJ9_init_2_0 8 rfl rfl)
theorem dJ9_init_2_11 : decode cJ9_init_2 11 = .ok (.dup, 1) := dk_89 (dk_at dksJ9_init_2_0 11 rfl rfl)
theorem dJ9_init_2_12 : decode cJ9_init_2 12 = .ok (.new 51, 3) := dk_187 0 51 (dk_at dksJ9_init_2_0 12 rfl rfl)
theorem dJ9_init_2_15 : decode cJ9_init_2 15 = .ok (.dup, 1) := dk_89 (dk_at dksJ9_init_2_0 15 rfl rfl)
theorem dJ9_init_2_16 : decode cJ9_init_2 16 = .ok (.invokespecial 53, 3) := dk_183 0 53 (dk_at dksJ9_init_2_0 16 rfl rfl)
theorem dJ9_init_2_19 : decode cJ9_init_2 19 = .ok (.ldc 54, 2) := dk_18 54 (dk_at dksJ9_init_2_0 19 rfl rfl)
theorem dJ9_init_2_21 : decode cJ9_init_2 21 = .ok (.invokevirtual 56, 3) := dk_182 0 56 (dk_at dksJ9_init_2_0 21 rfl rfl)
theorem dJ9_init_2_24 : decode cJ9_init_2 24 = .ok (.iload_n 1, 1) := dk_27 (dk_at dksJ9_init_2_1 0 rfl rfl)
theorem dJ9_init_2_25 : decode cJ9_init_2 25 = .ok (.invokevirtual 60, 3) := dk_182 0 60 (dk_at dksJ9_init_2_1 1 rfl rfl)
theorem dJ9_init_2_28 : decode cJ9_init_2 28 = .ok (.invokevirtual 63, 3) := dk_182 0 63 (dk_at dksJ9_init_2_1 4 rfl rfl)
theorem dJ9_init_2_31 : decode cJ9_init_2 31 = .ok (.invokespecial 67, 3) := dk_183 0 67 (dk_at dksJ9_init_2_1 7 rfl rfl)
theorem dJ9_init_2_34 : decode cJ9_init_2 34 = .ok (.athrow, 1) := dk_191 (dk_at dksJ9_init_2_1 10 rfl rfl)
theorem dJ9_init_2_35 : decode cJ9_init_2 35 = .ok (.iload_n 1, 1) := dk_27 (dk_at dksJ9_init_2_1 11 rfl rfl)
theorem dJ9_init_2_36 : decode cJ9_init_2 36 = .ok (.ldc 42, 2) := dk_18 42 (dk_at dksJ9_init_2_1 12 rfl rfl)
theorem dJ9_init_2_38 : decode cJ9_init_2 38 = .ok (.if_icmp .le 6, 3) := dk_164 0 6 (dk_at dksJ9_init_2_1 14 rfl rfl)
theorem dJ9_init_2_41 : decode cJ9_init_2 41 = .ok (.ldc 42, 2) := dk_18 42 (dk_at dksJ9_init_2_1 17 rfl rfl)
theorem dJ9_init_2_43 : decode cJ9_init_2 43 = .ok (.istore_n 1, 1) := dk_60 (dk_at dksJ9_init_2_1 19 rfl rfl)
theorem dJ9_init_2_44 : decode cJ9_init_2 44 = .ok (.fload_n 2, 1) := dk_36 (dk_at dksJ9_init_2_1 20 rfl rfl)
theorem dJ9_init_2_45 : decode cJ9_init_2 45 = .ok (.fconst 0, 1) := dk_11 (dk_at dksJ9_init_2_1 21 rfl rfl)
theorem dJ9_init_2_46 : decode cJ9_init_2 46 = .ok (.fcmp .g, 1) := dk_150 (dk_at dksJ9_init_2_1 22 rfl rfl)
theorem dJ9_init_2_47 : decode cJ9_init_2 47 = .ok (.ifCond .le 10, 3) := dk_158 0 10 (dk_at dksJ9_init_2_2 0 rfl rfl)
theorem dJ9_init_2_50 : decode cJ9_init_2 50 = .ok (.fload_n 2, 1) := dk_36 (dk_at dksJ9_init_2_2 3 rfl rfl)
theorem dJ9_init_2_51 : decode cJ9_init_2 51 = .ok (.invokestatic 70, 3) := dk_184 0 70 (dk_at dksJ9_init_2_2 4 rfl rfl)
theorem dJ9_init_2_54 : decode cJ9_init_2 54 = .ok (.ifCond .eq 30, 3) := dk_153 0 30 (dk_at dksJ9_init_2_2 7 rfl rfl)
theorem dJ9_init_2_57 : decode cJ9_init_2 57 = .ok (.new 49, 3) := dk_187 0 49 (dk_at dksJ9_init_2_2 10 rfl rfl)
theorem dJ9_init_2_60 : decode cJ9_init_2 60 = .ok (.dup, 1) := dk_89 (dk_at dksJ9_init_2_2 13 rfl rfl)
theorem dJ9_init_2_61 : decode cJ9_init_2 61 = .ok (.new 51, 3) := dk_187 0 51 (dk_at dksJ9_init_2_2 14 rfl rfl)
theorem dJ9_init_2_64 : decode cJ9_init_2 64 = .ok (.dup, 1) := dk_89 (dk_at dksJ9_init_2_2 17 rfl rfl)
theorem dJ9_init_2_65 : decode cJ9_init_2 65 = .ok (.invokespecial 53, 3) := dk_183 0 53 (dk_at dksJ9_init_2_2 18 rfl rfl)
theorem dJ9_init_2_68 : decode cJ9_init_2 68 = .ok (.ldc 76, 2) := dk_18 76 (dk_at dksJ9_init_2_2 21 rfl rfl)
theorem dJ9_init_2_70 : decode cJ9_init_2 70 = .ok (.invokevirtual 56, 3) := dk_182 0 56 (dk_at dksJ9_init_2_3 0 rfl rfl)
theorem dJ9_init_2_73 : decode cJ9_init_2 73 = .ok (.fload_n 2, 1) := dk_36 (dk_at dksJ9_init_2_3 3 rfl rfl)
theorem dJ9_init_2_74 : decode cJ9_init_2 74 = .ok (.invokevirtual 78, 3) := dk_182 0 78 (dk_at dksJ9_init_2_3 4 rfl rfl)
theorem dJ9_init_2_77 : decode cJ9_init_2 77 = .ok (.invokevirtual 63, 3) := dk_182 0 63 (dk_at dksJ9_init_2_3 7 rfl rfl)
theorem dJ9_init_2_80 : decode cJ9_init_2 80 = .ok (.invokespecial 67, 3) := dk_183 0 67 (dk_at dksJ9_init_2_3 10 rfl rfl)
theorem dJ9_init_2_83 : decode cJ9_init_2 83 = .ok (.athrow, 1) := dk_191 (dk_at dksJ9_init_2_3 13 rfl rfl)
theorem dJ9_init_2_84 : decode cJ9_init_2 84 = .ok (.aload_n 0, 1) := dk_42 (dk_at dksJ9_init_2_3 14 rfl rfl)
theorem dJ9_init_2_85 : decode cJ9_init_2 85 = .ok (.fload_n 2, 1) := dk_36 (dk_at dksJ9_init_2_3 15 rfl rfl)
theorem dJ9_init_2_86 : decode cJ9_init_2 86 = .ok (.putfield 81, 3) := dk_181 0 81 (dk_at dksJ9_init_2_3 16 rfl rfl)
theorem dJ9_init_2_89 : decode cJ9_init_2 89 = .ok (.aload_n 0, 1) := dk_42 (dk_at dksJ9_init_2_3 19 rfl rfl)
theorem dJ9_init_2_90 : decode cJ9_init_2 90 = .ok (.iload_n 1, 1) := dk_27 (dk_at dksJ9_init_2_3 20 rfl rfl)
theorem dJ9_init_2_91 : decode cJ9_init_2 91 = .ok (.invokestatic 85, 3) := dk_184 0 85 (dk_at dksJ9_init_2_3 21 rfl rfl)
theorem dJ9_init_2_94 : decode cJ9_init_2 94 = .ok (.putfield 88, 3) := dk_181 0 88 (dk_at dksJ9_init_2_4 0 rfl rfl)
theorem dJ9_init_2_97 : decode cJ9_init_2 97 = .ok (.return_, 1) := dk_177 (dk_at dksJ9_init_2_4 3 rfl rfl)
abbrev cJ9_tableSizeFor : ByteArray := prog_49_method_4_code
def yJ9_tableSizeFor : MethodName := ⟨RJ9, "tableSizeFor", "(I)I"⟩
def dkwJ9_tableSizeFor_1 : List UInt8 := [18, 42, 167, 0, 6, 27, 4, 96, 172]
abbrev dktJ9_tableSizeFor_1 : List UInt8 := dkwJ9_tableSizeFor_1 ++ []
def dkwJ9_tableSizeFor_0 : List UInt8 := [2, 26, 4, 100, 184, 0, 34, 124, 60, 27, 156, 0, 7, 4, 167, 0, 17, 27, 18, 42, 161, 0, 8]
abbrev dktJ9_tableSizeFor_0 : List UInt8 := dkwJ9_tableSizeFor_0 ++ dktJ9_tableSizeFor_1
theorem dksJ9_tableSizeFor_0 : cJ9_tableSizeFor.data.toList.drop 0 = dktJ9_tableSizeFor_0 := by decide +kernel
theorem dksJ9_tableSizeFor_1 : cJ9_tableSizeFor.data.toList.drop 23 = dktJ9_tableSizeFor_1 := dk_seg dksJ9_tableSizeFor_0 23 rfl rfl
theorem dJ9_tableSizeFor_0 : decode cJ9_tableSizeFor 0 = .ok (.iconst (-1), 1) := dk_2 (dk_at dksJ9_tableSizeFor_0 0 rfl rfl)
theorem dJ9_tableSizeFor_1 : decode cJ9_tableSizeFor 1 = .ok (.iload_n 0, 1) := dk_26 (dk_at dksJ9_tableSizeFor_0 1 rfl rfl)
theorem dJ9_tableSizeFor_2 : decode cJ9_tableSizeFor 2 = .ok (.iconst 1, 1) := dk_4 (dk_at dksJ9_tableSizeFor_0 2 rfl rfl)
theorem dJ9_tableSizeFor_3 : decode cJ9_tableSizeFor 3 = .ok (.isub, 1) := dk_100 (dk_at dksJ9_tableSizeFor_0 3 rfl rfl)
theorem dJ9_tableSizeFor_4 : decode cJ9_tableSizeFor 4 = .ok (.invokestatic 34, 3) := dk_184 0 34 (dk_at dksJ9_tableSizeFor_0 4 rfl rfl)
theorem dJ9_tableSizeFor_7 : decode cJ9_tableSizeFor 7 = .ok (.iushr, 1) := dk_124 (dk_at dksJ9_tableSizeFor_0 7 rfl rfl)
theorem dJ9_tableSizeFor_8 : decode cJ9_tableSizeFor 8 = .ok (.istore_n 1, 1) := dk_60 (dk_at dksJ9_tableSizeFor_0 8 rfl rfl)
theorem dJ9_tableSizeFor_9 : decode cJ9_tableSizeFor 9 = .ok (.iload_n 1, 1) := dk_27 (dk_at dksJ9_tableSizeFor_0 9 rfl rfl)
theorem dJ9_tableSizeFor_10 : decode cJ9_tableSizeFor 10 = .ok (.ifCond .ge 7, 3) := dk_156 0 7 (dk_at dksJ9_tableSizeFor_0 10 rfl rfl)
theorem dJ9_tableSizeFor_13 : decode cJ9_tableSizeFor 13 = .ok (.iconst 1, 1) := dk_4 (dk_at dksJ9_tableSizeFor_0 13 rfl rfl)
theorem dJ9_tableSizeFor_14 : decode cJ9_tableSizeFor 14 = .ok (.goto 17, 3) := dk_167 0 17 (dk_at dksJ9_tableSizeFor_0 14 rfl rfl)
theorem dJ9_tableSizeFor_17 : decode cJ9_tableSizeFor 17 = .ok (.iload_n 1, 1) := dk_27 (dk_at dksJ9_tableSizeFor_0 17 rfl rfl)
theorem dJ9_tableSizeFor_18 : decode cJ9_tableSizeFor 18 = .ok (.ldc 42, 2) := dk_18 42 (dk_at dksJ9_tableSizeFor_0 18 rfl rfl)
theorem dJ9_tableSizeFor_20 : decode cJ9_tableSizeFor 20 = .ok (.if_icmp .lt 8, 3) := dk_161 0 8 (dk_at dksJ9_tableSizeFor_0 20 rfl rfl)
theorem dJ9_tableSizeFor_23 : decode cJ9_tableSizeFor 23 = .ok (.ldc 42, 2) := dk_18 42 (dk_at dksJ9_tableSizeFor_1 0 rfl rfl)
theorem dJ9_tableSizeFor_25 : decode cJ9_tableSizeFor 25 = .ok (.goto 6, 3) := dk_167 0 6 (dk_at dksJ9_tableSizeFor_1 2 rfl rfl)
theorem dJ9_tableSizeFor_28 : decode cJ9_tableSizeFor 28 = .ok (.iload_n 1, 1) := dk_27 (dk_at dksJ9_tableSizeFor_1 5 rfl rfl)
theorem dJ9_tableSizeFor_29 : decode cJ9_tableSizeFor 29 = .ok (.iconst 1, 1) := dk_4 (dk_at dksJ9_tableSizeFor_1 6 rfl rfl)
theorem dJ9_tableSizeFor_30 : decode cJ9_tableSizeFor 30 = .ok (.iadd, 1) := dk_96 (dk_at dksJ9_tableSizeFor_1 7 rfl rfl)
theorem dJ9_tableSizeFor_31 : decode cJ9_tableSizeFor 31 = .ok (.ireturn, 1) := dk_172 (dk_at dksJ9_tableSizeFor_1 8 rfl rfl)
abbrev cJ9_isEmpty : ByteArray := prog_49_method_11_code
def yJ9_isEmpty : MethodName := ⟨RJ9, "isEmpty", "()Z"⟩
def dkwJ9_isEmpty_0 : List UInt8 := [42, 180, 0, 156, 154, 0, 7, 4, 167, 0, 4, 3, 172]
abbrev dktJ9_isEmpty_0 : List UInt8 := dkwJ9_isEmpty_0 ++ []
theorem dksJ9_isEmpty_0 : cJ9_isEmpty.data.toList.drop 0 = dktJ9_isEmpty_0 := by decide +kernel
theorem dJ9_isEmpty_0 : decode cJ9_isEmpty 0 = .ok (.aload_n 0, 1) := dk_42 (dk_at dksJ9_isEmpty_0 0 rfl rfl)
theorem dJ9_isEmpty_1 : decode cJ9_isEmpty 1 = .ok (.getfield 156, 3) := dk_180 0 156 (dk_at dksJ9_isEmpty_0 1 rfl rfl)
theorem dJ9_isEmpty_4 : decode cJ9_isEmpty 4 = .ok (.ifCond .ne 7, 3) := dk_154 0 7 (dk_at dksJ9_isEmpty_0 4 rfl rfl)
theorem dJ9_isEmpty_7 : decode cJ9_isEmpty 7 = .ok (.iconst 1, 1) := dk_4 (dk_at dksJ9_isEmpty_0 7 rfl rfl)
theorem dJ9_isEmpty_8 : decode cJ9_isEmpty 8 = .ok (.goto 4, 3) := dk_167 0 4 (dk_at dksJ9_isEmpty_0 8 rfl rfl)
theorem dJ9_isEmpty_11 : decode cJ9_isEmpty 11 = .ok (.iconst 0, 1) := dk_3 (dk_at dksJ9_isEmpty_0 11 rfl rfl)
theorem dJ9_isEmpty_12 : decode cJ9_isEmpty 12 = .ok (.ireturn, 1) := dk_172 (dk_at dksJ9_isEmpty_0 12 rfl rfl)
abbrev cJ9_size : ByteArray := prog_49_method_10_code
def yJ9_size : MethodName := ⟨RJ9, "size", "()I"⟩
theorem dJ9_size_0 : decode cJ9_size 0 = .ok (.aload_n 0, 1) := by decide +kernel
theorem dJ9_size_1 : decode cJ9_size 1 = .ok (.getfield 156, 3) := by decide +kernel
theorem dJ9_size_4 : decode cJ9_size 4 = .ok (.ireturn, 1) := by decide +kernel
theorem q106 : (Jvm.Cond.initialized "java/util/HashMap") ∈ lw_all := lw_g (lw_at lw_m1 17 rfl) rfl
theorem q426 : (Jvm.Cond.instanceMethod ({ cls := "java/util/HashMap", name := "<init>", desc := "()V" } : Jvm.MethodName)) ∈ lw_all := lw_g (lw_at lw_m2 97 rfl) rfl
theorem q427 : (Jvm.Cond.code ({ cls := "java/util/HashMap", name := "<init>", desc := "()V" } : Jvm.MethodName) prog_49_method_7_code (1 : Nat) (Option.none : Option Jvm.ClassFile.FieldType)) ∈ lw_all := lw_g (lw_at lw_m2 98 rfl) rfl
theorem q428 : (Jvm.Cond.methodLink "java/util/HashMap" (43 : Nat) ({ cls := "java/util/AbstractMap", name := "<init>", desc := "()V" } : Jvm.MethodName)) ∈ lw_all := lw_g (lw_at lw_m2 99 rfl) rfl
theorem q432 : (Jvm.Cond.constantFloat "java/util/HashMap" (92 : Nat) (1061158912 : UInt32)) ∈ lw_all := lw_g (lw_at lw_m2 103 rfl) rfl
theorem q440 : (Jvm.Cond.fieldLink "java/util/HashMap" (105 : Nat) "java/util/HashMap" "table" "[Ljava/util/HashMap$Node;") ∈ lw_all := lw_g (lw_at lw_m2 111 rfl) rfl
theorem q442 : (Jvm.Cond.fieldLink "java/util/HashMap" (156 : Nat) "java/util/HashMap" "size" "I") ∈ lw_all := lw_g (lw_at lw_m2 113 rfl) rfl
theorem q447 : (Jvm.Cond.fieldLink "java/util/HashMap" (202 : Nat) "java/util/HashMap" "modCount" "I") ∈ lw_all := lw_g (lw_at lw_m2 118 rfl) rfl
theorem q448 : (Jvm.Cond.fieldLink "java/util/HashMap" (88 : Nat) "java/util/HashMap" "threshold" "I") ∈ lw_all := lw_g (lw_at lw_m2 119 rfl) rfl
theorem q449 : (Jvm.Cond.fieldLink "java/util/HashMap" (81 : Nat) "java/util/HashMap" "loadFactor" "F") ∈ lw_all := lw_g (lw_at lw_m2 120 rfl) rfl
theorem q450 : (Jvm.Cond.fieldLink "java/util/HashMap" (239 : Nat) "java/util/HashMap" "keySet" "Ljava/util/Set;") ∈ lw_all := lw_g (lw_at lw_m2 121 rfl) rfl
theorem q451 : (Jvm.Cond.sameField "java/util/HashMap" "java/util/AbstractMap" "keySet" "Ljava/util/Set;") ∈ lw_all := lw_g (lw_at lw_m2 122 rfl) rfl
theorem q463 : (Jvm.Cond.soleField "java/util/HashMap" "table") ∈ lw_all := lw_g (lw_at lw_m2 134 rfl) rfl
theorem q465 : (Jvm.Cond.soleField "java/util/HashMap" "entrySet") ∈ lw_all := lw_g (lw_at lw_m2 136 rfl) rfl
theorem q467 : (Jvm.Cond.soleField "java/util/HashMap" "size") ∈ lw_all := lw_g (lw_at lw_m2 138 rfl) rfl
theorem q469 : (Jvm.Cond.soleField "java/util/HashMap" "modCount") ∈ lw_all := lw_g (lw_at lw_m2 140 rfl) rfl
theorem q471 : (Jvm.Cond.soleField "java/util/HashMap" "threshold") ∈ lw_all := lw_g (lw_at lw_m2 142 rfl) rfl
theorem q473 : (Jvm.Cond.soleField "java/util/HashMap" "loadFactor") ∈ lw_all := lw_g (lw_at lw_m2 144 rfl) rfl
theorem q509 : (Jvm.Cond.declares ({ cls := "java/util/HashMap", name := "put", desc := "(Ljava/lang/Object;Ljava/lang/Object;)Ljava/lang/Object;" } : Jvm.MethodName)) ∈ lw_tbl := lw_at lw_m2 180 rfl
theorem q511 : (Jvm.Cond.instanceMethod ({ cls := "java/util/HashMap", name := "put", desc := "(Ljava/lang/Object;Ljava/lang/Object;)Ljava/lang/Object;" } : Jvm.MethodName)) ∈ lw_all := lw_g (lw_at lw_m2 182 rfl) rfl
theorem q512 : (Jvm.Cond.code ({ cls := "java/util/HashMap", name := "put", desc := "(Ljava/lang/Object;Ljava/lang/Object;)Ljava/lang/Object;" } : Jvm.MethodName) prog_49_method_15_code (3 : Nat) (Option.some (Jvm.ClassFile.FieldType.object "java/lang/Object"))) ∈ lw_all := lw_g (lw_at lw_m2 183 rfl) rfl
theorem q513 : (Jvm.Cond.methodLink "java/util/HashMap" (149 : Nat) ({ cls := "java/util/HashMap", name := "hash", desc := "(Ljava/lang/Object;)I" } : Jvm.MethodName)) ∈ lw_all := lw_g (lw_at lw_m2 184 rfl) rfl
theorem q514 : (Jvm.Cond.static ({ cls := "java/util/HashMap", name := "hash", desc := "(Ljava/lang/Object;)I" } : Jvm.MethodName)) ∈ lw_all := lw_g (lw_at lw_m2 185 rfl) rfl
theorem q515 : (Jvm.Cond.code ({ cls := "java/util/HashMap", name := "hash", desc := "(Ljava/lang/Object;)I" } : Jvm.MethodName) prog_49_method_1_code (2 : Nat) (Option.some Jvm.ClassFile.FieldType.int)) ∈ lw_all := lw_g (lw_at lw_m2 186 rfl) rfl
theorem q517 : (Jvm.Cond.methodLink "java/util/HashMap" (1 : Nat) ({ cls := "java/lang/Object", name := "hashCode", desc := "()I" } : Jvm.MethodName)) ∈ lw_all := lw_g (lw_at lw_m2 188 rfl) rfl
theorem q612 : (Jvm.Cond.methodLink "java/util/HashMap" (152 : Nat) ({ cls := "java/util/HashMap", name := "putVal", desc := "(ILjava/lang/Object;Ljava/lang/Object;ZZ)Ljava/lang/Object;" } : Jvm.MethodName)) ∈ lw_all := lw_g (lw_at lw_m3 43 rfl) rfl
theorem q613 : (Jvm.Cond.instanceMethod ({ cls := "java/util/HashMap", name := "putVal", desc := "(ILjava/lang/Object;Ljava/lang/Object;ZZ)Ljava/lang/Object;" } : Jvm.MethodName)) ∈ lw_all := lw_g (lw_at lw_m3 44 rfl) rfl
theorem q614 : (Jvm.Cond.sameMethod "java/util/HashMap" "java/util/HashMap" "putVal" "(ILjava/lang/Object;Ljava/lang/Object;ZZ)Ljava/lang/Object;") ∈ lw_all := lw_g (lw_at lw_m3 45 rfl) rfl
theorem q616 : (Jvm.Cond.code ({ cls := "java/util/HashMap", name := "putVal", desc := "(ILjava/lang/Object;Ljava/lang/Object;ZZ)Ljava/lang/Object;" } : Jvm.MethodName) prog_49_method_16_code (13 : Nat) (Option.some (Jvm.ClassFile.FieldType.object "java/lang/Object"))) ∈ lw_all := lw_g (lw_at lw_m3 47 rfl) rfl
theorem q617 : (Jvm.Cond.methodLink "java/util/HashMap" (117 : Nat) ({ cls := "java/util/HashMap", name := "resize", desc := "()[Ljava/util/HashMap$Node;" } : Jvm.MethodName)) ∈ lw_all := lw_g (lw_at lw_m3 48 rfl) rfl
theorem q618 : (Jvm.Cond.instanceMethod ({ cls := "java/util/HashMap", name := "resize", desc := "()[Ljava/util/HashMap$Node;" } : Jvm.MethodName)) ∈ lw_all := lw_g (lw_at lw_m3 49 rfl) rfl
theorem q619 : (Jvm.Cond.sameMethod "java/util/HashMap" "java/util/HashMap" "resize" "()[Ljava/util/HashMap$Node;") ∈ lw_all := lw_g (lw_at lw_m3 50 rfl) rfl
theorem q621 : (Jvm.Cond.code ({ cls := "java/util/HashMap", name := "resize", desc := "()[Ljava/util/HashMap$Node;" } : Jvm.MethodName) prog_49_method_17_code (14 : Nat) (Option.some (Jvm.ClassFile.FieldType.array (Jvm.ClassFile.FieldType.object "java/util/HashMap$Node")))) ∈ lw_all := lw_g (lw_at lw_m3 52 rfl) rfl
theorem q622 : (Jvm.Cond.constant "java/util/HashMap" (42 : Nat) (1073741824 : Int32)) ∈ lw_all := lw_g (lw_at lw_m3 53 rfl) rfl
theorem q623 : (Jvm.Cond.constant "java/util/HashMap" (209 : Nat) (2147483647 : Int32)) ∈ lw_all := lw_g (lw_at lw_m3 54 rfl) rfl
theorem q624 : (Jvm.Cond.constantFloat "java/util/HashMap" (210 : Nat) (1317011456 : UInt32)) ∈ lw_all := lw_g (lw_at lw_m3 55 rfl) rfl
theorem q625 : (Jvm.Cond.classLink "java/util/HashMap" (163 : Nat) "java/util/HashMap$Node") ∈ lw_all := lw_g (lw_at lw_m3 56 rfl) rfl
theorem q627 : (Jvm.Cond.classLink "java/util/HashMap" (180 : Nat) "java/util/HashMap$TreeNode") ∈ lw_all := lw_g (lw_at lw_m3 58 rfl) rfl
theorem q628 : (Jvm.Cond.methodLink "java/util/HashMap" (211 : Nat) ({ cls := "java/util/HashMap$TreeNode", name := "split", desc := "(Ljava/util/HashMap;[Ljava/util/HashMap$Node;II)V" } : Jvm.MethodName)) ∈ lw_all := lw_g (lw_at lw_m3 59 rfl) rfl
theorem q638 : (Jvm.Cond.instanceMethod ({ cls := "java/util/HashMap", name := "replacementNode", desc := "(Ljava/util/HashMap$Node;Ljava/util/HashMap$Node;)Ljava/util/HashMap$Node;" } : Jvm.MethodName)) ∈ lw_all := lw_g (lw_at lw_m3 69 rfl) rfl
theorem q639 : (Jvm.Cond.sameMethod "java/util/HashMap" "java/util/HashMap" "replacementNode" "(Ljava/util/HashMap$Node;Ljava/util/HashMap$Node;)Ljava/util/HashMap$Node;") ∈ lw_all := lw_g (lw_at lw_m3 70 rfl) rfl
theorem q661 : (Jvm.Cond.fieldLink "java/util/HashMap" (168 : Nat) "java/util/HashMap$Node" "hash" "I") ∈ lw_all := lw_g (lw_at lw_m3 92 rfl) rfl
theorem q668 : (Jvm.Cond.fieldLink "java/util/HashMap" (170 : Nat) "java/util/HashMap$Node" "key" "Ljava/lang/Object;") ∈ lw_all := lw_g (lw_at lw_m3 99 rfl) rfl
theorem q672 : (Jvm.Cond.fieldLink "java/util/HashMap" (162 : Nat) "java/util/HashMap$Node" "value" "Ljava/lang/Object;") ∈ lw_all := lw_g (lw_at lw_m3 103 rfl) rfl
theorem q679 : (Jvm.Cond.fieldLink "java/util/HashMap" (177 : Nat) "java/util/HashMap$Node" "next" "Ljava/util/HashMap$Node;") ∈ lw_all := lw_g (lw_at lw_m3 110 rfl) rfl
theorem q680 : (Jvm.Cond.fieldLink "java/util/HashMap" (223 : Nat) "java/util/HashMap$TreeNode" "next" "Ljava/util/HashMap$Node;") ∈ lw_all := lw_g (lw_at lw_m3 111 rfl) rfl
theorem q698 : (Jvm.Cond.declares ({ cls := "java/util/HashMap", name := "replacementNode", desc := "(Ljava/util/HashMap$Node;Ljava/util/HashMap$Node;)Ljava/util/HashMap$Node;" } : Jvm.MethodName)) ∈ lw_tbl := lw_at lw_m3 129 rfl
theorem q704 : (Jvm.Cond.static ({ cls := "java/util/HashMap", name := "comparableClassFor", desc := "(Ljava/lang/Object;)Ljava/lang/Class;" } : Jvm.MethodName)) ∈ lw_all := lw_g (lw_at lw_m3 135 rfl) rfl
theorem q705 : (Jvm.Cond.code ({ cls := "java/util/HashMap", name := "comparableClassFor", desc := "(Ljava/lang/Object;)Ljava/lang/Class;" } : Jvm.MethodName) prog_49_method_2_code (9 : Nat) (Option.some (Jvm.ClassFile.FieldType.object "java/lang/Class"))) ∈ lw_all := lw_g (lw_at lw_m3 136 rfl) rfl
theorem q706 : (Jvm.Cond.classLink "java/util/HashMap" (7 : Nat) "java/lang/Comparable") ∈ lw_all := lw_g (lw_at lw_m3 137 rfl) rfl
theorem q707 : (Jvm.Cond.methodLink "java/util/HashMap" (9 : Nat) ({ cls := "java/lang/Object", name := "getClass", desc := "()Ljava/lang/Class;" } : Jvm.MethodName)) ∈ lw_all := lw_g (lw_at lw_m3 138 rfl) rfl
theorem q708 : (Jvm.Cond.classLink "java/util/HashMap" (13 : Nat) "java/lang/String") ∈ lw_all := lw_g (lw_at lw_m3 139 rfl) rfl
theorem q710 : (Jvm.Cond.static ({ cls := "java/util/HashMap", name := "compareComparables", desc := "(Ljava/lang/Class;Ljava/lang/Object;Ljava/lang/Object;)I" } : Jvm.MethodName)) ∈ lw_all := lw_g (lw_at lw_m3 141 rfl) rfl
theorem q711 : (Jvm.Cond.code ({ cls := "java/util/HashMap", name := "compareComparables", desc := "(Ljava/lang/Class;Ljava/lang/Object;Ljava/lang/Object;)I" } : Jvm.MethodName) prog_49_method_3_code (3 : Nat) (Option.some Jvm.ClassFile.FieldType.int)) ∈ lw_all := lw_g (lw_at lw_m3 142 rfl) rfl
theorem q712 : (Jvm.Cond.interfaceEntry "java/util/HashMap" (30 : Nat)) ∈ lw_tbl := lw_at lw_m3 143 rfl
theorem q713 : (Jvm.Cond.methodLink "java/util/HashMap" (30 : Nat) ({ cls := "java/lang/Comparable", name := "compareTo", desc := "(Ljava/lang/Object;)I" } : Jvm.MethodName)) ∈ lw_all := lw_g (lw_at lw_m3 144 rfl) rfl
theorem q939 : (Jvm.Cond.methodLink "java/util/HashMap" (186 : Nat) ({ cls := "java/util/HashMap", name := "newNode", desc := "(ILjava/lang/Object;Ljava/lang/Object;Ljava/util/HashMap$Node;)Ljava/util/HashMap$Node;" } : Jvm.MethodName)) ∈ lw_all := lw_g (lw_at lw_m4 130 rfl) rfl
theorem q940 : (Jvm.Cond.instanceMethod ({ cls := "java/util/HashMap", name := "newNode", desc := "(ILjava/lang/Object;Ljava/lang/Object;Ljava/util/HashMap$Node;)Ljava/util/HashMap$Node;" } : Jvm.MethodName)) ∈ lw_all := lw_g (lw_at lw_m4 131 rfl) rfl
theorem q941 : (Jvm.Cond.sameMethod "java/util/HashMap" "java/util/HashMap" "newNode" "(ILjava/lang/Object;Ljava/lang/Object;Ljava/util/HashMap$Node;)Ljava/util/HashMap$Node;") ∈ lw_all := lw_g (lw_at lw_m4 132 rfl) rfl
theorem q949 : (Jvm.Cond.declares ({ cls := "java/util/HashMap", name := "newNode", desc := "(ILjava/lang/Object;Ljava/lang/Object;Ljava/util/HashMap$Node;)Ljava/util/HashMap$Node;" } : Jvm.MethodName)) ∈ lw_tbl := lw_at lw_m4 140 rfl
theorem q951 : (Jvm.Cond.methodLink "java/util/HashMap" (173 : Nat) ({ cls := "java/lang/Object", name := "equals", desc := "(Ljava/lang/Object;)Z" } : Jvm.MethodName)) ∈ lw_all := lw_g (lw_at lw_m4 142 rfl) rfl
theorem q988 : (Jvm.Cond.methodLink "java/util/HashMap" (190 : Nat) ({ cls := "java/util/HashMap$TreeNode", name := "putTreeVal", desc := "(Ljava/util/HashMap;[Ljava/util/HashMap$Node;ILjava/lang/Object;Ljava/lang/Object;)Ljava/util/HashMap$TreeNode;" } : Jvm.MethodName)) ∈ lw_all := lw_g (lw_at lw_m4 179 rfl) rfl
theorem q1002 : (Jvm.Cond.instanceMethod ({ cls := "java/util/HashMap", name := "newTreeNode", desc := "(ILjava/lang/Object;Ljava/lang/Object;Ljava/util/HashMap$Node;)Ljava/util/HashMap$TreeNode;" } : Jvm.MethodName)) ∈ lw_all := lw_g (lw_at lw_m4 193 rfl) rfl
theorem q1003 : (Jvm.Cond.sameMethod "java/util/HashMap" "java/util/HashMap" "newTreeNode" "(ILjava/lang/Object;Ljava/lang/Object;Ljava/util/HashMap$Node;)Ljava/util/HashMap$TreeNode;") ∈ lw_all := lw_g (lw_at lw_m4 194 rfl) rfl
theorem q1017 : (Jvm.Cond.fieldLink "java/util/HashMap" (219 : Nat) "java/util/HashMap$TreeNode" "prev" "Ljava/util/HashMap$TreeNode;") ∈ lw_all := lw_g (lw_at lw_m4 208 rfl) rfl
theorem q1036 : (Jvm.Cond.declares ({ cls := "java/util/HashMap", name := "newTreeNode", desc := "(ILjava/lang/Object;Ljava/lang/Object;Ljava/util/HashMap$Node;)Ljava/util/HashMap$TreeNode;" } : Jvm.MethodName)) ∈ lw_tbl := lw_at lw_m4 227 rfl
theorem q1037 : (Jvm.Cond.methodLink "java/util/HashMap" (194 : Nat) ({ cls := "java/util/HashMap", name := "treeifyBin", desc := "([Ljava/util/HashMap$Node;I)V" } : Jvm.MethodName)) ∈ lw_all := lw_g (lw_at lw_m4 228 rfl) rfl
theorem q1038 : (Jvm.Cond.instanceMethod ({ cls := "java/util/HashMap", name := "treeifyBin", desc := "([Ljava/util/HashMap$Node;I)V" } : Jvm.MethodName)) ∈ lw_all := lw_g (lw_at lw_m4 229 rfl) rfl
theorem q1039 : (Jvm.Cond.sameMethod "java/util/HashMap" "java/util/HashMap" "treeifyBin" "([Ljava/util/HashMap$Node;I)V") ∈ lw_all := lw_g (lw_at lw_m4 230 rfl) rfl
theorem q1041 : (Jvm.Cond.code ({ cls := "java/util/HashMap", name := "treeifyBin", desc := "([Ljava/util/HashMap$Node;I)V" } : Jvm.MethodName) prog_49_method_18_code (9 : Nat) (Option.none : Option Jvm.ClassFile.FieldType)) ∈ lw_all := lw_g (lw_at lw_m4 232 rfl) rfl
theorem q1042 : (Jvm.Cond.methodLink "java/util/HashMap" (215 : Nat) ({ cls := "java/util/HashMap", name := "replacementTreeNode", desc := "(Ljava/util/HashMap$Node;Ljava/util/HashMap$Node;)Ljava/util/HashMap$TreeNode;" } : Jvm.MethodName)) ∈ lw_all := lw_g (lw_at lw_m4 233 rfl) rfl
theorem q1043 : (Jvm.Cond.instanceMethod ({ cls := "java/util/HashMap", name := "replacementTreeNode", desc := "(Ljava/util/HashMap$Node;Ljava/util/HashMap$Node;)Ljava/util/HashMap$TreeNode;" } : Jvm.MethodName)) ∈ lw_all := lw_g (lw_at lw_m4 234 rfl) rfl
theorem q1044 : (Jvm.Cond.sameMethod "java/util/HashMap" "java/util/HashMap" "replacementTreeNode" "(Ljava/util/HashMap$Node;Ljava/util/HashMap$Node;)Ljava/util/HashMap$TreeNode;") ∈ lw_all := lw_g (lw_at lw_m4 235 rfl) rfl
theorem q1048 : (Jvm.Cond.declares ({ cls := "java/util/HashMap", name := "replacementTreeNode", desc := "(Ljava/util/HashMap$Node;Ljava/util/HashMap$Node;)Ljava/util/HashMap$TreeNode;" } : Jvm.MethodName)) ∈ lw_tbl := lw_at lw_m4 239 rfl
theorem q1049 : (Jvm.Cond.methodLink "java/util/HashMap" (224 : Nat) ({ cls := "java/util/HashMap$TreeNode", name := "treeify", desc := "([Ljava/util/HashMap$Node;)V" } : Jvm.MethodName)) ∈ lw_all := lw_g (lw_at lw_m5 0 rfl) rfl
theorem q1050 : (Jvm.Cond.methodLink "java/util/HashMap" (198 : Nat) ({ cls := "java/util/HashMap", name := "afterNodeAccess", desc := "(Ljava/util/HashMap$Node;)V" } : Jvm.MethodName)) ∈ lw_all := lw_g (lw_at lw_m5 1 rfl) rfl
theorem q1051 : (Jvm.Cond.instanceMethod ({ cls := "java/util/HashMap", name := "afterNodeAccess", desc := "(Ljava/util/HashMap$Node;)V" } : Jvm.MethodName)) ∈ lw_all := lw_g (lw_at lw_m5 2 rfl) rfl
theorem q1052 : (Jvm.Cond.sameMethod "java/util/HashMap" "java/util/HashMap" "afterNodeAccess" "(Ljava/util/HashMap$Node;)V") ∈ lw_all := lw_g (lw_at lw_m5 3 rfl) rfl
theorem q1056 : (Jvm.Cond.declares ({ cls := "java/util/HashMap", name := "afterNodeAccess", desc := "(Ljava/util/HashMap$Node;)V" } : Jvm.MethodName)) ∈ lw_tbl := lw_at lw_m5 7 rfl
theorem q1057 : (Jvm.Cond.methodLink "java/util/HashMap" (205 : Nat) ({ cls := "java/util/HashMap", name := "afterNodeInsertion", desc := "(Z)V" } : Jvm.MethodName)) ∈ lw_all := lw_g (lw_at lw_m5 8 rfl) rfl
theorem q1058 : (Jvm.Cond.instanceMethod ({ cls := "java/util/HashMap", name := "afterNodeInsertion", desc := "(Z)V" } : Jvm.MethodName)) ∈ lw_all := lw_g (lw_at lw_m5 9 rfl) rfl
theorem q1059 : (Jvm.Cond.sameMethod "java/util/HashMap" "java/util/HashMap" "afterNodeInsertion" "(Z)V") ∈ lw_all := lw_g (lw_at lw_m5 10 rfl) rfl
theorem q1067 : (Jvm.Cond.declares ({ cls := "java/util/HashMap", name := "afterNodeInsertion", desc := "(Z)V" } : Jvm.MethodName)) ∈ lw_tbl := lw_at lw_m5 18 rfl
theorem q1070 : (Jvm.Cond.declares ({ cls := "java/util/HashMap", name := "containsKey", desc := "(Ljava/lang/Object;)Z" } : Jvm.MethodName)) ∈ lw_tbl := lw_at lw_m5 21 rfl
theorem q1072 : (Jvm.Cond.instanceMethod ({ cls := "java/util/HashMap", name := "containsKey", desc := "(Ljava/lang/Object;)Z" } : Jvm.MethodName)) ∈ lw_all := lw_g (lw_at lw_m5 23 rfl) rfl
theorem q1073 : (Jvm.Cond.code ({ cls := "java/util/HashMap", name := "containsKey", desc := "(Ljava/lang/Object;)Z" } : Jvm.MethodName) prog_49_method_14_code (2 : Nat) (Option.some Jvm.ClassFile.FieldType.boolean)) ∈ lw_all := lw_g (lw_at lw_m5 24 rfl) rfl
theorem q1074 : (Jvm.Cond.methodLink "java/util/HashMap" (158 : Nat) ({ cls := "java/util/HashMap", name := "getNode", desc := "(Ljava/lang/Object;)Ljava/util/HashMap$Node;" } : Jvm.MethodName)) ∈ lw_all := lw_g (lw_at lw_m5 25 rfl) rfl
theorem q1075 : (Jvm.Cond.instanceMethod ({ cls := "java/util/HashMap", name := "getNode", desc := "(Ljava/lang/Object;)Ljava/util/HashMap$Node;" } : Jvm.MethodName)) ∈ lw_all := lw_g (lw_at lw_m5 26 rfl) rfl
theorem q1076 : (Jvm.Cond.sameMethod "java/util/HashMap" "java/util/HashMap" "getNode" "(Ljava/lang/Object;)Ljava/util/HashMap$Node;") ∈ lw_all := lw_g (lw_at lw_m5 27 rfl) rfl
theorem q1078 : (Jvm.Cond.code ({ cls := "java/util/HashMap", name := "getNode", desc := "(Ljava/lang/Object;)Ljava/util/HashMap$Node;" } : Jvm.MethodName) prog_49_method_13_code (8 : Nat) (Option.some (Jvm.ClassFile.FieldType.object "java/util/HashMap$Node"))) ∈ lw_all := lw_g (lw_at lw_m5 29 rfl) rfl
theorem q1079 : (Jvm.Cond.methodLink "java/util/HashMap" (182 : Nat) ({ cls := "java/util/HashMap$TreeNode", name := "getTreeNode", desc := "(ILjava/lang/Object;)Ljava/util/HashMap$TreeNode;" } : Jvm.MethodName)) ∈ lw_all := lw_g (lw_at lw_m5 30 rfl) rfl
theorem q1130 : (Jvm.Cond.instanceMethod ({ cls := "java/util/HashMap", name := "<init>", desc := "(IF)V" } : Jvm.MethodName)) ∈ lw_all := lw_g (lw_at lw_m5 81 rfl) rfl
theorem q1131 : (Jvm.Cond.code ({ cls := "java/util/HashMap", name := "<init>", desc := "(IF)V" } : Jvm.MethodName) prog_49_method_5_code (3 : Nat) (Option.none : Option Jvm.ClassFile.FieldType)) ∈ lw_all := lw_g (lw_at lw_m5 82 rfl) rfl
theorem q1132 : (Jvm.Cond.methodLink "java/util/HashMap" (70 : Nat) ({ cls := "java/lang/Float", name := "isNaN", desc := "(F)Z" } : Jvm.MethodName)) ∈ lw_all := lw_g (lw_at lw_m5 83 rfl) rfl
theorem q1135 : (Jvm.Cond.methodLink "java/util/HashMap" (85 : Nat) ({ cls := "java/util/HashMap", name := "tableSizeFor", desc := "(I)I" } : Jvm.MethodName)) ∈ lw_all := lw_g (lw_at lw_m5 86 rfl) rfl
theorem q1136 : (Jvm.Cond.static ({ cls := "java/util/HashMap", name := "tableSizeFor", desc := "(I)I" } : Jvm.MethodName)) ∈ lw_all := lw_g (lw_at lw_m5 87 rfl) rfl
theorem q1137 : (Jvm.Cond.code ({ cls := "java/util/HashMap", name := "tableSizeFor", desc := "(I)I" } : Jvm.MethodName) prog_49_method_4_code (2 : Nat) (Option.some Jvm.ClassFile.FieldType.int)) ∈ lw_all := lw_g (lw_at lw_m5 88 rfl) rfl
theorem q1138 : (Jvm.Cond.methodLink "java/util/HashMap" (34 : Nat) ({ cls := "java/lang/Integer", name := "numberOfLeadingZeros", desc := "(I)I" } : Jvm.MethodName)) ∈ lw_all := lw_g (lw_at lw_m5 89 rfl) rfl
theorem q1153 : (Jvm.Cond.declares ({ cls := "java/util/HashMap", name := "getNode", desc := "(Ljava/lang/Object;)Ljava/util/HashMap$Node;" } : Jvm.MethodName)) ∈ lw_tbl := lw_at lw_m5 104 rfl
theorem q1195 : (Jvm.Cond.instanceMethod ({ cls := "java/util/HashMap", name := "isEmpty", desc := "()Z" } : Jvm.MethodName)) ∈ lw_all := lw_g (lw_at lw_m5 146 rfl) rfl
theorem q1196 : (Jvm.Cond.sameMethod "java/util/HashMap" "java/util/HashMap" "isEmpty" "()Z") ∈ lw_all := lw_g (lw_at lw_m5 147 rfl) rfl
theorem q1198 : (Jvm.Cond.code ({ cls := "java/util/HashMap", name := "isEmpty", desc := "()Z" } : Jvm.MethodName) prog_49_method_11_code (1 : Nat) (Option.some Jvm.ClassFile.FieldType.boolean)) ∈ lw_all := lw_g (lw_at lw_m5 149 rfl) rfl
theorem q1446 : (Jvm.Cond.instanceMethod ({ cls := "java/util/HashMap", name := "keySet", desc := "()Ljava/util/Set;" } : Jvm.MethodName)) ∈ lw_all := lw_g (lw_at lw_m6 157 rfl) rfl
theorem q1447 : (Jvm.Cond.sameMethod "java/util/HashMap" "java/util/HashMap" "keySet" "()Ljava/util/Set;") ∈ lw_all := lw_g (lw_at lw_m6 158 rfl) rfl
theorem q1449 : (Jvm.Cond.declares ({ cls := "java/util/HashMap", name := "keySet", desc := "()Ljava/util/Set;" } : Jvm.MethodName)) ∈ lw_tbl := lw_at lw_m6 160 rfl
theorem q1459 : (Jvm.Cond.instanceMethod ({ cls := "java/util/HashMap", name := "size", desc := "()I" } : Jvm.MethodName)) ∈ lw_all := lw_g (lw_at lw_m6 170 rfl) rfl
theorem q1460 : (Jvm.Cond.sameMethod "java/util/HashMap" "java/util/HashMap" "size" "()I") ∈ lw_all := lw_g (lw_at lw_m6 171 rfl) rfl
theorem q1462 : (Jvm.Cond.code ({ cls := "java/util/HashMap", name := "size", desc := "()I" } : Jvm.MethodName) prog_49_method_10_code (1 : Nat) (Option.some Jvm.ClassFile.FieldType.int)) ∈ lw_all := lw_g (lw_at lw_m6 173 rfl) rfl
theorem q2042 : (Jvm.Cond.declares ({ cls := "java/util/HashMap", name := "size", desc := "()I" } : Jvm.MethodName)) ∈ lw_tbl := lw_at lw_m9 33 rfl
theorem q2441 : (Jvm.Cond.sameMethod "java/util/HashMap" "java/util/HashMap" "put" "(Ljava/lang/Object;Ljava/lang/Object;)Ljava/lang/Object;") ∈ lw_all := lw_g (lw_at lw_m10 192 rfl) rfl

/-! java/util/LinkedHashMap -/
set_option maxRecDepth 100000
def RJ10 : String := "java/util/LinkedHashMap"
def TJ10 : u_T := fun k => match k with
  | 0 => ("java/util/HashMap", "table", "[Ljava/util/HashMap$Node;", false)
  | 1 => ("java/util/HashMap", "entrySet", "Ljava/util/Set;", false)
  | 2 => ("java/util/HashMap", "size", "I", false)
  | 3 => ("java/util/HashMap", "modCount", "I", false)
  | 4 => ("java/util/HashMap", "threshold", "I", false)
  | 5 => ("java/util/HashMap", "loadFactor", "F", true)
  | 6 => ("java/util/AbstractMap", "keySet", "Ljava/util/Set;", false)
  | 7 => ("java/util/AbstractMap", "values", "Ljava/util/Collection;", false)
  | 8 => ("java/util/LinkedHashMap", "head", "Ljava/util/LinkedHashMap$Entry;", false)
  | 9 => ("java/util/LinkedHashMap", "tail", "Ljava/util/LinkedHashMap$Entry;", false)
  | 10 => ("java/util/LinkedHashMap", "accessOrder", "Z", true)
  | _ => ("java/util/LinkedHashMap", "putMode", "I", false)
def tyJ10 : Nat → FieldType := fun k => match k with
  | 0 => .array (.object "java/util/HashMap$Node")
  | 1 => .object "java/util/Set"
  | 2 => .int
  | 3 => .int
  | 4 => .int
  | 5 => .float
  | 6 => .object "java/util/Set"
  | 7 => .object "java/util/Collection"
  | 8 => .object "java/util/LinkedHashMap$Entry"
  | 9 => .object "java/util/LinkedHashMap$Entry"
  | 10 => .boolean
  | _ => .int
abbrev wsJ100 : List Cond := u_ws RJ10 TJ10 12
theorem nmJ10 : ∀ a, a < 12 → ∀ b, b < 12 → a ≠ b → (TJ10 a).2.1 ≠ (TJ10 b).2.1 := by decide +kernel
theorem tyJ10_ok : ∀ k, k < 12 → parseFieldDescriptor (TJ10 k).2.2.1 = some (tyJ10 k) := by decide +kernel
abbrev cJ10_init : ByteArray := prog_57_method_16_code
def yJ10_init : MethodName := ⟨RJ10, "<init>", "()V"⟩
def dkwJ10_init_0 : List UInt8 := [42, 183, 0, 87, 42, 3, 181, 0, 1, 42, 3, 181, 0, 64, 177]
abbrev dktJ10_init_0 : List UInt8 := dkwJ10_init_0 ++ []
theorem dksJ10_init_0 : cJ10_init.data.toList.drop 0 = dktJ10_init_0 := by decide +kernel
theorem dJ10_init_0 : decode cJ10_init 0 = .ok (.aload_n 0, 1) := dk_42 (dk_at dksJ10_init_0 0 rfl rfl)
theorem dJ10_init_1 : decode cJ10_init 1 = .ok (.invokespecial 87, 3) := dk_183 0 87 (dk_at dksJ10_init_0 1 rfl rfl)
theorem dJ10_init_4 : decode cJ10_init 4 = .ok (.aload_n 0, 1) := dk_42 (dk_at dksJ10_init_0 4 rfl rfl)
theorem dJ10_init_5 : decode cJ10_init 5 = .ok (.iconst 0, 1) := dk_3 (dk_at dksJ10_init_0 5 rfl rfl)
theorem dJ10_init_6 : decode cJ10_init 6 = .ok (.putfield 1, 3) := dk_181 0 1 (dk_at dksJ10_init_0 6 rfl rfl)
theorem dJ10_init_9 : decode cJ10_init 9 = .ok (.aload_n 0, 1) := dk_42 (dk_at dksJ10_init_0 9 rfl rfl)
theorem dJ10_init_10 : decode cJ10_init 10 = .ok (.iconst 0, 1) := dk_3 (dk_at dksJ10_init_0 10 rfl rfl)
theorem dJ10_init_11 : decode cJ10_init 11 = .ok (.putfield 64, 3) := dk_181 0 64 (dk_at dksJ10_init_0 11 rfl rfl)
theorem dJ10_init_14 : decode cJ10_init 14 = .ok (.return_, 1) := dk_177 (dk_at dksJ10_init_0 14 rfl rfl)
abbrev cJ10_replacementNode : ByteArray := prog_57_method_5_code
def yJ10_replacementNode : MethodName := ⟨RJ10, "replacementNode", "(Ljava/util/HashMap$Node;Ljava/util/HashMap$Node;)Ljava/util/HashMap$Node;"⟩
def dkwJ10_replacementNode_1 : List UInt8 := [183, 0, 28, 58, 4, 42, 45, 25, 4, 182, 0, 46, 25, 4, 176]
abbrev dktJ10_replacementNode_1 : List UInt8 := dkwJ10_replacementNode_1 ++ []
def dkwJ10_replacementNode_0 : List UInt8 := [43, 192, 0, 15, 78, 187, 0, 15, 89, 45, 180, 0, 36, 45, 180, 0, 39, 45, 180, 0, 43, 44]
abbrev dktJ10_replacementNode_0 : List UInt8 := dkwJ10_replacementNode_0 ++ dktJ10_replacementNode_1
theorem dksJ10_replacementNode_0 : cJ10_replacementNode.data.toList.drop 0 = dktJ10_replacementNode_0 := by decide +kernel
theorem dksJ10_replacementNode_1 : cJ10_replacementNode.data.toList.drop 22 = dktJ10_replacementNode_1 := dk_seg dksJ10_replacementNode_0 22 rfl rfl
theorem dJ10_replacementNode_0 : decode cJ10_replacementNode 0 = .ok (.aload_n 1, 1) := dk_43 (dk_at dksJ10_replacementNode_0 0 rfl rfl)
theorem dJ10_replacementNode_1 : decode cJ10_replacementNode 1 = .ok (.checkcast 15, 3) := dk_192 0 15 (dk_at dksJ10_replacementNode_0 1 rfl rfl)
theorem dJ10_replacementNode_4 : decode cJ10_replacementNode 4 = .ok (.astore_n 3, 1) := dk_78 (dk_at dksJ10_replacementNode_0 4 rfl rfl)
theorem dJ10_replacementNode_5 : decode cJ10_replacementNode 5 = .ok (.new 15, 3) := dk_187 0 15 (dk_at dksJ10_replacementNode_0 5 rfl rfl)
theorem dJ10_replacementNode_8 : decode cJ10_replacementNode 8 = .ok (.dup, 1) := dk_89 (dk_at dksJ10_replacementNode_0 8 rfl rfl)
theorem dJ10_replacementNode_9 : decode cJ10_replacementNode 9 = .ok (.aload_n 3, 1) := dk_45 (dk_at dksJ10_replacementNode_0 9 rfl rfl)
theorem dJ10_replacementNode_10 : decode cJ10_replacementNode 10 = .ok (.getfield 36, 3) := dk_180 0 36 (dk_at dksJ10_replacementNode_0 10 rfl rfl)
theorem dJ10_replacementNode_13 : decode cJ10_replacementNode 13 = .ok (.aload_n 3, 1) := dk_45 (dk_at dksJ10_replacementNode_0 13 rfl rfl)
theorem dJ10_replacementNode_14 : decode cJ10_replacementNode 14 = .ok (.getfield 39, 3) := dk_180 0 39 (dk_at dksJ10_replacementNode_0 14 rfl rfl)
theorem dJ10_replacementNode_17 : decode cJ10_replacementNode 17 = .ok (.aload_n 3, 1) := dk_45 (dk_at dksJ10_replacementNode_0 17 rfl rfl)
theorem dJ10_replacementNode_18 : decode cJ10_replacementNode 18 = .ok (.getfield 43, 3) := dk_180 0 43 (dk_at dksJ10_replacementNode_0 18 rfl rfl)
theorem dJ10_replacementNode_21 : decode cJ10_replacementNode 21 = .ok (.aload_n 2, 1) := dk_44 (dk_at dksJ10_replacementNode_0 21 rfl rfl)
theorem dJ10_replacementNode_22 : decode cJ10_replacementNode 22 = .ok (.invokespecial 28, 3) := dk_183 0 28 (dk_at dksJ10_replacementNode_1 0 rfl rfl)
theorem dJ10_replacementNode_25 : decode cJ10_replacementNode 25 = .ok (.astore 4, 2) := dk_58 4 (dk_at dksJ10_replacementNode_1 3 rfl rfl)
theorem dJ10_replacementNode_27 : decode cJ10_replacementNode 27 = .ok (.aload_n 0, 1) := dk_42 (dk_at dksJ10_replacementNode_1 5 rfl rfl)
theorem dJ10_replacementNode_28 : decode cJ10_replacementNode 28 = .ok (.aload_n 3, 1) := dk_45 (dk_at dksJ10_replacementNode_1 6 rfl rfl)
theorem dJ10_replacementNode_29 : decode cJ10_replacementNode 29 = .ok (.aload 4, 2) := dk_25 4 (dk_at dksJ10_replacementNode_1 7 rfl rfl)
theorem dJ10_replacementNode_31 : decode cJ10_replacementNode 31 = .ok (.invokevirtual 46, 3) := dk_182 0 46 (dk_at dksJ10_replacementNode_1 9 rfl rfl)
theorem dJ10_replacementNode_34 : decode cJ10_replacementNode 34 = .ok (.aload 4, 2) := dk_25 4 (dk_at dksJ10_replacementNode_1 12 rfl rfl)
theorem dJ10_replacementNode_36 : decode cJ10_replacementNode 36 = .ok (.areturn, 1) := dk_176 (dk_at dksJ10_replacementNode_1 14 rfl rfl)
abbrev cJ10_transferLinks : ByteArray := prog_57_method_2_code
def yJ10_transferLinks : MethodName := ⟨RJ10, "transferLinks", "(Ljava/util/LinkedHashMap$Entry;Ljava/util/LinkedHashMap$Entry;)V"⟩
def dkwJ10_transferLinks_2 : List UInt8 := [181, 0, 11, 167, 0, 9, 25, 4, 44, 181, 0, 19, 177]
abbrev dktJ10_transferLinks_2 : List UInt8 := dkwJ10_transferLinks_2 ++ []
def dkwJ10_transferLinks_1 : List UInt8 := [199, 0, 11, 42, 44, 181, 0, 7, 167, 0, 8, 45, 44, 181, 0, 14, 25, 4, 199, 0, 11, 42, 44]
abbrev dktJ10_transferLinks_1 : List UInt8 := dkwJ10_transferLinks_1 ++ dktJ10_transferLinks_2
def dkwJ10_transferLinks_0 : List UInt8 := [44, 43, 180, 0, 19, 90, 181, 0, 19, 78, 44, 43, 180, 0, 14, 90, 181, 0, 14, 58, 4, 45]
abbrev dktJ10_transferLinks_0 : List UInt8 := dkwJ10_transferLinks_0 ++ dktJ10_transferLinks_1
theorem dksJ10_transferLinks_0 : cJ10_transferLinks.data.toList.drop 0 = dktJ10_transferLinks_0 := by decide +kernel
theorem dksJ10_transferLinks_1 : cJ10_transferLinks.data.toList.drop 22 = dktJ10_transferLinks_1 := dk_seg dksJ10_transferLinks_0 22 rfl rfl
theorem dksJ10_transferLinks_2 : cJ10_transferLinks.data.toList.drop 45 = dktJ10_transferLinks_2 := dk_seg dksJ10_transferLinks_1 23 rfl rfl
theorem dJ10_transferLinks_0 : decode cJ10_transferLinks 0 = .ok (.aload_n 2, 1) := dk_44 (dk_at dksJ10_transferLinks_0 0 rfl rfl)
theorem dJ10_transferLinks_1 : decode cJ10_transferLinks 1 = .ok (.aload_n 1, 1) := dk_43 (dk_at dksJ10_transferLinks_0 1 rfl rfl)
theorem dJ10_transferLinks_2 : decode cJ10_transferLinks 2 = .ok (.getfield 19, 3) := dk_180 0 19 (dk_at dksJ10_transferLinks_0 2 rfl rfl)
theorem dJ10_transferLinks_5 : decode cJ10_transferLinks 5 = .ok (.dup_x1, 1) := dk_90 (dk_at dksJ10_transferLinks_0 5 rfl rfl)
theorem dJ10_transferLinks_6 : decode cJ10_transferLinks 6 = .ok (.putfield 19, 3) := dk_181 0 19 (dk_at dksJ10_transferLinks_0 6 rfl rfl)
theorem dJ10_transferLinks_9 : decode cJ10_transferLinks 9 = .ok (.astore_n 3, 1) := dk_78 (dk_at dksJ10_transferLinks_0 9 rfl rfl)
theorem dJ10_transferLinks_10 : decode cJ10_transferLinks 10 = .ok (.aload_n 2, 1) := dk_44 (dk_at dksJ10_transferLinks_0 10 rfl rfl)
theorem dJ10_transferLinks_11 : decode cJ10_transferLinks 11 = .ok (.aload_n 1, 1) := dk_43 (dk_at dksJ10_transferLinks_0 11 rfl rfl)
theorem dJ10_transferLinks_12 : decode cJ10_transferLinks 12 = .ok (.getfield 14, 3) := dk_180 0 14 (dk_at dksJ10_transferLinks_0 12 rfl rfl)
theorem dJ10_transferLinks_15 : decode cJ10_transferLinks 15 = .ok (.dup_x1, 1) := dk_90 (dk_at dksJ10_transferLinks_0 15 rfl rfl)
theorem dJ10_transferLinks_16 : decode cJ10_transferLinks 16 = .ok (.putfield 14, 3) := dk_181 0 14 (dk_at dksJ10_transferLinks_0 16 rfl rfl)
theorem dJ10_transferLinks_19 : decode cJ10_transferLinks 19 = .ok (.astore 4, 2) := dk_58 4 (dk_at dksJ10_transferLinks_0 19 rfl rfl)
theorem dJ10_transferLinks_21 : decode cJ10_transferLinks 21 = .ok (.aload_n 3, 1) := dk_45 (dk_at dksJ10_transferLinks_0 21 rfl rfl)
theorem dJ10_transferLinks_22 : decode cJ10_transferLinks 22 = .ok (.ifnonnull 11, 3) := dk_199 0 11 (dk_at dksJ10_transferLinks_1 0 rfl rfl)
theorem dJ10_transferLinks_25 : decode cJ10_transferLinks 25 = .ok (.aload_n 0, 1) := dk_42 (dk_at dksJ10_transferLinks_1 3 rfl rfl)
theorem dJ10_transferLinks_26 : decode cJ10_transferLinks 26 = .ok (.aload_n 2, 1) := dk_44 (dk_at dksJ10_transferLinks_1 4 rfl rfl)
theorem dJ10_transferLinks_27 : decode cJ10_transferLinks 27 = .ok (.putfield 7, 3) := dk_181 0 7 (dk_at dksJ10_transferLinks_1 5 rfl rfl)
theorem dJ10_transferLinks_30 : decode cJ10_transferLinks 30 = .ok (.goto 8, 3) := dk_167 0 8 (dk_at dksJ10_transferLinks_1 8 rfl rfl)
theorem dJ10_transferLinks_33 : decode cJ10_transferLinks 33 = .ok (.aload_n 3, 1) := dk_45 (dk_at dksJ10_transferLinks_1 11 rfl rfl)
theorem dJ10_transferLinks_34 : decode cJ10_transferLinks 34 = .ok (.aload_n 2, 1) := dk_44 (dk_at dksJ10_transferLinks_1 12 rfl rfl)
theorem dJ10_transferLinks_35 : decode cJ10_transferLinks 35 = .ok (.putfield 14, 3) := dk_181 0 14 (dk_at dksJ10_transferLinks_1 13 rfl rfl)
theorem dJ10_transferLinks_38 : decode cJ10_transferLinks 38 = .ok (.aload 4, 2) := dk_25 4 (dk_at dksJ10_transferLinks_1 16 rfl rfl)
theorem dJ10_transferLinks_40 : decode cJ10_transferLinks 40 = .ok (.ifnonnull 11, 3) := dk_199 0 11 (dk_at dksJ10_transferLinks_1 18 rfl rfl)
theorem dJ10_transferLinks_43 : decode cJ10_transferLinks 43 = .ok (.aload_n 0, 1) := dk_42 (dk_at dksJ10_transferLinks_1 21 rfl rfl)
theorem dJ10_transferLinks_44 : decode cJ10_transferLinks 44 = .ok (.aload_n 2, 1) := dk_44 (dk_at dksJ10_transferLinks_1 22 rfl rfl)
theorem dJ10_transferLinks_45 : decode cJ10_transferLinks 45 = .ok (.putfield 11, 3) := dk_181 0 11 (dk_at dksJ10_transferLinks_2 0 rfl rfl)
theorem dJ10_transferLinks_48 : decode cJ10_transferLinks 48 = .ok (.goto 9, 3) := dk_167 0 9 (dk_at dksJ10_transferLinks_2 3 rfl rfl)
theorem dJ10_transferLinks_51 : decode cJ10_transferLinks 51 = .ok (.aload 4, 2) := dk_25 4 (dk_at dksJ10_transferLinks_2 6 rfl rfl)
theorem dJ10_transferLinks_53 : decode cJ10_transferLinks 53 = .ok (.aload_n 2, 1) := dk_44 (dk_at dksJ10_transferLinks_2 8 rfl rfl)
theorem dJ10_transferLinks_54 : decode cJ10_transferLinks 54 = .ok (.putfield 19, 3) := dk_181 0 19 (dk_at dksJ10_transferLinks_2 9 rfl rfl)
theorem dJ10_transferLinks_57 : decode cJ10_transferLinks 57 = .ok (.return_, 1) := dk_177 (dk_at dksJ10_transferLinks_2 12 rfl rfl)
abbrev cJ10_newNode : ByteArray := prog_57_method_4_code
def yJ10_newNode : MethodName := ⟨RJ10, "newNode", "(ILjava/lang/Object;Ljava/lang/Object;Ljava/util/HashMap$Node;)Ljava/util/HashMap$Node;"⟩
def dkwJ10_newNode_0 : List UInt8 := [187, 0, 15, 89, 27, 44, 45, 25, 4, 183, 0, 28, 58, 5, 42, 25, 5, 182, 0, 32, 25, 5, 176]
abbrev dktJ10_newNode_0 : List UInt8 := dkwJ10_newNode_0 ++ []
theorem dksJ10_newNode_0 : cJ10_newNode.data.toList.drop 0 = dktJ10_newNode_0 := by decide +kernel
theorem dJ10_newNode_0 : decode cJ10_newNode 0 = .ok (.new 15, 3) := dk_187 0 15 (dk_at dksJ10_newNode_0 0 rfl rfl)
theorem dJ10_newNode_3 : decode cJ10_newNode 3 = .ok (.dup, 1) := dk_89 (dk_at dksJ10_newNode_0 3 rfl rfl)
theorem dJ10_newNode_4 : decode cJ10_newNode 4 = .ok (.iload_n 1, 1) := dk_27 (dk_at dksJ10_newNode_0 4 rfl rfl)
theorem dJ10_newNode_5 : decode cJ10_newNode 5 = .ok (.aload_n 2, 1) := dk_44 (dk_at dksJ10_newNode_0 5 rfl rfl)
theorem dJ10_newNode_6 : decode cJ10_newNode 6 = .ok (.aload_n 3, 1) := dk_45 (dk_at dksJ10_newNode_0 6 rfl rfl)
theorem dJ10_newNode_7 : decode cJ10_newNode 7 = .ok (.aload 4, 2) := dk_25 4 (dk_at dksJ10_newNode_0 7 rfl rfl)
theorem dJ10_newNode_9 : decode cJ10_newNode 9 = .ok (.invokespecial 28, 3) := dk_183 0 28 (dk_at dksJ10_newNode_0 9 rfl rfl)
theorem dJ10_newNode_12 : decode cJ10_newNode 12 = .ok (.astore 5, 2) := dk_58 5 (dk_at dksJ10_newNode_0 12 rfl rfl)
theorem dJ10_newNode_14 : decode cJ10_newNode 14 = .ok (.aload_n 0, 1) := dk_42 (dk_at dksJ10_newNode_0 14 rfl rfl)
theorem dJ10_newNode_15 : decode cJ10_newNode 15 = .ok (.aload 5, 2) := dk_25 5 (dk_at dksJ10_newNode_0 15 rfl rfl)
theorem dJ10_newNode_17 : decode cJ10_newNode 17 = .ok (.invokevirtual 32, 3) := dk_182 0 32 (dk_at dksJ10_newNode_0 17 rfl rfl)
theorem dJ10_newNode_20 : decode cJ10_newNode 20 = .ok (.aload 5, 2) := dk_25 5 (dk_at dksJ10_newNode_0 20 rfl rfl)
theorem dJ10_newNode_22 : decode cJ10_newNode 22 = .ok (.areturn, 1) := dk_176 (dk_at dksJ10_newNode_0 22 rfl rfl)
abbrev cJ10_linkNodeAtEnd : ByteArray := prog_57_method_1_code
def yJ10_linkNodeAtEnd : MethodName := ⟨RJ10, "linkNodeAtEnd", "(Ljava/util/LinkedHashMap$Entry;)V"⟩
def dkwJ10_linkNodeAtEnd_3 : List UInt8 := [181, 0, 14, 177]
abbrev dktJ10_linkNodeAtEnd_3 : List UInt8 := dkwJ10_linkNodeAtEnd_3 ++ []
def dkwJ10_linkNodeAtEnd_2 : List UInt8 := [42, 43, 181, 0, 11, 44, 199, 0, 11, 42, 43, 181, 0, 7, 167, 0, 13, 43, 44, 181, 0, 19, 44, 43]
abbrev dktJ10_linkNodeAtEnd_2 : List UInt8 := dkwJ10_linkNodeAtEnd_2 ++ dktJ10_linkNodeAtEnd_3
def dkwJ10_linkNodeAtEnd_1 : List UInt8 := [181, 0, 11, 167, 0, 13, 43, 44, 181, 0, 14, 44, 43, 181, 0, 19, 167, 0, 35, 42, 180, 0, 11, 77]
abbrev dktJ10_linkNodeAtEnd_1 : List UInt8 := dkwJ10_linkNodeAtEnd_1 ++ dktJ10_linkNodeAtEnd_2
def dkwJ10_linkNodeAtEnd_0 : List UInt8 := [42, 180, 0, 1, 4, 160, 0, 38, 42, 180, 0, 7, 77, 42, 43, 181, 0, 7, 44, 199, 0, 11, 42, 43]
abbrev dktJ10_linkNodeAtEnd_0 : List UInt8 := dkwJ10_linkNodeAtEnd_0 ++ dktJ10_linkNodeAtEnd_1
theorem dksJ10_linkNodeAtEnd_0 : cJ10_linkNodeAtEnd.data.toList.drop 0 = dktJ10_linkNodeAtEnd_0 := by decide +kernel
theorem dksJ10_linkNodeAtEnd_1 : cJ10_linkNodeAtEnd.data.toList.drop 24 = dktJ10_linkNodeAtEnd_1 := dk_seg dksJ10_linkNodeAtEnd_0 24 rfl rfl
theorem dksJ10_linkNodeAtEnd_2 : cJ10_linkNodeAtEnd.data.toList.drop 48 = dktJ10_linkNodeAtEnd_2 := dk_seg dksJ10_linkNodeAtEnd_1 24 rfl rfl
theorem dksJ10_linkNodeAtEnd_3 : cJ10_linkNodeAtEnd.data.toList.drop 72 = dktJ10_linkNodeAtEnd_3 := dk_seg dksJ10_linkNodeAtEnd_2 24 rfl rfl
theorem dJ10_linkNodeAtEnd_0 : decode cJ10_linkNodeAtEnd 0 = .ok (.aload_n 0, 1) := dk_42 (dk_at dksJ10_linkNodeAtEnd_0 0 rfl rfl)
theorem dJ10_linkNodeAtEnd_1 : decode cJ10_linkNodeAtEnd 1 = .ok (.getfield 1, 3) := dk_180 0 1 (dk_at dksJ10_linkNodeAtEnd_0 1 rfl rfl)
theorem dJ10_linkNodeAtEnd_4 : decode cJ10_linkNodeAtEnd 4 = .ok (.iconst 1, 1) := dk_4 (dk_at dksJ10_linkNodeAtEnd_0 4 rfl rfl)
theorem dJ10_linkNodeAtEnd_5 : decode cJ10_linkNodeAtEnd 5 = .ok (.if_icmp .ne 38, 3) := dk_160 0 38 (dk_at dksJ10_linkNodeAtEnd_0 5 rfl rfl)
theorem dJ10_linkNodeAtEnd_8 : decode cJ10_linkNodeAtEnd 8 = .ok (.aload_n 0, 1) := dk_42 (dk_at dksJ10_linkNodeAtEnd_0 8 rfl rfl)
theorem dJ10_linkNodeAtEnd_9 : decode cJ10_linkNodeAtEnd 9 = .ok (.getfield 7, 3) := dk_180 0 7 (dk_at dksJ10_linkNodeAtEnd_0 9 rfl rfl)
theorem dJ10_linkNodeAtEnd_12 : decode cJ10_linkNodeAtEnd 12 = .ok (.astore_n 2, 1) := dk_77 (dk_at dksJ10_linkNodeAtEnd_0 12 rfl rfl)
theorem dJ10_linkNodeAtEnd_13 : decode cJ10_linkNodeAtEnd 13 = .ok (.aload_n 0, 1) := dk_42 (dk_at dksJ10_linkNodeAtEnd_0 13 rfl rfl)
theorem dJ10_linkNodeAtEnd_14 : decode cJ10_linkNodeAtEnd 14 = .ok (.aload_n 1, 1) := dk_43 (dk_at dksJ10_linkNodeAtEnd_0 14 rfl rfl)
theorem dJ10_linkNodeAtEnd_15 : decode cJ10_linkNodeAtEnd 15 = .ok (.putfield 7, 3) := dk_181 0 7 (dk_at dksJ10_linkNodeAtEnd_0 15 rfl rfl)
theorem dJ10_linkNodeAtEnd_18 : decode cJ10_linkNodeAtEnd 18 = .ok (.aload_n 2, 1) := dk_44 (dk_at dksJ10_linkNodeAtEnd_0 18 rfl rfl)
theorem dJ10_linkNodeAtEnd_19 : decode cJ10_linkNodeAtEnd 19 = .ok (.ifnonnull 11, 3) := dk_199 0 11 (dk_at dksJ10_linkNodeAtEnd_0 19 rfl rfl)
theorem dJ10_linkNodeAtEnd_22 : decode cJ10_linkNodeAtEnd 22 = .ok (.aload_n 0, 1) := dk_42 (dk_at dksJ10_linkNodeAtEnd_0 22 rfl rfl)
theorem dJ10_linkNodeAtEnd_23 : decode cJ10_linkNodeAtEnd 23 = .ok (.aload_n 1, 1) := dk_43 (dk_at dksJ10_linkNodeAtEnd_0 23 rfl rfl)
theorem dJ10_linkNodeAtEnd_24 : decode cJ10_linkNodeAtEnd 24 = .ok (.putfield 11, 3) := dk_181 0 11 (dk_at dksJ10_linkNodeAtEnd_1 0 rfl rfl)
theorem dJ10_linkNodeAtEnd_27 : decode cJ10_linkNodeAtEnd 27 = .ok (.goto 13, 3) := dk_167 0 13 (dk_at dksJ10_linkNodeAtEnd_1 3 rfl rfl)
theorem dJ10_linkNodeAtEnd_30 : decode cJ10_linkNodeAtEnd 30 = .ok (.aload_n 1, 1) := dk_43 (dk_at dksJ10_linkNodeAtEnd_1 6 rfl rfl)
theorem dJ10_linkNodeAtEnd_31 : decode cJ10_linkNodeAtEnd 31 = .ok (.aload_n 2, 1) := dk_44 (dk_at dksJ10_linkNodeAtEnd_1 7 rfl rfl)
theorem dJ10_linkNodeAtEnd_32 : decode cJ10_linkNodeAtEnd 32 = .ok (.putfield 14, 3) := dk_181 0 14 (dk_at dksJ10_linkNodeAtEnd_1 8 rfl rfl)
theorem dJ10_linkNodeAtEnd_35 : decode cJ10_linkNodeAtEnd 35 = .ok (.aload_n 2, 1) := dk_44 (dk_at dksJ10_linkNodeAtEnd_1 11 rfl rfl)
theorem dJ10_linkNodeAtEnd_36 : decode cJ10_linkNodeAtEnd 36 = .ok (.aload_n 1, 1) := dk_43 (dk_at dksJ10_linkNodeAtEnd_1 12 rfl rfl)
theorem dJ10_linkNodeAtEnd_37 : decode cJ10_linkNodeAtEnd 37 = .ok (.putfield 19, 3) := dk_181 0 19 (dk_at dksJ10_linkNodeAtEnd_1 13 rfl rfl)
theorem dJ10_linkNodeAtEnd_40 : decode cJ10_linkNodeAtEnd 40 = .ok (.goto 35, 3) := dk_167 0 35 (dk_at dksJ10_linkNodeAtEnd_1 16 rfl rfl)
theorem dJ10_linkNodeAtEnd_43 : decode cJ10_linkNodeAtEnd 43 = .ok (.aload_n 0, 1) := dk_42 (dk_at dksJ10_linkNodeAtEnd_1 19 rfl rfl)
theorem dJ10_linkNodeAtEnd_44 : decode cJ10_linkNodeAtEnd 44 = .ok (.getfield 11, 3) := dk_180 0 11 (dk_at dksJ10_linkNodeAtEnd_1 20 rfl rfl)
theorem dJ10_linkNodeAtEnd_47 : decode cJ10_linkNodeAtEnd 47 = .ok (.astore_n 2, 1) := dk_77 (dk_at dksJ10_linkNodeAtEnd_1 23 rfl rfl)
theorem dJ10_linkNodeAtEnd_48 : decode cJ10_linkNodeAtEnd 48 = .ok (.aload_n 0, 1) := dk_42 (dk_at dksJ10_linkNodeAtEnd_2 0 rfl rfl)
theorem dJ10_linkNodeAtEnd_49 : decode cJ10_linkNodeAtEnd 49 = .ok (.aload_n 1, 1) := dk_43 (dk_at dksJ10_linkNodeAtEnd_2 1 rfl rfl)
theorem dJ10_linkNodeAtEnd_50 : decode cJ10_linkNodeAtEnd 50 = .ok (.putfield 11, 3) := dk_181 0 11 (dk_at dksJ10_linkNodeAtEnd_2 2 rfl rfl)
theorem dJ10_linkNodeAtEnd_53 : decode cJ10_linkNodeAtEnd 53 = .ok (.aload_n 2, 1) := dk_44 (dk_at dksJ10_linkNodeAtEnd_2 5 rfl rfl)
theorem dJ10_linkNodeAtEnd_54 : decode cJ10_linkNodeAtEnd 54 = .ok (.ifnonnull 11, 3) := dk_199 0 11 (dk_at dksJ10_linkNodeAtEnd_2 6 rfl rfl)
theorem dJ10_linkNodeAtEnd_57 : decode cJ10_linkNodeAtEnd 57 = .ok (.aload_n 0, 1) := dk_42 (dk_at dksJ10_linkNodeAtEnd_2 9 rfl rfl)
theorem dJ10_linkNodeAtEnd_58 : decode cJ10_linkNodeAtEnd 58 = .ok (.aload_n 1, 1) := dk_43 (dk_at dksJ10_linkNodeAtEnd_2 10 rfl rfl)
theorem dJ10_linkNodeAtEnd_59 : decode cJ10_linkNodeAtEnd 59 = .ok (.putfield 7, 3) := dk_181 0 7 (dk_at dksJ10_linkNodeAtEnd_2 11 rfl rfl)
theorem dJ10_linkNodeAtEnd_62 : decode cJ10_linkNodeAtEnd 62 = .ok (.goto 13, 3) := dk_167 0 13 (dk_at dksJ10_linkNodeAtEnd_2 14 rfl rfl)
theorem dJ10_linkNodeAtEnd_65 : decode cJ10_linkNodeAtEnd 65 = .ok (.aload_n 1, 1) := dk_43 (dk_at dksJ10_linkNodeAtEnd_2 17 rfl rfl)
theorem dJ10_linkNodeAtEnd_66 : decode cJ10_linkNodeAtEnd 66 = .ok (.aload_n 2, 1) := dk_44 (dk_at dksJ10_linkNodeAtEnd_2 18 rfl rfl)
theorem dJ10_linkNodeAtEnd_67 : decode cJ10_linkNodeAtEnd 67 = .ok (.putfield 19, 3) := dk_181 0 19 (dk_at dksJ10_linkNodeAtEnd_2 19 rfl rfl)
theorem dJ10_linkNodeAtEnd_70 : decode cJ10_linkNodeAtEnd 70 = .ok (.aload_n 2, 1) := dk_44 (dk_at dksJ10_linkNodeAtEnd_2 22 rfl rfl)
theorem dJ10_linkNodeAtEnd_71 : decode cJ10_linkNodeAtEnd 71 = .ok (.aload_n 1, 1) := dk_43 (dk_at dksJ10_linkNodeAtEnd_2 23 rfl rfl)
theorem dJ10_linkNodeAtEnd_72 : decode cJ10_linkNodeAtEnd 72 = .ok (.putfield 14, 3) := dk_181 0 14 (dk_at dksJ10_linkNodeAtEnd_3 0 rfl rfl)
theorem dJ10_linkNodeAtEnd_75 : decode cJ10_linkNodeAtEnd 75 = .ok (.return_, 1) := dk_177 (dk_at dksJ10_linkNodeAtEnd_3 3 rfl rfl)
abbrev cJ10_newTreeNode : ByteArray := prog_57_method_6_code
def yJ10_newTreeNode : MethodName := ⟨RJ10, "newTreeNode", "(ILjava/lang/Object;Ljava/lang/Object;Ljava/util/HashMap$Node;)Ljava/util/HashMap$TreeNode;"⟩
def dkwJ10_newTreeNode_0 : List UInt8 := [187, 0, 50, 89, 27, 44, 45, 25, 4, 183, 0, 52, 58, 5, 42, 25, 5, 182, 0, 32, 25, 5, 176]
abbrev dktJ10_newTreeNode_0 : List UInt8 := dkwJ10_newTreeNode_0 ++ []
theorem dksJ10_newTreeNode_0 : cJ10_newTreeNode.data.toList.drop 0 = dktJ10_newTreeNode_0 := by decide +kernel
theorem dJ10_newTreeNode_0 : decode cJ10_newTreeNode 0 = .ok (.new 50, 3) := dk_187 0 50 (dk_at dksJ10_newTreeNode_0 0 rfl rfl)
theorem dJ10_newTreeNode_3 : decode cJ10_newTreeNode 3 = .ok (.dup, 1) := dk_89 (dk_at dksJ10_newTreeNode_0 3 rfl rfl)
theorem dJ10_newTreeNode_4 : decode cJ10_newTreeNode 4 = .ok (.iload_n 1, 1) := dk_27 (dk_at dksJ10_newTreeNode_0 4 rfl rfl)
theorem dJ10_newTreeNode_5 : decode cJ10_newTreeNode 5 = .ok (.aload_n 2, 1) := dk_44 (dk_at dksJ10_newTreeNode_0 5 rfl rfl)
theorem dJ10_newTreeNode_6 : decode cJ10_newTreeNode 6 = .ok (.aload_n 3, 1) := dk_45 (dk_at dksJ10_newTreeNode_0 6 rfl rfl)
theorem dJ10_newTreeNode_7 : decode cJ10_newTreeNode 7 = .ok (.aload 4, 2) := dk_25 4 (dk_at dksJ10_newTreeNode_0 7 rfl rfl)
theorem dJ10_newTreeNode_9 : decode cJ10_newTreeNode 9 = .ok (.invokespecial 52, 3) := dk_183 0 52 (dk_at dksJ10_newTreeNode_0 9 rfl rfl)
theorem dJ10_newTreeNode_12 : decode cJ10_newTreeNode 12 = .ok (.astore 5, 2) := dk_58 5 (dk_at dksJ10_newTreeNode_0 12 rfl rfl)
theorem dJ10_newTreeNode_14 : decode cJ10_newTreeNode 14 = .ok (.aload_n 0, 1) := dk_42 (dk_at dksJ10_newTreeNode_0 14 rfl rfl)
theorem dJ10_newTreeNode_15 : decode cJ10_newTreeNode 15 = .ok (.aload 5, 2) := dk_25 5 (dk_at dksJ10_newTreeNode_0 15 rfl rfl)
theorem dJ10_newTreeNode_17 : decode cJ10_newTreeNode 17 = .ok (.invokevirtual 32, 3) := dk_182 0 32 (dk_at dksJ10_newTreeNode_0 17 rfl rfl)
theorem dJ10_newTreeNode_20 : decode cJ10_newTreeNode 20 = .ok (.aload 5, 2) := dk_25 5 (dk_at dksJ10_newTreeNode_0 20 rfl rfl)
theorem dJ10_newTreeNode_22 : decode cJ10_newTreeNode 22 = .ok (.areturn, 1) := dk_176 (dk_at dksJ10_newTreeNode_0 22 rfl rfl)
abbrev cJ10_replacementTreeNode : ByteArray := prog_57_method_7_code
def yJ10_replacementTreeNode : MethodName := ⟨RJ10, "replacementTreeNode", "(Ljava/util/HashMap$Node;Ljava/util/HashMap$Node;)Ljava/util/HashMap$TreeNode;"⟩
def dkwJ10_replacementTreeNode_1 : List UInt8 := [183, 0, 52, 58, 4, 42, 45, 25, 4, 182, 0, 46, 25, 4, 176]
abbrev dktJ10_replacementTreeNode_1 : List UInt8 := dkwJ10_replacementTreeNode_1 ++ []
def dkwJ10_replacementTreeNode_0 : List UInt8 := [43, 192, 0, 15, 78, 187, 0, 50, 89, 45, 180, 0, 36, 45, 180, 0, 39, 45, 180, 0, 43, 44]
abbrev dktJ10_replacementTreeNode_0 : List UInt8 := dkwJ10_replacementTreeNode_0 ++ dktJ10_replacementTreeNode_1
theorem dksJ10_replacementTreeNode_0 : cJ10_replacementTreeNode.data.toList.drop 0 = dktJ10_replacementTreeNode_0 := by decide +kernel
theorem dksJ10_replacementTreeNode_1 : cJ10_replacementTreeNode.data.toList.drop 22 = dktJ10_replacementTreeNode_1 := dk_seg dksJ10_replacementTreeNode_0 22 rfl rfl
theorem dJ10_replacementTreeNode_0 : decode cJ10_replacementTreeNode 0 = .ok (.aload_n 1, 1) := dk_43 (dk_at dksJ10_replacementTreeNode_0 0 rfl rfl)
theorem dJ10_replacementTreeNode_1 : decode cJ10_replacementTreeNode 1 = .ok (.checkcast 15, 3) := dk_192 0 15 (dk_at dksJ10_replacementTreeNode_0 1 rfl rfl)
theorem dJ10_replacementTreeNode_4 : decode cJ10_replacementTreeNode 4 = .ok (.astore_n 3, 1) := dk_78 (dk_at dksJ10_replacementTreeNode_0 4 rfl rfl)
theorem dJ10_replacementTreeNode_5 : decode cJ10_replacementTreeNode 5 = .ok (.new 50, 3) := dk_187 0 50 (dk_at dksJ10_replacementTreeNode_0 5 rfl rfl)
theorem dJ10_replacementTreeNode_8 : decode cJ10_replacementTreeNode 8 = .ok (.dup, 1) := dk_89 (dk_at dksJ10_replacementTreeNode_0 8 rfl rfl)
theorem dJ10_replacementTreeNode_9 : decode cJ10_replacementTreeNode 9 = .ok (.aload_n 3, 1) := dk_45 (dk_at dksJ10_replacementTreeNode_0 9 rfl rfl)
theorem dJ10_replacementTreeNode_10 : decode cJ10_replacementTreeNode 10 = .ok (.getfield 36, 3) := dk_180 0 36 (dk_at dksJ10_replacementTreeNode_0 10 rfl rfl)
theorem dJ10_replacementTreeNode_13 : decode cJ10_replacementTreeNode 13 = .ok (.aload_n 3, 1) := dk_45 (dk_at dksJ10_replacementTreeNode_0 13 rfl rfl)
theorem dJ10_replacementTreeNode_14 : decode cJ10_replacementTreeNode 14 = .ok (.getfield 39, 3) := dk_180 0 39 (dk_at dksJ10_replacementTreeNode_0 14 rfl rfl)
theorem dJ10_replacementTreeNode_17 : decode cJ10_replacementTreeNode 17 = .ok (.aload_n 3, 1) := dk_45 (dk_at dksJ10_replacementTreeNode_0 17 rfl rfl)
theorem dJ10_replacementTreeNode_18 : decode cJ10_replacementTreeNode 18 = .ok (.getfield 43, 3) := dk_180 0 43 (dk_at dksJ10_replacementTreeNode_0 18 rfl rfl)
theorem dJ10_replacementTreeNode_21 : decode cJ10_replacementTreeNode 21 = .ok (.aload_n 2, 1) := dk_44 (dk_at dksJ10_replacementTreeNode_0 21 rfl rfl)
theorem dJ10_replacementTreeNode_22 : decode cJ10_replacementTreeNode 22 = .ok (.invokespecial 52, 3) := dk_183 0 52 (dk_at dksJ10_replacementTreeNode_1 0 rfl rfl)
theorem dJ10_replacementTreeNode_25 : decode cJ10_replacementTreeNode 25 = .ok (.astore 4, 2) := dk_58 4 (dk_at dksJ10_replacementTreeNode_1 3 rfl rfl)
theorem dJ10_replacementTreeNode_27 : decode cJ10_replacementTreeNode 27 = .ok (.aload_n 0, 1) := dk_42 (dk_at dksJ10_replacementTreeNode_1 5 rfl rfl)
theorem dJ10_replacementTreeNode_28 : decode cJ10_replacementTreeNode 28 = .ok (.aload_n 3, 1) := dk_45 (dk_at dksJ10_replacementTreeNode_1 6 rfl rfl)
theorem dJ10_replacementTreeNode_29 : decode cJ10_replacementTreeNode 29 = .ok (.aload 4, 2) := dk_25 4 (dk_at dksJ10_replacementTreeNode_1 7 rfl rfl)
theorem dJ10_replacementTreeNode_31 : decode cJ10_replacementTreeNode 31 = .ok (.invokevirtual 46, 3) := dk_182 0 46 (dk_at dksJ10_replacementTreeNode_1 9 rfl rfl)
theorem dJ10_replacementTreeNode_34 : decode cJ10_replacementTreeNode 34 = .ok (.aload 4, 2) := dk_25 4 (dk_at dksJ10_replacementTreeNode_1 12 rfl rfl)
theorem dJ10_replacementTreeNode_36 : decode cJ10_replacementTreeNode 36 = .ok (.areturn, 1) := dk_176 (dk_at dksJ10_replacementTreeNode_1 14 rfl rfl)
abbrev cJ10_afterNodeAccess : ByteArray := prog_57_method_10_code
def yJ10_afterNodeAccess : MethodName := ⟨RJ10, "afterNodeAccess", "(Ljava/util/HashMap$Node;)V"⟩
def dkwJ10_afterNodeAccess_11 : List UInt8 := [181, 0, 7, 42, 89, 180, 0, 68, 4, 96, 181, 0, 68, 177]
abbrev dktJ10_afterNodeAccess_11 : List UInt8 := dkwJ10_afterNodeAccess_11 ++ []
def dkwJ10_afterNodeAccess_10 : List UInt8 := [25, 4, 181, 0, 11, 167, 0, 15, 25, 4, 45, 181, 0, 14, 45, 25, 4, 181, 0, 19, 42, 25, 4]
abbrev dktJ10_afterNodeAccess_10 : List UInt8 := dkwJ10_afterNodeAccess_10 ++ dktJ10_afterNodeAccess_11
def dkwJ10_afterNodeAccess_9 : List UInt8 := [25, 5, 198, 0, 13, 25, 5, 25, 6, 181, 0, 14, 167, 0, 6, 25, 6, 78, 45, 199, 0, 12, 42]
abbrev dktJ10_afterNodeAccess_9 : List UInt8 := dkwJ10_afterNodeAccess_9 ++ dktJ10_afterNodeAccess_10
def dkwJ10_afterNodeAccess_8 : List UInt8 := [181, 0, 19, 25, 6, 199, 0, 12, 42, 25, 5, 181, 0, 11, 167, 0, 10, 25, 6, 25, 5, 181, 0, 19]
abbrev dktJ10_afterNodeAccess_8 : List UInt8 := dkwJ10_afterNodeAccess_8 ++ dktJ10_afterNodeAccess_9
def dkwJ10_afterNodeAccess_7 : List UInt8 := [43, 192, 0, 15, 58, 4, 25, 4, 180, 0, 19, 58, 5, 25, 4, 180, 0, 14, 58, 6, 25, 4, 1]
abbrev dktJ10_afterNodeAccess_7 : List UInt8 := dkwJ10_afterNodeAccess_7 ++ dktJ10_afterNodeAccess_8
def dkwJ10_afterNodeAccess_6 : List UInt8 := [181, 0, 68, 167, 0, 127, 42, 180, 0, 1, 4, 160, 0, 119, 42, 180, 0, 7, 89, 78, 43, 165, 0, 109]
abbrev dktJ10_afterNodeAccess_6 : List UInt8 := dkwJ10_afterNodeAccess_6 ++ dktJ10_afterNodeAccess_7
def dkwJ10_afterNodeAccess_5 : List UInt8 := [181, 0, 19, 44, 25, 4, 181, 0, 14, 42, 25, 4, 181, 0, 11, 42, 89, 180, 0, 68, 4, 96]
abbrev dktJ10_afterNodeAccess_5 : List UInt8 := dkwJ10_afterNodeAccess_5 ++ dktJ10_afterNodeAccess_6
def dkwJ10_afterNodeAccess_4 : List UInt8 := [167, 0, 6, 25, 5, 77, 44, 199, 0, 12, 42, 25, 4, 181, 0, 7, 167, 0, 15, 25, 4, 44]
abbrev dktJ10_afterNodeAccess_4 : List UInt8 := dkwJ10_afterNodeAccess_4 ++ dktJ10_afterNodeAccess_5
def dkwJ10_afterNodeAccess_3 : List UInt8 := [167, 0, 10, 25, 5, 25, 6, 181, 0, 14, 25, 6, 198, 0, 13, 25, 6, 25, 5, 181, 0, 19]
abbrev dktJ10_afterNodeAccess_3 : List UInt8 := dkwJ10_afterNodeAccess_3 ++ dktJ10_afterNodeAccess_4
def dkwJ10_afterNodeAccess_2 : List UInt8 := [180, 0, 14, 58, 6, 25, 4, 1, 181, 0, 14, 25, 5, 199, 0, 12, 42, 25, 6, 181, 0, 7]
abbrev dktJ10_afterNodeAccess_2 : List UInt8 := dkwJ10_afterNodeAccess_2 ++ dktJ10_afterNodeAccess_3
def dkwJ10_afterNodeAccess_1 : List UInt8 := [180, 0, 11, 89, 77, 43, 165, 0, 112, 43, 192, 0, 15, 58, 4, 25, 4, 180, 0, 19, 58, 5, 25, 4]
abbrev dktJ10_afterNodeAccess_1 : List UInt8 := dkwJ10_afterNodeAccess_1 ++ dktJ10_afterNodeAccess_2
def dkwJ10_afterNodeAccess_0 : List UInt8 := [42, 180, 0, 1, 5, 159, 0, 17, 42, 180, 0, 1, 154, 0, 129, 42, 180, 0, 64, 153, 0, 122, 42]
abbrev dktJ10_afterNodeAccess_0 : List UInt8 := dkwJ10_afterNodeAccess_0 ++ dktJ10_afterNodeAccess_1
theorem dksJ10_afterNodeAccess_0 : cJ10_afterNodeAccess.data.toList.drop 0 = dktJ10_afterNodeAccess_0 := by decide +kernel
theorem dksJ10_afterNodeAccess_1 : cJ10_afterNodeAccess.data.toList.drop 23 = dktJ10_afterNodeAccess_1 := dk_seg dksJ10_afterNodeAccess_0 23 rfl rfl
theorem dksJ10_afterNodeAccess_2 : cJ10_afterNodeAccess.data.toList.drop 47 = dktJ10_afterNodeAccess_2 := dk_seg dksJ10_afterNodeAccess_1 24 rfl rfl
theorem dksJ10_afterNodeAccess_3 : cJ10_afterNodeAccess.data.toList.drop 69 = dktJ10_afterNodeAccess_3 := dk_seg dksJ10_afterNodeAccess_2 22 rfl rfl
theorem dksJ10_afterNodeAccess_4 : cJ10_afterNodeAccess.data.toList.drop 91 = dktJ10_afterNodeAccess_4 := dk_seg dksJ10_afterNodeAccess_3 22 rfl rfl
theorem dksJ10_afterNodeAccess_5 : cJ10_afterNodeAccess.data.toList.drop 113 = dktJ10_afterNodeAccess_5 := dk_seg dksJ10_afterNodeAccess_4 22 rfl rfl
theorem dksJ10_afterNodeAccess_6 : cJ10_afterNodeAccess.data.toList.drop 135 = dktJ10_afterNodeAccess_6 := dk_seg dksJ10_afterNodeAccess_5 22 rfl rfl
theorem dksJ10_afterNodeAccess_7 : cJ10_afterNodeAccess.data.toList.drop 159 = dktJ10_afterNodeAccess_7 := dk_seg dksJ10_afterNodeAccess_6 24 rfl rfl
theorem dksJ10_afterNodeAccess_8 : cJ10_afterNodeAccess.data.toList.drop 182 = dktJ10_afterNodeAccess_8 := dk_seg dksJ10_afterNodeAccess_7 23 rfl rfl
theorem dksJ10_afterNodeAccess_9 : cJ10_afterNodeAccess.data.toList.drop 206 = dktJ10_afterNodeAccess_9 := dk_seg dksJ10_afterNodeAccess_8 24 rfl rfl
theorem dksJ10_afterNodeAccess_10 : cJ10_afterNodeAccess.data.toList.drop 229 = dktJ10_afterNodeAccess_10 := dk_seg dksJ10_afterNodeAccess_9 23 rfl rfl
theorem dksJ10_afterNodeAccess_11 : cJ10_afterNodeAccess.data.toList.drop 252 = dktJ10_afterNodeAccess_11 := dk_seg dksJ10_afterNodeAccess_10 23 rfl rfl
theorem dJ10_afterNodeAccess_0 : decode cJ10_afterNodeAccess 0 = .ok (.aload_n 0, 1) := dk_42 (dk_at dksJ10_afterNodeAccess_0 0 rfl rfl)
theorem dJ10_afterNodeAccess_1 : decode cJ10_afterNodeAccess 1 = .ok (.getfield 1, 3) := dk_180 0 1 (dk_at dksJ10_afterNodeAccess_0 1 rfl rfl)
theorem dJ10_afterNodeAccess_4 : decode cJ10_afterNodeAccess 4 = .ok (.iconst 2, 1) := dk_5 (dk_at dksJ10_afterNodeAccess_0 4 rfl rfl)
theorem dJ10_afterNodeAccess_5 : decode cJ10_afterNodeAccess 5 = .ok (.if_icmp .eq 17, 3) := dk_159 0 17 (dk_at dksJ10_afterNodeAccess_0 5 rfl rfl)
theorem dJ10_afterNodeAccess_8 : decode cJ10_afterNodeAccess 8 = .ok (.aload_n 0, 1) := dk_42 (dk_at dksJ10_afterNodeAccess_0 8 rfl rfl)
theorem dJ10_afterNodeAccess_9 : decode cJ10_afterNodeAccess 9 = .ok (.getfield 1, 3) := dk_180 0 1 (dk_at dksJ10_afterNodeAccess_0 9 rfl rfl)
theorem dJ10_afterNodeAccess_12 : decode cJ10_afterNodeAccess 12 = .ok (.ifCond .ne 129, 3) := dk_154 0 129 (dk_at dksJ10_afterNodeAccess_0 12 rfl rfl)
theorem dJ10_afterNodeAccess_15 : decode cJ10_afterNodeAccess 15 = .ok (.aload_n 0, 1) := dk_42 (dk_at dksJ10_afterNodeAccess_0 15 rfl rfl)
theorem dJ10_afterNodeAccess_16 : decode cJ10_afterNodeAccess 16 = .ok (.getfield 64, 3) := dk_180 0 64 (dk_at dksJ10_afterNodeAccess_0 16 rfl rfl)
theorem dJ10_afterNodeAccess_19 : decode cJ10_afterNodeAccess 19 = .ok (.ifCond .eq 122, 3) := dk_153 0 122 (dk_at dksJ10_afterNodeAccess_0 19 rfl rfl)
theorem dJ10_afterNodeAccess_22 : decode cJ10_afterNodeAccess 22 = .ok (.aload_n 0, 1) := dk_42 (dk_at dksJ10_afterNodeAccess_0 22 rfl rfl)
theorem dJ10_afterNodeAccess_23 : decode cJ10_afterNodeAccess 23 = .ok (.getfield 11, 3) := dk_180 0 11 (dk_at dksJ10_afterNodeAccess_1 0 rfl rfl)
theorem dJ10_afterNodeAccess_26 : decode cJ10_afterNodeAccess 26 = .ok (.dup, 1) := dk_89 (dk_at dksJ10_afterNodeAccess_1 3 rfl rfl)
theorem dJ10_afterNodeAccess_27 : decode cJ10_afterNodeAccess 27 = .ok (.astore_n 2, 1) := dk_77 (dk_at dksJ10_afterNodeAccess_1 4 rfl rfl)
theorem dJ10_afterNodeAccess_28 : decode cJ10_afterNodeAccess 28 = .ok (.aload_n 1, 1) := dk_43 (dk_at dksJ10_afterNodeAccess_1 5 rfl rfl)
theorem dJ10_afterNodeAccess_29 : decode cJ10_afterNodeAccess 29 = .ok (.if_acmp .eq 112, 3) := dk_165 0 112 (dk_at dksJ10_afterNodeAccess_1 6 rfl rfl)
theorem dJ10_afterNodeAccess_32 : decode cJ10_afterNodeAccess 32 = .ok (.aload_n 1, 1) := dk_43 (dk_at dksJ10_afterNodeAccess_1 9 rfl rfl)
theorem dJ10_afterNodeAccess_33 : decode cJ10_afterNodeAccess 33 = .ok (.checkcast 15, 3) := dk_192 0 15 (dk_at dksJ10_afterNodeAccess_1 10 rfl rfl)
theorem dJ10_afterNodeAccess_36 : decode cJ10_afterNodeAccess 36 = .ok (.astore 4, 2) := dk_58 4 (dk_at dksJ10_afterNodeAccess_1 13 rfl rfl)
theorem dJ10_afterNodeAccess_38 : decode cJ10_afterNodeAccess 38 = .ok (.aload 4, 2) := dk_25 4 (dk_at dksJ10_afterNodeAccess_1 15 rfl rfl)
theorem dJ10_afterNodeAccess_40 : decode cJ10_afterNodeAccess 40 = .ok (.getfield 19, 3) := dk_180 0 19 (dk_at dksJ10_afterNodeAccess_1 17 rfl rfl)
theorem dJ10_afterNodeAccess_43 : decode cJ10_afterNodeAccess 43 = .ok (.astore 5, 2) := dk_58 5 (dk_at dksJ10_afterNodeAccess_1 20 rfl rfl)
theorem dJ10_afterNodeAccess_45 : decode cJ10_afterNodeAccess 45 = .ok (.aload 4, 2) := dk_25 4 (dk_at dksJ10_afterNodeAccess_1 22 rfl rfl)
theorem dJ10_afterNodeAccess_47 : decode cJ10_afterNodeAccess 47 = .ok (.getfield 14, 3) := dk_180 0 14 (dk_at dksJ10_afterNodeAccess_2 0 rfl rfl)
theorem dJ10_afterNodeAccess_50 : decode cJ10_afterNodeAccess 50 = .ok (.astore 6, 2) := dk_58 6 (dk_at dksJ10_afterNodeAccess_2 3 rfl rfl)
theorem dJ10_afterNodeAccess_52 : decode cJ10_afterNodeAccess 52 = .ok (.aload 4, 2) := dk_25 4 (dk_at dksJ10_afterNodeAccess_2 5 rfl rfl)
theorem dJ10_afterNodeAccess_54 : decode cJ10_afterNodeAccess 54 = .ok (.aconst_null, 1) := dk_1 (dk_at dksJ10_afterNodeAccess_2 7 rfl rfl)
theorem dJ10_afterNodeAccess_55 : decode cJ10_afterNodeAccess 55 = .ok (.putfield 14, 3) := dk_181 0 14 (dk_at dksJ10_afterNodeAccess_2 8 rfl rfl)
theorem dJ10_afterNodeAccess_58 : decode cJ10_afterNodeAccess 58 = .ok (.aload 5, 2) := dk_25 5 (dk_at dksJ10_afterNodeAccess_2 11 rfl rfl)
theorem dJ10_afterNodeAccess_60 : decode cJ10_afterNodeAccess 60 = .ok (.ifnonnull 12, 3) := dk_199 0 12 (dk_at dksJ10_afterNodeAccess_2 13 rfl rfl)
theorem dJ10_afterNodeAccess_63 : decode cJ10_afterNodeAccess 63 = .ok (.aload_n 0, 1) := dk_42 (dk_at dksJ10_afterNodeAccess_2 16 rfl rfl)
theorem dJ10_afterNodeAccess_64 : decode cJ10_afterNodeAccess 64 = .ok (.aload 6, 2) := dk_25 6 (dk_at dksJ10_afterNodeAccess_2 17 rfl rfl)
theorem dJ10_afterNodeAccess_66 : decode cJ10_afterNodeAccess 66 = .ok (.putfield 7, 3) := dk_181 0 7 (dk_at dksJ10_afterNodeAccess_2 19 rfl rfl)
theorem dJ10_afterNodeAccess_69 : decode cJ10_afterNodeAccess 69 = .ok (.goto 10, 3) := dk_167 0 10 (dk_at dksJ10_afterNodeAccess_3 0 rfl rfl)
theorem dJ10_afterNodeAccess_72 : decode cJ10_afterNodeAccess 72 = .ok (.aload 5, 2) := dk_25 5 (dk_at dksJ10_afterNodeAccess_3 3 rfl rfl)
theorem dJ10_afterNodeAccess_74 : decode cJ10_afterNodeAccess 74 = .ok (.aload 6, 2) := dk_25 6 (dk_at dksJ10_afterNodeAccess_3 5 rfl rfl)
theorem dJ10_afterNodeAccess_76 : decode cJ10_afterNodeAccess 76 = .ok (.putfield 14, 3) := dk_181 0 14 (dk_at dksJ10_afterNodeAccess_3 7 rfl rfl)
theorem dJ10_afterNodeAccess_79 : decode cJ10_afterNodeAccess 79 = .ok (.aload 6, 2) := dk_25 6 (dk_at dksJ10_afterNodeAccess_3 10 rfl rfl)
theorem dJ10_afterNodeAccess_81 : decode cJ10_afterNodeAccess 81 = .ok (.ifnull 13, 3) := dk_198 0 13 (dk_at dksJ10_afterNodeAccess_3 12 rfl rfl)
theorem dJ10_afterNodeAccess_84 : decode cJ10_afterNodeAccess 84 = .ok (.aload 6, 2) := dk_25 6 (dk_at dksJ10_afterNodeAccess_3 15 rfl rfl)
theorem dJ10_afterNodeAccess_86 : decode cJ10_afterNodeAccess 86 = .ok (.aload 5, 2) := dk_25 5 (dk_at dksJ10_afterNodeAccess_3 17 rfl rfl)
theorem dJ10_afterNodeAccess_88 : decode cJ10_afterNodeAccess 88 = .ok (.putfield 19, 3) := dk_181 0 19 (dk_at dksJ10_afterNodeAccess_3 19 rfl rfl)
theorem dJ10_afterNodeAccess_91 : decode cJ10_afterNodeAccess 91 = .ok (.goto 6, 3) := dk_167 0 6 (dk_at dksJ10_afterNodeAccess_4 0 rfl rfl)
theorem dJ10_afterNodeAccess_94 : decode cJ10_afterNodeAccess 94 = .ok (.aload 5, 2) := dk_25 5 (dk_at dksJ10_afterNodeAccess_4 3 rfl rfl)
theorem dJ10_afterNodeAccess_96 : decode cJ10_afterNodeAccess 96 = .ok (.astore_n 2, 1) := dk_77 (dk_at dksJ10_afterNodeAccess_4 5 rfl rfl)
theorem dJ10_afterNodeAccess_97 : decode cJ10_afterNodeAccess 97 = .ok (.aload_n 2, 1) := dk_44 (dk_at dksJ10_afterNodeAccess_4 6 rfl rfl)
theorem dJ10_afterNodeAccess_98 : decode cJ10_afterNodeAccess 98 = .ok (.ifnonnull 12, 3) := dk_199 0 12 (dk_at dksJ10_afterNodeAccess_4 7 rfl rfl)
theorem dJ10_afterNodeAccess_101 : decode cJ10_afterNodeAccess 101 = .ok (.aload_n 0, 1) := dk_42 (dk_at dksJ10_afterNodeAccess_4 10 rfl rfl)
theorem dJ10_afterNodeAccess_102 : decode cJ10_afterNodeAccess 102 = .ok (.aload 4, 2) := dk_25 4 (dk_at dksJ10_afterNodeAccess_4 11 rfl rfl)
theorem dJ10_afterNodeAccess_104 : decode cJ10_afterNodeAccess 104 = .ok (.putfield 7, 3) := dk_181 0 7 (dk_at dksJ10_afterNodeAccess_4 13 rfl rfl)
theorem dJ10_afterNodeAccess_107 : decode cJ10_afterNodeAccess 107 = .ok (.goto 15, 3) := dk_167 0 15 (dk_at dksJ10_afterNodeAccess_4 16 rfl rfl)
theorem dJ10_afterNodeAccess_110 : decode cJ10_afterNodeAccess 110 = .ok (.aload 4, 2) := dk_25 4 (dk_at dksJ10_afterNodeAccess_4 19 rfl rfl)
theorem dJ10_afterNodeAccess_112 : decode cJ10_afterNodeAccess 112 = .ok (.aload_n 2, 1) := dk_44 (dk_at dksJ10_afterNodeAccess_4 21 rfl rfl)
theorem dJ10_afterNodeAccess_113 : decode cJ10_afterNodeAccess 113 = .ok (.putfield 19, 3) := dk_181 0 19 (dk_at dksJ10_afterNodeAccess_5 0 rfl rfl)
theorem dJ10_afterNodeAccess_116 : decode cJ10_afterNodeAccess 116 = .ok (.aload_n 2, 1) := dk_44 (dk_at dksJ10_afterNodeAccess_5 3 rfl rfl)
theorem dJ10_afterNodeAccess_117 : decode cJ10_afterNodeAccess 117 = .ok (.aload 4, 2) := dk_25 4 (dk_at dksJ10_afterNodeAccess_5 4 rfl rfl)
theorem dJ10_afterNodeAccess_119 : decode cJ10_afterNodeAccess 119 = .ok (.putfield 14, 3) := dk_181 0 14 (dk_at dksJ10_afterNodeAccess_5 6 rfl rfl)
theorem dJ10_afterNodeAccess_122 : decode cJ10_afterNodeAccess 122 = .ok (.aload_n 0, 1) := dk_42 (dk_at dksJ10_afterNodeAccess_5 9 rfl rfl)
theorem dJ10_afterNodeAccess_123 : decode cJ10_afterNodeAccess 123 = .ok (.aload 4, 2) := dk_25 4 (dk_at dksJ10_afterNodeAccess_5 10 rfl rfl)
theorem dJ10_afterNodeAccess_125 : decode cJ10_afterNodeAccess 125 = .ok (.putfield 11, 3) := dk_181 0 11 (dk_at dksJ10_afterNodeAccess_5 12 rfl rfl)
theorem dJ10_afterNodeAccess_128 : decode cJ10_afterNodeAccess 128 = .ok (.aload_n 0, 1) := dk_42 (dk_at dksJ10_afterNodeAccess_5 15 rfl rfl)
theorem dJ10_afterNodeAccess_129 : decode cJ10_afterNodeAccess 129 = .ok (.dup, 1) := dk_89 (dk_at dksJ10_afterNodeAccess_5 16 rfl rfl)
theorem dJ10_afterNodeAccess_130 : decode cJ10_afterNodeAccess 130 = .ok (.getfield 68, 3) := dk_180 0 68 (dk_at dksJ10_afterNodeAccess_5 17 rfl rfl)
theorem dJ10_afterNodeAccess_133 : decode cJ10_afterNodeAccess 133 = .ok (.iconst 1, 1) := dk_4 (dk_at dksJ10_afterNodeAccess_5 20 rfl rfl)
theorem dJ10_afterNodeAccess_134 : decode cJ10_afterNodeAccess 134 = .ok (.iadd, 1) := dk_96 (dk_at dksJ10_afterNodeAccess_5 21 rfl rfl)
theorem dJ10_afterNodeAccess_135 : decode cJ10_afterNodeAccess 135 = .ok (.putfield 68, 3) := dk_181 0 68 (dk_at dksJ10_afterNodeAccess_6 0 rfl rfl)
theorem dJ10_afterNodeAccess_138 : decode cJ10_afterNodeAccess 138 = .ok (.goto 127, 3) := dk_167 0 127 (dk_at dksJ10_afterNodeAccess_6 3 rfl rfl)
theorem dJ10_afterNodeAccess_141 : decode cJ10_afterNodeAccess 141 = .ok (.aload_n 0, 1) := dk_42 (dk_at dksJ10_afterNodeAccess_6 6 rfl rfl)
theorem dJ10_afterNodeAccess_142 : decode cJ10_afterNodeAccess 142 = .ok (.getfield 1, 3) := dk_180 0 1 (dk_at dksJ10_afterNodeAccess_6 7 rfl rfl)
theorem dJ10_afterNodeAccess_145 : decode cJ10_afterNodeAccess 145 = .ok (.iconst 1, 1) := dk_4 (dk_at dksJ10_afterNodeAccess_6 10 rfl rfl)
theorem dJ10_afterNodeAccess_146 : decode cJ10_afterNodeAccess 146 = .ok (.if_icmp .ne 119, 3) := dk_160 0 119 (dk_at dksJ10_afterNodeAccess_6 11 rfl rfl)
theorem dJ10_afterNodeAccess_149 : decode cJ10_afterNodeAccess 149 = .ok (.aload_n 0, 1) := dk_42 (dk_at dksJ10_afterNodeAccess_6 14 rfl rfl)
theorem dJ10_afterNodeAccess_150 : decode cJ10_afterNodeAccess 150 = .ok (.getfield 7, 3) := dk_180 0 7 (dk_at dksJ10_afterNodeAccess_6 15 rfl rfl)
theorem dJ10_afterNodeAccess_153 : decode cJ10_afterNodeAccess 153 = .ok (.dup, 1) := dk_89 (dk_at dksJ10_afterNodeAccess_6 18 rfl rfl)
theorem dJ10_afterNodeAccess_154 : decode cJ10_afterNodeAccess 154 = .ok (.astore_n 3, 1) := dk_78 (dk_at dksJ10_afterNodeAccess_6 19 rfl rfl)
theorem dJ10_afterNodeAccess_155 : decode cJ10_afterNodeAccess 155 = .ok (.aload_n 1, 1) := dk_43 (dk_at dksJ10_afterNodeAccess_6 20 rfl rfl)
theorem dJ10_afterNodeAccess_156 : decode cJ10_afterNodeAccess 156 = .ok (.if_acmp .eq 109, 3) := dk_165 0 109 (dk_at dksJ10_afterNodeAccess_6 21 rfl rfl)
theorem dJ10_afterNodeAccess_159 : decode cJ10_afterNodeAccess 159 = .ok (.aload_n 1, 1) := dk_43 (dk_at dksJ10_afterNodeAccess_7 0 rfl rfl)
theorem dJ10_afterNodeAccess_160 : decode cJ10_afterNodeAccess 160 = .ok (.checkcast 15, 3) := dk_192 0 15 (dk_at dksJ10_afterNodeAccess_7 1 rfl rfl)
theorem dJ10_afterNodeAccess_163 : decode cJ10_afterNodeAccess 163 = .ok (.astore 4, 2) := dk_58 4 (dk_at dksJ10_afterNodeAccess_7 4 rfl rfl)
theorem dJ10_afterNodeAccess_165 : decode cJ10_afterNodeAccess 165 = .ok (.aload 4, 2) := dk_25 4 (dk_at dksJ10_afterNodeAccess_7 6 rfl rfl)
theorem dJ10_afterNodeAccess_167 : decode cJ10_afterNodeAccess 167 = .ok (.getfield 19, 3) := dk_180 0 19 (dk_at dksJ10_afterNodeAccess_7 8 rfl rfl)
theorem dJ10_afterNodeAccess_170 : decode cJ10_afterNodeAccess 170 = .ok (.astore 5, 2) := dk_58 5 (dk_at dksJ10_afterNodeAccess_7 11 rfl rfl)
theorem dJ10_afterNodeAccess_172 : decode cJ10_afterNodeAccess 172 = .ok (.aload 4, 2) := dk_25 4 (dk_at dksJ10_afterNodeAccess_7 13 rfl rfl)
theorem dJ10_afterNodeAccess_174 : decode cJ10_afterNodeAccess 174 = .ok (.getfield 14, 3) := dk_180 0 14 (dk_at dksJ10_afterNodeAccess_7 15 rfl rfl)
theorem dJ10_afterNodeAccess_177 : decode cJ10_afterNodeAccess 177 = .ok (.astore 6, 2) := dk_58 6 (dk_at dksJ10_afterNodeAccess_7 18 rfl rfl)
theorem dJ10_afterNodeAccess_179 : decode cJ10_afterNodeAccess 179 = .ok (.aload 4, 2) := dk_25 4 (dk_at dksJ10_afterNodeAccess_7 20 rfl rfl)
theorem dJ10_afterNodeAccess_181 : decode cJ10_afterNodeAccess 181 = .ok (.aconst_null, 1) := dk_1 (dk_at dksJ10_afterNodeAccess_7 22 rfl rfl)
theorem dJ10_afterNodeAccess_182 : decode cJ10_afterNodeAccess 182 = .ok (.putfield 19, 3) := dk_181 0 19 (dk_at dksJ10_afterNodeAccess_8 0 rfl rfl)
theorem dJ10_afterNodeAccess_185 : decode cJ10_afterNodeAccess 185 = .ok (.aload 6, 2) := dk_25 6 (dk_at dksJ10_afterNodeAccess_8 3 rfl rfl)
theorem dJ10_afterNodeAccess_187 : decode cJ10_afterNodeAccess 187 = .ok (.ifnonnull 12, 3) := dk_199 0 12 (dk_at dksJ10_afterNodeAccess_8 5 rfl rfl)
theorem dJ10_afterNodeAccess_190 : decode cJ10_afterNodeAccess 190 = .ok (.aload_n 0, 1) := dk_42 (dk_at dksJ10_afterNodeAccess_8 8 rfl rfl)
theorem dJ10_afterNodeAccess_191 : decode cJ10_afterNodeAccess 191 = .ok (.aload 5, 2) := dk_25 5 (dk_at dksJ10_afterNodeAccess_8 9 rfl rfl)
theorem dJ10_afterNodeAccess_193 : decode cJ10_afterNodeAccess 193 = .ok (.putfield 11, 3) := dk_181 0 11 (dk_at dksJ10_afterNodeAccess_8 11 rfl rfl)
theorem dJ10_afterNodeAccess_196 : decode cJ10_afterNodeAccess 196 = .ok (.goto 10, 3) := dk_167 0 10 (dk_at dksJ10_afterNodeAccess_8 14 rfl rfl)
theorem dJ10_afterNodeAccess_199 : decode cJ10_afterNodeAccess 199 = .ok (.aload 6, 2) := dk_25 6 (dk_at dksJ10_afterNodeAccess_8 17 rfl rfl)
theorem dJ10_afterNodeAccess_201 : decode cJ10_afterNodeAccess 201 = .ok (.aload 5, 2) := dk_25 5 (dk_at dksJ10_afterNodeAccess_8 19 rfl rfl)
theorem dJ10_afterNodeAccess_203 : decode cJ10_afterNodeAccess 203 = .ok (.putfield 19, 3) := dk_181 0 19 (dk_at dksJ10_afterNodeAccess_8 21 rfl rfl)
theorem dJ10_afterNodeAccess_206 : decode cJ10_afterNodeAccess 206 = .ok (.aload 5, 2) := dk_25 5 (dk_at dksJ10_afterNodeAccess_9 0 rfl rfl)
theorem dJ10_afterNodeAccess_208 : decode cJ10_afterNodeAccess 208 = .ok (.ifnull 13, 3) := dk_198 0 13 (dk_at dksJ10_afterNodeAccess_9 2 rfl rfl)
theorem dJ10_afterNodeAccess_211 : decode cJ10_afterNodeAccess 211 = .ok (.aload 5, 2) := dk_25 5 (dk_at dksJ10_afterNodeAccess_9 5 rfl rfl)
theorem dJ10_afterNodeAccess_213 : decode cJ10_afterNodeAccess 213 = .ok (.aload 6, 2) := dk_25 6 (dk_at dksJ10_afterNodeAccess_9 7 rfl rfl)
theorem dJ10_afterNodeAccess_215 : decode cJ10_afterNodeAccess 215 = .ok (.putfield 14, 3) := dk_181 0 14 (dk_at dksJ10_afterNodeAccess_9 9 rfl rfl)
theorem dJ10_afterNodeAccess_218 : decode cJ10_afterNodeAccess 218 = .ok (.goto 6, 3) := dk_167 0 6 (dk_at dksJ10_afterNodeAccess_9 12 rfl rfl)
theorem dJ10_afterNodeAccess_221 : decode cJ10_afterNodeAccess 221 = .ok (.aload 6, 2) := dk_25 6 (dk_at dksJ10_afterNodeAccess_9 15 rfl rfl)
theorem dJ10_afterNodeAccess_223 : decode cJ10_afterNodeAccess 223 = .ok (.astore_n 3, 1) := dk_78 (dk_at dksJ10_afterNodeAccess_9 17 rfl rfl)
theorem dJ10_afterNodeAccess_224 : decode cJ10_afterNodeAccess 224 = .ok (.aload_n 3, 1) := dk_45 (dk_at dksJ10_afterNodeAccess_9 18 rfl rfl)
theorem dJ10_afterNodeAccess_225 : decode cJ10_afterNodeAccess 225 = .ok (.ifnonnull 12, 3) := dk_199 0 12 (dk_at dksJ10_afterNodeAccess_9 19 rfl rfl)
theorem dJ10_afterNodeAccess_228 : decode cJ10_afterNodeAccess 228 = .ok (.aload_n 0, 1) := dk_42 (dk_at dksJ10_afterNodeAccess_9 22 rfl rfl)
theorem dJ10_afterNodeAccess_229 : decode cJ10_afterNodeAccess 229 = .ok (.aload 4, 2) := dk_25 4 (dk_at dksJ10_afterNodeAccess_10 0 rfl rfl)
theorem dJ10_afterNodeAccess_231 : decode cJ10_afterNodeAccess 231 = .ok (.putfield 11, 3) := dk_181 0 11 (dk_at dksJ10_afterNodeAccess_10 2 rfl rfl)
theorem dJ10_afterNodeAccess_234 : decode cJ10_afterNodeAccess 234 = .ok (.goto 15, 3) := dk_167 0 15 (dk_at dksJ10_afterNodeAccess_10 5 rfl rfl)
theorem dJ10_afterNodeAccess_237 : decode cJ10_afterNodeAccess 237 = .ok (.aload 4, 2) := dk_25 4 (dk_at dksJ10_afterNodeAccess_10 8 rfl rfl)
theorem dJ10_afterNodeAccess_239 : decode cJ10_afterNodeAccess 239 = .ok (.aload_n 3, 1) := dk_45 (dk_at dksJ10_afterNodeAccess_10 10 rfl rfl)
theorem dJ10_afterNodeAccess_240 : decode cJ10_afterNodeAccess 240 = .ok (.putfield 14, 3) := dk_181 0 14 (dk_at dksJ10_afterNodeAccess_10 11 rfl rfl)
theorem dJ10_afterNodeAccess_243 : decode cJ10_afterNodeAccess 243 = .ok (.aload_n 3, 1) := dk_45 (dk_at dksJ10_afterNodeAccess_10 14 rfl rfl)
theorem dJ10_afterNodeAccess_244 : decode cJ10_afterNodeAccess 244 = .ok (.aload 4, 2) := dk_25 4 (dk_at dksJ10_afterNodeAccess_10 15 rfl rfl)
theorem dJ10_afterNodeAccess_246 : decode cJ10_afterNodeAccess 246 = .ok (.putfield 19, 3) := dk_181 0 19 (dk_at dksJ10_afterNodeAccess_10 17 rfl rfl)
theorem dJ10_afterNodeAccess_249 : decode cJ10_afterNodeAccess 249 = .ok (.aload_n 0, 1) := dk_42 (dk_at dksJ10_afterNodeAccess_10 20 rfl rfl)
theorem dJ10_afterNodeAccess_250 : decode cJ10_afterNodeAccess 250 = .ok (.aload 4, 2) := dk_25 4 (dk_at dksJ10_afterNodeAccess_10 21 rfl rfl)
theorem dJ10_afterNodeAccess_252 : decode cJ10_afterNodeAccess 252 = .ok (.putfield 7, 3) := dk_181 0 7 (dk_at dksJ10_afterNodeAccess_11 0 rfl rfl)
theorem dJ10_afterNodeAccess_255 : decode cJ10_afterNodeAccess 255 = .ok (.aload_n 0, 1) := dk_42 (dk_at dksJ10_afterNodeAccess_11 3 rfl rfl)
theorem dJ10_afterNodeAccess_256 : decode cJ10_afterNodeAccess 256 = .ok (.dup, 1) := dk_89 (dk_at dksJ10_afterNodeAccess_11 4 rfl rfl)
theorem dJ10_afterNodeAccess_257 : decode cJ10_afterNodeAccess 257 = .ok (.getfield 68, 3) := dk_180 0 68 (dk_at dksJ10_afterNodeAccess_11 5 rfl rfl)
theorem dJ10_afterNodeAccess_260 : decode cJ10_afterNodeAccess 260 = .ok (.iconst 1, 1) := dk_4 (dk_at dksJ10_afterNodeAccess_11 8 rfl rfl)
theorem dJ10_afterNodeAccess_261 : decode cJ10_afterNodeAccess 261 = .ok (.iadd, 1) := dk_96 (dk_at dksJ10_afterNodeAccess_11 9 rfl rfl)
theorem dJ10_afterNodeAccess_262 : decode cJ10_afterNodeAccess 262 = .ok (.putfield 68, 3) := dk_181 0 68 (dk_at dksJ10_afterNodeAccess_11 10 rfl rfl)
theorem dJ10_afterNodeAccess_265 : decode cJ10_afterNodeAccess 265 = .ok (.return_, 1) := dk_177 (dk_at dksJ10_afterNodeAccess_11 13 rfl rfl)
abbrev cJ10_afterNodeInsertion : ByteArray := prog_57_method_9_code
def yJ10_afterNodeInsertion : MethodName := ⟨RJ10, "afterNodeInsertion", "(Z)V"⟩
def dkwJ10_afterNodeInsertion_1 : List UInt8 := [180, 0, 39, 78, 42, 45, 184, 0, 57, 45, 1, 3, 4, 182, 0, 60, 87, 177]
abbrev dktJ10_afterNodeInsertion_1 : List UInt8 := dkwJ10_afterNodeInsertion_1 ++ []
def dkwJ10_afterNodeInsertion_0 : List UInt8 := [27, 153, 0, 38, 42, 180, 0, 7, 89, 77, 198, 0, 29, 42, 44, 182, 0, 53, 153, 0, 21, 44]
abbrev dktJ10_afterNodeInsertion_0 : List UInt8 := dkwJ10_afterNodeInsertion_0 ++ dktJ10_afterNodeInsertion_1
theorem dksJ10_afterNodeInsertion_0 : cJ10_afterNodeInsertion.data.toList.drop 0 = dktJ10_afterNodeInsertion_0 := by decide +kernel
theorem dksJ10_afterNodeInsertion_1 : cJ10_afterNodeInsertion.data.toList.drop 22 = dktJ10_afterNodeInsertion_1 := dk_seg dksJ10_afterNodeInsertion_0 22 rfl rfl
theorem dJ10_afterNodeInsertion_0 : decode cJ10_afterNodeInsertion 0 = .ok (.iload_n 1, 1) := dk_27 (dk_at dksJ10_afterNodeInsertion_0 0 rfl rfl)
theorem dJ10_afterNodeInsertion_1 : decode cJ10_afterNodeInsertion 1 = .ok (.ifCond .eq 38, 3) := dk_153 0 38 (dk_at dksJ10_afterNodeInsertion_0 1 rfl rfl)
theorem dJ10_afterNodeInsertion_4 : decode cJ10_afterNodeInsertion 4 = .ok (.aload_n 0, 1) := dk_42 (dk_at dksJ10_afterNodeInsertion_0 4 rfl rfl)
theorem dJ10_afterNodeInsertion_5 : decode cJ10_afterNodeInsertion 5 = .ok (.getfield 7, 3) := dk_180 0 7 (dk_at dksJ10_afterNodeInsertion_0 5 rfl rfl)
theorem dJ10_afterNodeInsertion_8 : decode cJ10_afterNodeInsertion 8 = .ok (.dup, 1) := dk_89 (dk_at dksJ10_afterNodeInsertion_0 8 rfl rfl)
theorem dJ10_afterNodeInsertion_9 : decode cJ10_afterNodeInsertion 9 = .ok (.astore_n 2, 1) := dk_77 (dk_at dksJ10_afterNodeInsertion_0 9 rfl rfl)
theorem dJ10_afterNodeInsertion_10 : decode cJ10_afterNodeInsertion 10 = .ok (.ifnull 29, 3) := dk_198 0 29 (dk_at dksJ10_afterNodeInsertion_0 10 rfl rfl)
theorem dJ10_afterNodeInsertion_13 : decode cJ10_afterNodeInsertion 13 = .ok (.aload_n 0, 1) := dk_42 (dk_at dksJ10_afterNodeInsertion_0 13 rfl rfl)
theorem dJ10_afterNodeInsertion_14 : decode cJ10_afterNodeInsertion 14 = .ok (.aload_n 2, 1) := dk_44 (dk_at dksJ10_afterNodeInsertion_0 14 rfl rfl)
theorem dJ10_afterNodeInsertion_15 : decode cJ10_afterNodeInsertion 15 = .ok (.invokevirtual 53, 3) := dk_182 0 53 (dk_at dksJ10_afterNodeInsertion_0 15 rfl rfl)
theorem dJ10_afterNodeInsertion_18 : decode cJ10_afterNodeInsertion 18 = .ok (.ifCond .eq 21, 3) := dk_153 0 21 (dk_at dksJ10_afterNodeInsertion_0 18 rfl rfl)
theorem dJ10_afterNodeInsertion_21 : decode cJ10_afterNodeInsertion 21 = .ok (.aload_n 2, 1) := dk_44 (dk_at dksJ10_afterNodeInsertion_0 21 rfl rfl)
theorem dJ10_afterNodeInsertion_22 : decode cJ10_afterNodeInsertion 22 = .ok (.getfield 39, 3) := dk_180 0 39 (dk_at dksJ10_afterNodeInsertion_1 0 rfl rfl)
theorem dJ10_afterNodeInsertion_25 : decode cJ10_afterNodeInsertion 25 = .ok (.astore_n 3, 1) := dk_78 (dk_at dksJ10_afterNodeInsertion_1 3 rfl rfl)
theorem dJ10_afterNodeInsertion_26 : decode cJ10_afterNodeInsertion 26 = .ok (.aload_n 0, 1) := dk_42 (dk_at dksJ10_afterNodeInsertion_1 4 rfl rfl)
theorem dJ10_afterNodeInsertion_27 : decode cJ10_afterNodeInsertion 27 = .ok (.aload_n 3, 1) := dk_45 (dk_at dksJ10_afterNodeInsertion_1 5 rfl rfl)
theorem dJ10_afterNodeInsertion_28 : decode cJ10_afterNodeInsertion 28 = .ok (.invokestatic 57, 3) := dk_184 0 57 (dk_at dksJ10_afterNodeInsertion_1 6 rfl rfl)
theorem dJ10_afterNodeInsertion_31 : decode cJ10_afterNodeInsertion 31 = .ok (.aload_n 3, 1) := dk_45 (dk_at dksJ10_afterNodeInsertion_1 9 rfl rfl)
theorem dJ10_afterNodeInsertion_32 : decode cJ10_afterNodeInsertion 32 = .ok (.aconst_null, 1) := dk_1 (dk_at dksJ10_afterNodeInsertion_1 10 rfl rfl)
theorem dJ10_afterNodeInsertion_33 : decode cJ10_afterNodeInsertion 33 = .ok (.iconst 0, 1) := dk_3 (dk_at dksJ10_afterNodeInsertion_1 11 rfl rfl)
theorem dJ10_afterNodeInsertion_34 : decode cJ10_afterNodeInsertion 34 = .ok (.iconst 1, 1) := dk_4 (dk_at dksJ10_afterNodeInsertion_1 12 rfl rfl)
theorem dJ10_afterNodeInsertion_35 : decode cJ10_afterNodeInsertion 35 = .ok (.invokevirtual 60, 3) := dk_182 0 60 (dk_at dksJ10_afterNodeInsertion_1 13 rfl rfl)
theorem dJ10_afterNodeInsertion_38 : decode cJ10_afterNodeInsertion 38 = .ok (.pop, 1) := dk_87 (dk_at dksJ10_afterNodeInsertion_1 16 rfl rfl)
theorem dJ10_afterNodeInsertion_39 : decode cJ10_afterNodeInsertion 39 = .ok (.return_, 1) := dk_177 (dk_at dksJ10_afterNodeInsertion_1 17 rfl rfl)
abbrev cJ10_removeEldestEntry : ByteArray := prog_57_method_23_code
def yJ10_removeEldestEntry : MethodName := ⟨RJ10, "removeEldestEntry", "(Ljava/util/Map$Entry;)Z"⟩
theorem dJ10_removeEldestEntry_0 : decode cJ10_removeEldestEntry 0 = .ok (.iconst 0, 1) := by decide +kernel
theorem dJ10_removeEldestEntry_1 : decode cJ10_removeEldestEntry 1 = .ok (.ireturn, 1) := by decide +kernel
abbrev cJ10_init_2 : ByteArray := prog_57_method_14_code
def yJ10_init_2 : MethodName := ⟨RJ10, "<init>", "(IF)V"⟩
def dkwJ10_init_2_0 : List UInt8 := [42, 27, 36, 183, 0, 81, 42, 3, 181, 0, 1, 42, 3, 181, 0, 64, 177]
abbrev dktJ10_init_2_0 : List UInt8 := dkwJ10_init_2_0 ++ []
theorem dksJ10_init_2_0 : cJ10_init_2.data.toList.drop 0 = dktJ10_init_2_0 := by decide +kernel
theorem dJ10_init_2_0 : decode cJ10_init_2 0 = .ok (.aload_n 0, 1) := dk_42 (dk_at dksJ10_init_2_0 0 rfl rfl)
theorem dJ10_init_2_1 : decode cJ10_init_2 1 = .ok (.iload_n 1, 1) := dk_27 (dk_at dksJ10_init_2_0 1 rfl rfl)
theorem dJ10_init_2_2 : decode cJ10_init_2 2 = .ok (.fload_n 2, 1) := dk_36 (dk_at dksJ10_init_2_0 2 rfl rfl)
theorem dJ10_init_2_3 : decode cJ10_init_2 3 = .ok (.invokespecial 81, 3) := dk_183 0 81 (dk_at dksJ10_init_2_0 3 rfl rfl)
theorem dJ10_init_2_6 : decode cJ10_init_2 6 = .ok (.aload_n 0, 1) := dk_42 (dk_at dksJ10_init_2_0 6 rfl rfl)
theorem dJ10_init_2_7 : decode cJ10_init_2 7 = .ok (.iconst 0, 1) := dk_3 (dk_at dksJ10_init_2_0 7 rfl rfl)
theorem dJ10_init_2_8 : decode cJ10_init_2 8 = .ok (.putfield 1, 3) := dk_181 0 1 (dk_at dksJ10_init_2_0 8 rfl rfl)
theorem dJ10_init_2_11 : decode cJ10_init_2 11 = .ok (.aload_n 0, 1) := dk_42 (dk_at dksJ10_init_2_0 11 rfl rfl)
theorem dJ10_init_2_12 : decode cJ10_init_2 12 = .ok (.iconst 0, 1) := dk_3 (dk_at dksJ10_init_2_0 12 rfl rfl)
theorem dJ10_init_2_13 : decode cJ10_init_2 13 = .ok (.putfield 64, 3) := dk_181 0 64 (dk_at dksJ10_init_2_0 13 rfl rfl)
theorem dJ10_init_2_16 : decode cJ10_init_2 16 = .ok (.return_, 1) := dk_177 (dk_at dksJ10_init_2_0 16 rfl rfl)
abbrev cJ10_get : ByteArray := prog_57_method_20_code
def yJ10_get : MethodName := ⟨RJ10, "get", "(Ljava/lang/Object;)Ljava/lang/Object;"⟩
def dkwJ10_get_1 : List UInt8 := [44, 180, 0, 107, 176]
abbrev dktJ10_get_1 : List UInt8 := dkwJ10_get_1 ++ []
def dkwJ10_get_0 : List UInt8 := [42, 43, 182, 0, 99, 89, 77, 199, 0, 5, 1, 176, 42, 180, 0, 64, 153, 0, 8, 42, 44, 182, 0, 103]
abbrev dktJ10_get_0 : List UInt8 := dkwJ10_get_0 ++ dktJ10_get_1
theorem dksJ10_get_0 : cJ10_get.data.toList.drop 0 = dktJ10_get_0 := by decide +kernel
theorem dksJ10_get_1 : cJ10_get.data.toList.drop 24 = dktJ10_get_1 := dk_seg dksJ10_get_0 24 rfl rfl
theorem dJ10_get_0 : decode cJ10_get 0 = .ok (.aload_n 0, 1) := dk_42 (dk_at dksJ10_get_0 0 rfl rfl)
theorem dJ10_get_1 : decode cJ10_get 1 = .ok (.aload_n 1, 1) := dk_43 (dk_at dksJ10_get_0 1 rfl rfl)
theorem dJ10_get_2 : decode cJ10_get 2 = .ok (.invokevirtual 99, 3) := dk_182 0 99 (dk_at dksJ10_get_0 2 rfl rfl)
theorem dJ10_get_5 : decode cJ10_get 5 = .ok (.dup, 1) := dk_89 (dk_at dksJ10_get_0 5 rfl rfl)
theorem dJ10_get_6 : decode cJ10_get 6 = .ok (.astore_n 2, 1) := dk_77 (dk_at dksJ10_get_0 6 rfl rfl)
theorem dJ10_get_7 : decode cJ10_get 7 = .ok (.ifnonnull 5, 3) := dk_199 0 5 (dk_at dksJ10_get_0 7 rfl rfl)
theorem dJ10_get_10 : decode cJ10_get 10 = .ok (.aconst_null, 1) := dk_1 (dk_at dksJ10_get_0 10 rfl rfl)
theorem dJ10_get_11 : decode cJ10_get 11 = .ok (.areturn, 1) := dk_176 (dk_at dksJ10_get_0 11 rfl rfl)
theorem dJ10_get_12 : decode cJ10_get 12 = .ok (.aload_n 0, 1) := dk_42 (dk_at dksJ10_get_0 12 rfl rfl)
theorem dJ10_get_13 : decode cJ10_get 13 = .ok (.getfield 64, 3) := dk_180 0 64 (dk_at dksJ10_get_0 13 rfl rfl)
theorem dJ10_get_16 : decode cJ10_get 16 = .ok (.ifCond .eq 8, 3) := dk_153 0 8 (dk_at dksJ10_get_0 16 rfl rfl)
theorem dJ10_get_19 : decode cJ10_get 19 = .ok (.aload_n 0, 1) := dk_42 (dk_at dksJ10_get_0 19 rfl rfl)
theorem dJ10_get_20 : decode cJ10_get 20 = .ok (.aload_n 2, 1) := dk_44 (dk_at dksJ10_get_0 20 rfl rfl)
theorem dJ10_get_21 : decode cJ10_get 21 = .ok (.invokevirtual 103, 3) := dk_182 0 103 (dk_at dksJ10_get_0 21 rfl rfl)
theorem dJ10_get_24 : decode cJ10_get 24 = .ok (.aload_n 2, 1) := dk_44 (dk_at dksJ10_get_1 0 rfl rfl)
theorem dJ10_get_25 : decode cJ10_get 25 = .ok (.getfield 107, 3) := dk_180 0 107 (dk_at dksJ10_get_1 1 rfl rfl)
theorem dJ10_get_28 : decode cJ10_get 28 = .ok (.areturn, 1) := dk_176 (dk_at dksJ10_get_1 4 rfl rfl)
abbrev cJ10_keySet : ByteArray := prog_57_method_24_code
def yJ10_keySet : MethodName := ⟨RJ10, "keySet", "()Ljava/util/Set;"⟩
theorem dJ10_keySet_0 : decode cJ10_keySet 0 = .ok (.aload_n 0, 1) := by decide +kernel
theorem dJ10_keySet_1 : decode cJ10_keySet 1 = .ok (.invokevirtual 113, 3) := by decide +kernel
theorem dJ10_keySet_4 : decode cJ10_keySet 4 = .ok (.areturn, 1) := by decide +kernel
abbrev cJ10_sequencedKeySet : ByteArray := prog_57_method_25_code
def yJ10_sequencedKeySet : MethodName := ⟨RJ10, "sequencedKeySet", "()Ljava/util/SequencedSet;"⟩
def dkwJ10_sequencedKeySet_1 : List UInt8 := [44, 176, 43, 192, 0, 126, 176]
abbrev dktJ10_sequencedKeySet_1 : List UInt8 := dkwJ10_sequencedKeySet_1 ++ []
def dkwJ10_sequencedKeySet_0 : List UInt8 := [42, 180, 0, 117, 76, 43, 199, 0, 20, 187, 0, 121, 89, 42, 3, 183, 0, 123, 77, 42, 44, 181, 0, 117]
abbrev dktJ10_sequencedKeySet_0 : List UInt8 := dkwJ10_sequencedKeySet_0 ++ dktJ10_sequencedKeySet_1
theorem dksJ10_sequencedKeySet_0 : cJ10_sequencedKeySet.data.toList.drop 0 = dktJ10_sequencedKeySet_0 := by decide +kernel
theorem dksJ10_sequencedKeySet_1 : cJ10_sequencedKeySet.data.toList.drop 24 = dktJ10_sequencedKeySet_1 := dk_seg dksJ10_sequencedKeySet_0 24 rfl rfl
theorem dJ10_sequencedKeySet_0 : decode cJ10_sequencedKeySet 0 = .ok (.aload_n 0, 1) := dk_42 (dk_at dksJ10_sequencedKeySet_0 0 rfl rfl)
theorem dJ10_sequencedKeySet_1 : decode cJ10_sequencedKeySet 1 = .ok (.getfield 117, 3) := dk_180 0 117 (dk_at dksJ10_sequencedKeySet_0 1 rfl rfl)
theorem dJ10_sequencedKeySet_4 : decode cJ10_sequencedKeySet 4 = .ok (.astore_n 1, 1) := dk_76 (dk_at dksJ10_sequencedKeySet_0 4 rfl rfl)
theorem dJ10_sequencedKeySet_5 : decode cJ10_sequencedKeySet 5 = .ok (.aload_n 1, 1) := dk_43 (dk_at dksJ10_sequencedKeySet_0 5 rfl rfl)
theorem dJ10_sequencedKeySet_6 : decode cJ10_sequencedKeySet 6 = .ok (.ifnonnull 20, 3) := dk_199 0 20 (dk_at dksJ10_sequencedKeySet_0 6 rfl rfl)
theorem dJ10_sequencedKeySet_9 : decode cJ10_sequencedKeySet 9 = .ok (.new 121, 3) := dk_187 0 121 (dk_at dksJ10_sequencedKeySet_0 9 rfl rfl)
theorem dJ10_sequencedKeySet_12 : decode cJ10_sequencedKeySet 12 = .ok (.dup, 1) := dk_89 (dk_at dksJ10_sequencedKeySet_0 12 rfl rfl)
theorem dJ10_sequencedKeySet_13 : decode cJ10_sequencedKeySet 13 = .ok (.aload_n 0, 1) := dk_42 (dk_at dksJ10_sequencedKeySet_0 13 rfl rfl)
theorem dJ10_sequencedKeySet_14 : decode cJ10_sequencedKeySet 14 = .ok (.iconst 0, 1) := dk_3 (dk_at dksJ10_sequencedKeySet_0 14 rfl rfl)
theorem dJ10_sequencedKeySet_15 : decode cJ10_sequencedKeySet 15 = .ok (.invokespecial 123, 3) := dk_183 0 123 (dk_at dksJ10_sequencedKeySet_0 15 rfl rfl)
theorem dJ10_sequencedKeySet_18 : decode cJ10_sequencedKeySet 18 = .ok (.astore_n 2, 1) := dk_77 (dk_at dksJ10_sequencedKeySet_0 18 rfl rfl)
theorem dJ10_sequencedKeySet_19 : decode cJ10_sequencedKeySet 19 = .ok (.aload_n 0, 1) := dk_42 (dk_at dksJ10_sequencedKeySet_0 19 rfl rfl)
theorem dJ10_sequencedKeySet_20 : decode cJ10_sequencedKeySet 20 = .ok (.aload_n 2, 1) := dk_44 (dk_at dksJ10_sequencedKeySet_0 20 rfl rfl)
theorem dJ10_sequencedKeySet_21 : decode cJ10_sequencedKeySet 21 = .ok (.putfield 117, 3) := dk_181 0 117 (dk_at dksJ10_sequencedKeySet_0 21 rfl rfl)
theorem dJ10_sequencedKeySet_24 : decode cJ10_sequencedKeySet 24 = .ok (.aload_n 2, 1) := dk_44 (dk_at dksJ10_sequencedKeySet_1 0 rfl rfl)
theorem dJ10_sequencedKeySet_25 : decode cJ10_sequencedKeySet 25 = .ok (.areturn, 1) := dk_176 (dk_at dksJ10_sequencedKeySet_1 1 rfl rfl)
theorem dJ10_sequencedKeySet_26 : decode cJ10_sequencedKeySet 26 = .ok (.aload_n 1, 1) := dk_43 (dk_at dksJ10_sequencedKeySet_1 2 rfl rfl)
theorem dJ10_sequencedKeySet_27 : decode cJ10_sequencedKeySet 27 = .ok (.checkcast 126, 3) := dk_192 0 126 (dk_at dksJ10_sequencedKeySet_1 3 rfl rfl)
theorem dJ10_sequencedKeySet_30 : decode cJ10_sequencedKeySet 30 = .ok (.areturn, 1) := dk_176 (dk_at dksJ10_sequencedKeySet_1 6 rfl rfl)
theorem q107 : (Jvm.Cond.initialized "java/util/LinkedHashMap") ∈ lw_all := lw_g (lw_at lw_m1 18 rfl) rfl
theorem q383 : (Jvm.Cond.selects "java/util/LinkedHashMap" ({ cls := "java/lang/Object", name := "getClass", desc := "()Ljava/lang/Class;" } : Jvm.MethodName) ({ cls := "java/lang/Object", name := "getClass", desc := "()Ljava/lang/Class;" } : Jvm.MethodName)) ∈ lw_all := lw_g (lw_at lw_m2 54 rfl) rfl
theorem q421 : (Jvm.Cond.instantiable "java/util/LinkedHashMap" (12 : Nat)) ∈ lw_all := lw_g (lw_at lw_m2 92 rfl) rfl
theorem q423 : (Jvm.Cond.instanceMethod ({ cls := "java/util/LinkedHashMap", name := "<init>", desc := "()V" } : Jvm.MethodName)) ∈ lw_all := lw_g (lw_at lw_m2 94 rfl) rfl
theorem q424 : (Jvm.Cond.code ({ cls := "java/util/LinkedHashMap", name := "<init>", desc := "()V" } : Jvm.MethodName) prog_57_method_16_code (1 : Nat) (Option.none : Option Jvm.ClassFile.FieldType)) ∈ lw_all := lw_g (lw_at lw_m2 95 rfl) rfl
theorem q425 : (Jvm.Cond.methodLink "java/util/LinkedHashMap" (87 : Nat) ({ cls := "java/util/HashMap", name := "<init>", desc := "()V" } : Jvm.MethodName)) ∈ lw_all := lw_g (lw_at lw_m2 96 rfl) rfl
theorem q433 : (Jvm.Cond.fieldLink "java/util/LinkedHashMap" (7 : Nat) "java/util/LinkedHashMap" "head" "Ljava/util/LinkedHashMap$Entry;") ∈ lw_all := lw_g (lw_at lw_m2 104 rfl) rfl
theorem q436 : (Jvm.Cond.fieldLink "java/util/LinkedHashMap" (11 : Nat) "java/util/LinkedHashMap" "tail" "Ljava/util/LinkedHashMap$Entry;") ∈ lw_all := lw_g (lw_at lw_m2 107 rfl) rfl
theorem q437 : (Jvm.Cond.fieldLink "java/util/LinkedHashMap" (64 : Nat) "java/util/LinkedHashMap" "accessOrder" "Z") ∈ lw_all := lw_g (lw_at lw_m2 108 rfl) rfl
theorem q438 : (Jvm.Cond.fieldLink "java/util/LinkedHashMap" (1 : Nat) "java/util/LinkedHashMap" "putMode" "I") ∈ lw_all := lw_g (lw_at lw_m2 109 rfl) rfl
theorem q445 : (Jvm.Cond.sameField "java/util/LinkedHashMap" "java/util/HashMap" "modCount" "I") ∈ lw_all := lw_g (lw_at lw_m2 116 rfl) rfl
theorem q446 : (Jvm.Cond.fieldLink "java/util/LinkedHashMap" (68 : Nat) "java/util/LinkedHashMap" "modCount" "I") ∈ lw_all := lw_g (lw_at lw_m2 117 rfl) rfl
theorem q452 : (Jvm.Cond.fieldLink "java/util/LinkedHashMap" (117 : Nat) "java/util/LinkedHashMap" "keySet" "Ljava/util/Set;") ∈ lw_all := lw_g (lw_at lw_m2 123 rfl) rfl
theorem q453 : (Jvm.Cond.sameField "java/util/LinkedHashMap" "java/util/AbstractMap" "keySet" "Ljava/util/Set;") ∈ lw_all := lw_g (lw_at lw_m2 124 rfl) rfl
theorem q454 : (Jvm.Cond.lays "java/util/LinkedHashMap" "java/util/LinkedHashMap" "head" "Ljava/util/LinkedHashMap$Entry;") ∈ lw_all := lw_g (lw_at lw_m2 125 rfl) rfl
theorem q455 : (Jvm.Cond.soleField "java/util/LinkedHashMap" "head") ∈ lw_all := lw_g (lw_at lw_m2 126 rfl) rfl
theorem q456 : (Jvm.Cond.lays "java/util/LinkedHashMap" "java/util/LinkedHashMap" "tail" "Ljava/util/LinkedHashMap$Entry;") ∈ lw_all := lw_g (lw_at lw_m2 127 rfl) rfl
theorem q457 : (Jvm.Cond.soleField "java/util/LinkedHashMap" "tail") ∈ lw_all := lw_g (lw_at lw_m2 128 rfl) rfl
theorem q458 : (Jvm.Cond.laysFinal "java/util/LinkedHashMap" "java/util/LinkedHashMap" "accessOrder" "Z") ∈ lw_all := lw_g (lw_at lw_m2 129 rfl) rfl
theorem q459 : (Jvm.Cond.soleField "java/util/LinkedHashMap" "accessOrder") ∈ lw_all := lw_g (lw_at lw_m2 130 rfl) rfl
theorem q460 : (Jvm.Cond.lays "java/util/LinkedHashMap" "java/util/LinkedHashMap" "putMode" "I") ∈ lw_all := lw_g (lw_at lw_m2 131 rfl) rfl
theorem q461 : (Jvm.Cond.soleField "java/util/LinkedHashMap" "putMode") ∈ lw_all := lw_g (lw_at lw_m2 132 rfl) rfl
theorem q462 : (Jvm.Cond.lays "java/util/LinkedHashMap" "java/util/HashMap" "table" "[Ljava/util/HashMap$Node;") ∈ lw_all := lw_g (lw_at lw_m2 133 rfl) rfl
theorem q464 : (Jvm.Cond.lays "java/util/LinkedHashMap" "java/util/HashMap" "entrySet" "Ljava/util/Set;") ∈ lw_all := lw_g (lw_at lw_m2 135 rfl) rfl
theorem q466 : (Jvm.Cond.lays "java/util/LinkedHashMap" "java/util/HashMap" "size" "I") ∈ lw_all := lw_g (lw_at lw_m2 137 rfl) rfl
theorem q468 : (Jvm.Cond.lays "java/util/LinkedHashMap" "java/util/HashMap" "modCount" "I") ∈ lw_all := lw_g (lw_at lw_m2 139 rfl) rfl
theorem q470 : (Jvm.Cond.lays "java/util/LinkedHashMap" "java/util/HashMap" "threshold" "I") ∈ lw_all := lw_g (lw_at lw_m2 141 rfl) rfl
theorem q472 : (Jvm.Cond.laysFinal "java/util/LinkedHashMap" "java/util/HashMap" "loadFactor" "F") ∈ lw_all := lw_g (lw_at lw_m2 143 rfl) rfl
theorem q474 : (Jvm.Cond.lays "java/util/LinkedHashMap" "java/util/AbstractMap" "keySet" "Ljava/util/Set;") ∈ lw_all := lw_g (lw_at lw_m2 145 rfl) rfl
theorem q476 : (Jvm.Cond.lays "java/util/LinkedHashMap" "java/util/AbstractMap" "values" "Ljava/util/Collection;") ∈ lw_all := lw_g (lw_at lw_m2 147 rfl) rfl
theorem q478 : (Jvm.Cond.superclass "java/util/LinkedHashMap" "java/util/HashMap") ∈ lw_all := lw_g (lw_at lw_m2 149 rfl) rfl
theorem q508 : (Jvm.Cond.sameMethod "java/util/LinkedHashMap" "java/util/HashMap" "put" "(Ljava/lang/Object;Ljava/lang/Object;)Ljava/lang/Object;") ∈ lw_all := lw_g (lw_at lw_m2 179 rfl) rfl
theorem q510 : (Jvm.Cond.selects "java/util/LinkedHashMap" ({ cls := "java/util/LinkedHashMap", name := "put", desc := "(Ljava/lang/Object;Ljava/lang/Object;)Ljava/lang/Object;" } : Jvm.MethodName) ({ cls := "java/util/HashMap", name := "put", desc := "(Ljava/lang/Object;Ljava/lang/Object;)Ljava/lang/Object;" } : Jvm.MethodName)) ∈ lw_all := lw_g (lw_at lw_m2 181 rfl) rfl
theorem q615 : (Jvm.Cond.selects "java/util/LinkedHashMap" ({ cls := "java/util/HashMap", name := "putVal", desc := "(ILjava/lang/Object;Ljava/lang/Object;ZZ)Ljava/lang/Object;" } : Jvm.MethodName) ({ cls := "java/util/HashMap", name := "putVal", desc := "(ILjava/lang/Object;Ljava/lang/Object;ZZ)Ljava/lang/Object;" } : Jvm.MethodName)) ∈ lw_all := lw_g (lw_at lw_m3 46 rfl) rfl
theorem q620 : (Jvm.Cond.selects "java/util/LinkedHashMap" ({ cls := "java/util/HashMap", name := "resize", desc := "()[Ljava/util/HashMap$Node;" } : Jvm.MethodName) ({ cls := "java/util/HashMap", name := "resize", desc := "()[Ljava/util/HashMap$Node;" } : Jvm.MethodName)) ∈ lw_all := lw_g (lw_at lw_m3 51 rfl) rfl
theorem q640 : (Jvm.Cond.selects "java/util/LinkedHashMap" ({ cls := "java/util/HashMap", name := "replacementNode", desc := "(Ljava/util/HashMap$Node;Ljava/util/HashMap$Node;)Ljava/util/HashMap$Node;" } : Jvm.MethodName) ({ cls := "java/util/LinkedHashMap", name := "replacementNode", desc := "(Ljava/util/HashMap$Node;Ljava/util/HashMap$Node;)Ljava/util/HashMap$Node;" } : Jvm.MethodName)) ∈ lw_all := lw_g (lw_at lw_m3 71 rfl) rfl
theorem q641 : (Jvm.Cond.instanceMethod ({ cls := "java/util/LinkedHashMap", name := "replacementNode", desc := "(Ljava/util/HashMap$Node;Ljava/util/HashMap$Node;)Ljava/util/HashMap$Node;" } : Jvm.MethodName)) ∈ lw_all := lw_g (lw_at lw_m3 72 rfl) rfl
theorem q642 : (Jvm.Cond.code ({ cls := "java/util/LinkedHashMap", name := "replacementNode", desc := "(Ljava/util/HashMap$Node;Ljava/util/HashMap$Node;)Ljava/util/HashMap$Node;" } : Jvm.MethodName) prog_57_method_5_code (5 : Nat) (Option.some (Jvm.ClassFile.FieldType.object "java/util/HashMap$Node"))) ∈ lw_all := lw_g (lw_at lw_m3 73 rfl) rfl
theorem q643 : (Jvm.Cond.classLink "java/util/LinkedHashMap" (15 : Nat) "java/util/LinkedHashMap$Entry") ∈ lw_all := lw_g (lw_at lw_m3 74 rfl) rfl
theorem q645 : (Jvm.Cond.methodLink "java/util/LinkedHashMap" (28 : Nat) ({ cls := "java/util/LinkedHashMap$Entry", name := "<init>", desc := "(ILjava/lang/Object;Ljava/lang/Object;Ljava/util/HashMap$Node;)V" } : Jvm.MethodName)) ∈ lw_all := lw_g (lw_at lw_m3 76 rfl) rfl
theorem q652 : (Jvm.Cond.fieldLink "java/util/LinkedHashMap" (19 : Nat) "java/util/LinkedHashMap$Entry" "before" "Ljava/util/LinkedHashMap$Entry;") ∈ lw_all := lw_g (lw_at lw_m3 83 rfl) rfl
theorem q654 : (Jvm.Cond.fieldLink "java/util/LinkedHashMap" (14 : Nat) "java/util/LinkedHashMap$Entry" "after" "Ljava/util/LinkedHashMap$Entry;") ∈ lw_all := lw_g (lw_at lw_m3 85 rfl) rfl
theorem q659 : (Jvm.Cond.fieldLink "java/util/LinkedHashMap" (36 : Nat) "java/util/LinkedHashMap$Entry" "hash" "I") ∈ lw_all := lw_g (lw_at lw_m3 90 rfl) rfl
theorem q666 : (Jvm.Cond.fieldLink "java/util/LinkedHashMap" (39 : Nat) "java/util/LinkedHashMap$Entry" "key" "Ljava/lang/Object;") ∈ lw_all := lw_g (lw_at lw_m3 97 rfl) rfl
theorem q670 : (Jvm.Cond.fieldLink "java/util/LinkedHashMap" (43 : Nat) "java/util/LinkedHashMap$Entry" "value" "Ljava/lang/Object;") ∈ lw_all := lw_g (lw_at lw_m3 101 rfl) rfl
theorem q673 : (Jvm.Cond.fieldLink "java/util/LinkedHashMap" (107 : Nat) "java/util/HashMap$Node" "value" "Ljava/lang/Object;") ∈ lw_all := lw_g (lw_at lw_m3 104 rfl) rfl
theorem q694 : (Jvm.Cond.methodLink "java/util/LinkedHashMap" (46 : Nat) ({ cls := "java/util/LinkedHashMap", name := "transferLinks", desc := "(Ljava/util/LinkedHashMap$Entry;Ljava/util/LinkedHashMap$Entry;)V" } : Jvm.MethodName)) ∈ lw_all := lw_g (lw_at lw_m3 125 rfl) rfl
theorem q695 : (Jvm.Cond.privateMethod ({ cls := "java/util/LinkedHashMap", name := "transferLinks", desc := "(Ljava/util/LinkedHashMap$Entry;Ljava/util/LinkedHashMap$Entry;)V" } : Jvm.MethodName)) ∈ lw_tbl := lw_at lw_m3 126 rfl
theorem q696 : (Jvm.Cond.instanceMethod ({ cls := "java/util/LinkedHashMap", name := "transferLinks", desc := "(Ljava/util/LinkedHashMap$Entry;Ljava/util/LinkedHashMap$Entry;)V" } : Jvm.MethodName)) ∈ lw_all := lw_g (lw_at lw_m3 127 rfl) rfl
theorem q697 : (Jvm.Cond.code ({ cls := "java/util/LinkedHashMap", name := "transferLinks", desc := "(Ljava/util/LinkedHashMap$Entry;Ljava/util/LinkedHashMap$Entry;)V" } : Jvm.MethodName) prog_57_method_2_code (5 : Nat) (Option.none : Option Jvm.ClassFile.FieldType)) ∈ lw_all := lw_g (lw_at lw_m3 128 rfl) rfl
theorem q942 : (Jvm.Cond.selects "java/util/LinkedHashMap" ({ cls := "java/util/HashMap", name := "newNode", desc := "(ILjava/lang/Object;Ljava/lang/Object;Ljava/util/HashMap$Node;)Ljava/util/HashMap$Node;" } : Jvm.MethodName) ({ cls := "java/util/LinkedHashMap", name := "newNode", desc := "(ILjava/lang/Object;Ljava/lang/Object;Ljava/util/HashMap$Node;)Ljava/util/HashMap$Node;" } : Jvm.MethodName)) ∈ lw_all := lw_g (lw_at lw_m4 133 rfl) rfl
theorem q943 : (Jvm.Cond.instanceMethod ({ cls := "java/util/LinkedHashMap", name := "newNode", desc := "(ILjava/lang/Object;Ljava/lang/Object;Ljava/util/HashMap$Node;)Ljava/util/HashMap$Node;" } : Jvm.MethodName)) ∈ lw_all := lw_g (lw_at lw_m4 134 rfl) rfl
theorem q944 : (Jvm.Cond.code ({ cls := "java/util/LinkedHashMap", name := "newNode", desc := "(ILjava/lang/Object;Ljava/lang/Object;Ljava/util/HashMap$Node;)Ljava/util/HashMap$Node;" } : Jvm.MethodName) prog_57_method_4_code (6 : Nat) (Option.some (Jvm.ClassFile.FieldType.object "java/util/HashMap$Node"))) ∈ lw_all := lw_g (lw_at lw_m4 135 rfl) rfl
theorem q945 : (Jvm.Cond.methodLink "java/util/LinkedHashMap" (32 : Nat) ({ cls := "java/util/LinkedHashMap", name := "linkNodeAtEnd", desc := "(Ljava/util/LinkedHashMap$Entry;)V" } : Jvm.MethodName)) ∈ lw_all := lw_g (lw_at lw_m4 136 rfl) rfl
theorem q946 : (Jvm.Cond.privateMethod ({ cls := "java/util/LinkedHashMap", name := "linkNodeAtEnd", desc := "(Ljava/util/LinkedHashMap$Entry;)V" } : Jvm.MethodName)) ∈ lw_tbl := lw_at lw_m4 137 rfl
theorem q947 : (Jvm.Cond.instanceMethod ({ cls := "java/util/LinkedHashMap", name := "linkNodeAtEnd", desc := "(Ljava/util/LinkedHashMap$Entry;)V" } : Jvm.MethodName)) ∈ lw_all := lw_g (lw_at lw_m4 138 rfl) rfl
theorem q948 : (Jvm.Cond.code ({ cls := "java/util/LinkedHashMap", name := "linkNodeAtEnd", desc := "(Ljava/util/LinkedHashMap$Entry;)V" } : Jvm.MethodName) prog_57_method_1_code (3 : Nat) (Option.none : Option Jvm.ClassFile.FieldType)) ∈ lw_all := lw_g (lw_at lw_m4 139 rfl) rfl
theorem q1004 : (Jvm.Cond.selects "java/util/LinkedHashMap" ({ cls := "java/util/HashMap", name := "newTreeNode", desc := "(ILjava/lang/Object;Ljava/lang/Object;Ljava/util/HashMap$Node;)Ljava/util/HashMap$TreeNode;" } : Jvm.MethodName) ({ cls := "java/util/LinkedHashMap", name := "newTreeNode", desc := "(ILjava/lang/Object;Ljava/lang/Object;Ljava/util/HashMap$Node;)Ljava/util/HashMap$TreeNode;" } : Jvm.MethodName)) ∈ lw_all := lw_g (lw_at lw_m4 195 rfl) rfl
theorem q1005 : (Jvm.Cond.instanceMethod ({ cls := "java/util/LinkedHashMap", name := "newTreeNode", desc := "(ILjava/lang/Object;Ljava/lang/Object;Ljava/util/HashMap$Node;)Ljava/util/HashMap$TreeNode;" } : Jvm.MethodName)) ∈ lw_all := lw_g (lw_at lw_m4 196 rfl) rfl
theorem q1006 : (Jvm.Cond.code ({ cls := "java/util/LinkedHashMap", name := "newTreeNode", desc := "(ILjava/lang/Object;Ljava/lang/Object;Ljava/util/HashMap$Node;)Ljava/util/HashMap$TreeNode;" } : Jvm.MethodName) prog_57_method_6_code (6 : Nat) (Option.some (Jvm.ClassFile.FieldType.object "java/util/HashMap$TreeNode"))) ∈ lw_all := lw_g (lw_at lw_m4 197 rfl) rfl
theorem q1007 : (Jvm.Cond.classLink "java/util/LinkedHashMap" (50 : Nat) "java/util/HashMap$TreeNode") ∈ lw_all := lw_g (lw_at lw_m4 198 rfl) rfl
theorem q1009 : (Jvm.Cond.methodLink "java/util/LinkedHashMap" (52 : Nat) ({ cls := "java/util/HashMap$TreeNode", name := "<init>", desc := "(ILjava/lang/Object;Ljava/lang/Object;Ljava/util/HashMap$Node;)V" } : Jvm.MethodName)) ∈ lw_all := lw_g (lw_at lw_m4 200 rfl) rfl
theorem q1040 : (Jvm.Cond.selects "java/util/LinkedHashMap" ({ cls := "java/util/HashMap", name := "treeifyBin", desc := "([Ljava/util/HashMap$Node;I)V" } : Jvm.MethodName) ({ cls := "java/util/HashMap", name := "treeifyBin", desc := "([Ljava/util/HashMap$Node;I)V" } : Jvm.MethodName)) ∈ lw_all := lw_g (lw_at lw_m4 231 rfl) rfl
theorem q1045 : (Jvm.Cond.selects "java/util/LinkedHashMap" ({ cls := "java/util/HashMap", name := "replacementTreeNode", desc := "(Ljava/util/HashMap$Node;Ljava/util/HashMap$Node;)Ljava/util/HashMap$TreeNode;" } : Jvm.MethodName) ({ cls := "java/util/LinkedHashMap", name := "replacementTreeNode", desc := "(Ljava/util/HashMap$Node;Ljava/util/HashMap$Node;)Ljava/util/HashMap$TreeNode;" } : Jvm.MethodName)) ∈ lw_all := lw_g (lw_at lw_m4 236 rfl) rfl
theorem q1046 : (Jvm.Cond.instanceMethod ({ cls := "java/util/LinkedHashMap", name := "replacementTreeNode", desc := "(Ljava/util/HashMap$Node;Ljava/util/HashMap$Node;)Ljava/util/HashMap$TreeNode;" } : Jvm.MethodName)) ∈ lw_all := lw_g (lw_at lw_m4 237 rfl) rfl
theorem q1047 : (Jvm.Cond.code ({ cls := "java/util/LinkedHashMap", name := "replacementTreeNode", desc := "(Ljava/util/HashMap$Node;Ljava/util/HashMap$Node;)Ljava/util/HashMap$TreeNode;" } : Jvm.MethodName) prog_57_method_7_code (5 : Nat) (Option.some (Jvm.ClassFile.FieldType.object "java/util/HashMap$TreeNode"))) ∈ lw_all := lw_g (lw_at lw_m4 238 rfl) rfl
theorem q1053 : (Jvm.Cond.selects "java/util/LinkedHashMap" ({ cls := "java/util/HashMap", name := "afterNodeAccess", desc := "(Ljava/util/HashMap$Node;)V" } : Jvm.MethodName) ({ cls := "java/util/LinkedHashMap", name := "afterNodeAccess", desc := "(Ljava/util/HashMap$Node;)V" } : Jvm.MethodName)) ∈ lw_all := lw_g (lw_at lw_m5 4 rfl) rfl
theorem q1054 : (Jvm.Cond.instanceMethod ({ cls := "java/util/LinkedHashMap", name := "afterNodeAccess", desc := "(Ljava/util/HashMap$Node;)V" } : Jvm.MethodName)) ∈ lw_all := lw_g (lw_at lw_m5 5 rfl) rfl
theorem q1055 : (Jvm.Cond.code ({ cls := "java/util/LinkedHashMap", name := "afterNodeAccess", desc := "(Ljava/util/HashMap$Node;)V" } : Jvm.MethodName) prog_57_method_10_code (7 : Nat) (Option.none : Option Jvm.ClassFile.FieldType)) ∈ lw_all := lw_g (lw_at lw_m5 6 rfl) rfl
theorem q1060 : (Jvm.Cond.selects "java/util/LinkedHashMap" ({ cls := "java/util/HashMap", name := "afterNodeInsertion", desc := "(Z)V" } : Jvm.MethodName) ({ cls := "java/util/LinkedHashMap", name := "afterNodeInsertion", desc := "(Z)V" } : Jvm.MethodName)) ∈ lw_all := lw_g (lw_at lw_m5 11 rfl) rfl
theorem q1061 : (Jvm.Cond.instanceMethod ({ cls := "java/util/LinkedHashMap", name := "afterNodeInsertion", desc := "(Z)V" } : Jvm.MethodName)) ∈ lw_all := lw_g (lw_at lw_m5 12 rfl) rfl
theorem q1062 : (Jvm.Cond.code ({ cls := "java/util/LinkedHashMap", name := "afterNodeInsertion", desc := "(Z)V" } : Jvm.MethodName) prog_57_method_9_code (4 : Nat) (Option.none : Option Jvm.ClassFile.FieldType)) ∈ lw_all := lw_g (lw_at lw_m5 13 rfl) rfl
theorem q1063 : (Jvm.Cond.methodLink "java/util/LinkedHashMap" (53 : Nat) ({ cls := "java/util/LinkedHashMap", name := "removeEldestEntry", desc := "(Ljava/util/Map$Entry;)Z" } : Jvm.MethodName)) ∈ lw_all := lw_g (lw_at lw_m5 14 rfl) rfl
theorem q1064 : (Jvm.Cond.instanceMethod ({ cls := "java/util/LinkedHashMap", name := "removeEldestEntry", desc := "(Ljava/util/Map$Entry;)Z" } : Jvm.MethodName)) ∈ lw_all := lw_g (lw_at lw_m5 15 rfl) rfl
theorem q1065 : (Jvm.Cond.selects "java/util/LinkedHashMap" ({ cls := "java/util/LinkedHashMap", name := "removeEldestEntry", desc := "(Ljava/util/Map$Entry;)Z" } : Jvm.MethodName) ({ cls := "java/util/LinkedHashMap", name := "removeEldestEntry", desc := "(Ljava/util/Map$Entry;)Z" } : Jvm.MethodName)) ∈ lw_all := lw_g (lw_at lw_m5 16 rfl) rfl
theorem q1066 : (Jvm.Cond.code ({ cls := "java/util/LinkedHashMap", name := "removeEldestEntry", desc := "(Ljava/util/Map$Entry;)Z" } : Jvm.MethodName) prog_57_method_23_code (2 : Nat) (Option.some Jvm.ClassFile.FieldType.boolean)) ∈ lw_all := lw_g (lw_at lw_m5 17 rfl) rfl
theorem q1069 : (Jvm.Cond.sameMethod "java/util/LinkedHashMap" "java/util/HashMap" "containsKey" "(Ljava/lang/Object;)Z") ∈ lw_all := lw_g (lw_at lw_m5 20 rfl) rfl
theorem q1071 : (Jvm.Cond.selects "java/util/LinkedHashMap" ({ cls := "java/util/LinkedHashMap", name := "containsKey", desc := "(Ljava/lang/Object;)Z" } : Jvm.MethodName) ({ cls := "java/util/HashMap", name := "containsKey", desc := "(Ljava/lang/Object;)Z" } : Jvm.MethodName)) ∈ lw_all := lw_g (lw_at lw_m5 22 rfl) rfl
theorem q1077 : (Jvm.Cond.selects "java/util/LinkedHashMap" ({ cls := "java/util/HashMap", name := "getNode", desc := "(Ljava/lang/Object;)Ljava/util/HashMap$Node;" } : Jvm.MethodName) ({ cls := "java/util/HashMap", name := "getNode", desc := "(Ljava/lang/Object;)Ljava/util/HashMap$Node;" } : Jvm.MethodName)) ∈ lw_all := lw_g (lw_at lw_m5 28 rfl) rfl
theorem q1127 : (Jvm.Cond.instanceMethod ({ cls := "java/util/LinkedHashMap", name := "<init>", desc := "(IF)V" } : Jvm.MethodName)) ∈ lw_all := lw_g (lw_at lw_m5 78 rfl) rfl
theorem q1128 : (Jvm.Cond.code ({ cls := "java/util/LinkedHashMap", name := "<init>", desc := "(IF)V" } : Jvm.MethodName) prog_57_method_14_code (3 : Nat) (Option.none : Option Jvm.ClassFile.FieldType)) ∈ lw_all := lw_g (lw_at lw_m5 79 rfl) rfl
theorem q1129 : (Jvm.Cond.methodLink "java/util/LinkedHashMap" (81 : Nat) ({ cls := "java/util/HashMap", name := "<init>", desc := "(IF)V" } : Jvm.MethodName)) ∈ lw_all := lw_g (lw_at lw_m5 80 rfl) rfl
theorem q1148 : (Jvm.Cond.instanceMethod ({ cls := "java/util/LinkedHashMap", name := "get", desc := "(Ljava/lang/Object;)Ljava/lang/Object;" } : Jvm.MethodName)) ∈ lw_all := lw_g (lw_at lw_m5 99 rfl) rfl
theorem q1149 : (Jvm.Cond.selects "java/util/LinkedHashMap" ({ cls := "java/util/LinkedHashMap", name := "get", desc := "(Ljava/lang/Object;)Ljava/lang/Object;" } : Jvm.MethodName) ({ cls := "java/util/LinkedHashMap", name := "get", desc := "(Ljava/lang/Object;)Ljava/lang/Object;" } : Jvm.MethodName)) ∈ lw_all := lw_g (lw_at lw_m5 100 rfl) rfl
theorem q1150 : (Jvm.Cond.code ({ cls := "java/util/LinkedHashMap", name := "get", desc := "(Ljava/lang/Object;)Ljava/lang/Object;" } : Jvm.MethodName) prog_57_method_20_code (3 : Nat) (Option.some (Jvm.ClassFile.FieldType.object "java/lang/Object"))) ∈ lw_all := lw_g (lw_at lw_m5 101 rfl) rfl
theorem q1151 : (Jvm.Cond.methodLink "java/util/LinkedHashMap" (99 : Nat) ({ cls := "java/util/LinkedHashMap", name := "getNode", desc := "(Ljava/lang/Object;)Ljava/util/HashMap$Node;" } : Jvm.MethodName)) ∈ lw_all := lw_g (lw_at lw_m5 102 rfl) rfl
theorem q1152 : (Jvm.Cond.sameMethod "java/util/LinkedHashMap" "java/util/HashMap" "getNode" "(Ljava/lang/Object;)Ljava/util/HashMap$Node;") ∈ lw_all := lw_g (lw_at lw_m5 103 rfl) rfl
theorem q1154 : (Jvm.Cond.selects "java/util/LinkedHashMap" ({ cls := "java/util/LinkedHashMap", name := "getNode", desc := "(Ljava/lang/Object;)Ljava/util/HashMap$Node;" } : Jvm.MethodName) ({ cls := "java/util/HashMap", name := "getNode", desc := "(Ljava/lang/Object;)Ljava/util/HashMap$Node;" } : Jvm.MethodName)) ∈ lw_all := lw_g (lw_at lw_m5 105 rfl) rfl
theorem q1155 : (Jvm.Cond.methodLink "java/util/LinkedHashMap" (103 : Nat) ({ cls := "java/util/LinkedHashMap", name := "afterNodeAccess", desc := "(Ljava/util/HashMap$Node;)V" } : Jvm.MethodName)) ∈ lw_all := lw_g (lw_at lw_m5 106 rfl) rfl
theorem q1197 : (Jvm.Cond.selects "java/util/LinkedHashMap" ({ cls := "java/util/HashMap", name := "isEmpty", desc := "()Z" } : Jvm.MethodName) ({ cls := "java/util/HashMap", name := "isEmpty", desc := "()Z" } : Jvm.MethodName)) ∈ lw_all := lw_g (lw_at lw_m5 148 rfl) rfl
theorem q1352 : (Jvm.Cond.instanceMethod ({ cls := "java/util/LinkedHashMap", name := "keySet", desc := "()Ljava/util/Set;" } : Jvm.MethodName)) ∈ lw_all := lw_g (lw_at lw_m6 63 rfl) rfl
theorem q1353 : (Jvm.Cond.selects "java/util/LinkedHashMap" ({ cls := "java/util/LinkedHashMap", name := "keySet", desc := "()Ljava/util/Set;" } : Jvm.MethodName) ({ cls := "java/util/LinkedHashMap", name := "keySet", desc := "()Ljava/util/Set;" } : Jvm.MethodName)) ∈ lw_all := lw_g (lw_at lw_m6 64 rfl) rfl
theorem q1354 : (Jvm.Cond.code ({ cls := "java/util/LinkedHashMap", name := "keySet", desc := "()Ljava/util/Set;" } : Jvm.MethodName) prog_57_method_24_code (1 : Nat) (Option.some (Jvm.ClassFile.FieldType.object "java/util/Set"))) ∈ lw_all := lw_g (lw_at lw_m6 65 rfl) rfl
theorem q1355 : (Jvm.Cond.methodLink "java/util/LinkedHashMap" (113 : Nat) ({ cls := "java/util/LinkedHashMap", name := "sequencedKeySet", desc := "()Ljava/util/SequencedSet;" } : Jvm.MethodName)) ∈ lw_all := lw_g (lw_at lw_m6 66 rfl) rfl
theorem q1356 : (Jvm.Cond.instanceMethod ({ cls := "java/util/LinkedHashMap", name := "sequencedKeySet", desc := "()Ljava/util/SequencedSet;" } : Jvm.MethodName)) ∈ lw_all := lw_g (lw_at lw_m6 67 rfl) rfl
theorem q1357 : (Jvm.Cond.selects "java/util/LinkedHashMap" ({ cls := "java/util/LinkedHashMap", name := "sequencedKeySet", desc := "()Ljava/util/SequencedSet;" } : Jvm.MethodName) ({ cls := "java/util/LinkedHashMap", name := "sequencedKeySet", desc := "()Ljava/util/SequencedSet;" } : Jvm.MethodName)) ∈ lw_all := lw_g (lw_at lw_m6 68 rfl) rfl
theorem q1358 : (Jvm.Cond.code ({ cls := "java/util/LinkedHashMap", name := "sequencedKeySet", desc := "()Ljava/util/SequencedSet;" } : Jvm.MethodName) prog_57_method_25_code (3 : Nat) (Option.some (Jvm.ClassFile.FieldType.object "java/util/SequencedSet"))) ∈ lw_all := lw_g (lw_at lw_m6 69 rfl) rfl
theorem q1359 : (Jvm.Cond.classLink "java/util/LinkedHashMap" (121 : Nat) "java/util/LinkedHashMap$LinkedKeySet") ∈ lw_all := lw_g (lw_at lw_m6 70 rfl) rfl
theorem q1361 : (Jvm.Cond.methodLink "java/util/LinkedHashMap" (123 : Nat) ({ cls := "java/util/LinkedHashMap$LinkedKeySet", name := "<init>", desc := "(Ljava/util/LinkedHashMap;Z)V" } : Jvm.MethodName)) ∈ lw_all := lw_g (lw_at lw_m6 72 rfl) rfl
theorem q1372 : (Jvm.Cond.classLink "java/util/LinkedHashMap" (126 : Nat) "java/util/SequencedSet") ∈ lw_all := lw_g (lw_at lw_m6 83 rfl) rfl
theorem q1448 : (Jvm.Cond.selects "java/util/LinkedHashMap" ({ cls := "java/util/HashMap", name := "keySet", desc := "()Ljava/util/Set;" } : Jvm.MethodName) ({ cls := "java/util/LinkedHashMap", name := "keySet", desc := "()Ljava/util/Set;" } : Jvm.MethodName)) ∈ lw_all := lw_g (lw_at lw_m6 159 rfl) rfl
theorem q1461 : (Jvm.Cond.selects "java/util/LinkedHashMap" ({ cls := "java/util/HashMap", name := "size", desc := "()I" } : Jvm.MethodName) ({ cls := "java/util/HashMap", name := "size", desc := "()I" } : Jvm.MethodName)) ∈ lw_all := lw_g (lw_at lw_m6 172 rfl) rfl
theorem q2041 : (Jvm.Cond.sameMethod "java/util/LinkedHashMap" "java/util/HashMap" "size" "()I") ∈ lw_all := lw_g (lw_at lw_m9 32 rfl) rfl
theorem q2043 : (Jvm.Cond.selects "java/util/LinkedHashMap" ({ cls := "java/util/LinkedHashMap", name := "size", desc := "()I" } : Jvm.MethodName) ({ cls := "java/util/HashMap", name := "size", desc := "()I" } : Jvm.MethodName)) ∈ lw_all := lw_g (lw_at lw_m9 34 rfl) rfl
theorem q2440 : (Jvm.Cond.selects "java/util/LinkedHashMap" ({ cls := "java/util/LinkedHashMap", name := "afterNodeAccess", desc := "(Ljava/util/HashMap$Node;)V" } : Jvm.MethodName) ({ cls := "java/util/LinkedHashMap", name := "afterNodeAccess", desc := "(Ljava/util/HashMap$Node;)V" } : Jvm.MethodName)) ∈ lw_all := lw_g (lw_at lw_m10 191 rfl) rfl
theorem q2442 : (Jvm.Cond.selects "java/util/LinkedHashMap" ({ cls := "java/util/HashMap", name := "put", desc := "(Ljava/lang/Object;Ljava/lang/Object;)Ljava/lang/Object;" } : Jvm.MethodName) ({ cls := "java/util/HashMap", name := "put", desc := "(Ljava/lang/Object;Ljava/lang/Object;)Ljava/lang/Object;" } : Jvm.MethodName)) ∈ lw_all := lw_g (lw_at lw_m10 193 rfl) rfl
theorem q2462 : (Jvm.Cond.castable "java/util/LinkedHashMap" "java/lang/Object") ∈ lw_tbl := lw_at lw_m10 213 rfl
theorem in_J10 : ∀ w ∈ wsJ100, w ∈ lw_all := lw_in wsJ100 [462, 464, 466, 468, 470, 472, 474, 476, 454, 456, 458, 460] (by decide +kernel) (by decide +kernel)

/-! java/lang/Number -/
set_option maxRecDepth 100000
def RJ11 : String := "java/lang/Number"
abbrev cJ11_init : ByteArray := prog_31_method_1_code
def yJ11_init : MethodName := ⟨RJ11, "<init>", "()V"⟩
theorem dJ11_init_0 : decode cJ11_init 0 = .ok (.aload_n 0, 1) := by decide +kernel
theorem dJ11_init_1 : decode cJ11_init 1 = .ok (.invokespecial 1, 3) := by decide +kernel
theorem dJ11_init_4 : decode cJ11_init 4 = .ok (.return_, 1) := by decide +kernel
theorem q108 : (Jvm.Cond.initialized "java/lang/Number") ∈ lw_all := lw_g (lw_at lw_m1 19 rfl) rfl
theorem q1172 : (Jvm.Cond.instanceMethod ({ cls := "java/lang/Number", name := "<init>", desc := "()V" } : Jvm.MethodName)) ∈ lw_all := lw_g (lw_at lw_m5 123 rfl) rfl
theorem q1173 : (Jvm.Cond.code ({ cls := "java/lang/Number", name := "<init>", desc := "()V" } : Jvm.MethodName) prog_31_method_1_code (1 : Nat) (Option.none : Option Jvm.ClassFile.FieldType)) ∈ lw_all := lw_g (lw_at lw_m5 124 rfl) rfl
theorem q1174 : (Jvm.Cond.methodLink "java/lang/Number" (1 : Nat) ({ cls := "java/lang/Object", name := "<init>", desc := "()V" } : Jvm.MethodName)) ∈ lw_all := lw_g (lw_at lw_m5 125 rfl) rfl

/-! java/lang/Integer -/
set_option maxRecDepth 100000
def RJ12 : String := "java/lang/Integer"
def TJ12 : u_T := fun k => match k with
  | _ => ("java/lang/Integer", "value", "I", true)
def tyJ12 : Nat → FieldType := fun k => match k with
  | _ => .int
abbrev wsJ120 : List Cond := u_ws RJ12 TJ12 1
theorem nmJ12 : ∀ a, a < 1 → ∀ b, b < 1 → a ≠ b → (TJ12 a).2.1 ≠ (TJ12 b).2.1 := by decide +kernel
theorem tyJ12_ok : ∀ k, k < 1 → parseFieldDescriptor (TJ12 k).2.2.1 = some (tyJ12 k) := by decide +kernel
abbrev cJ12_hashCode : ByteArray := prog_26_method_32_code
def yJ12_hashCode : MethodName := ⟨RJ12, "hashCode", "()I"⟩
def dkwJ12_hashCode_0 : List UInt8 := [42, 180, 0, 205, 184, 0, 208, 172]
abbrev dktJ12_hashCode_0 : List UInt8 := dkwJ12_hashCode_0 ++ []
theorem dksJ12_hashCode_0 : cJ12_hashCode.data.toList.drop 0 = dktJ12_hashCode_0 := by decide +kernel
theorem dJ12_hashCode_0 : decode cJ12_hashCode 0 = .ok (.aload_n 0, 1) := dk_42 (dk_at dksJ12_hashCode_0 0 rfl rfl)
theorem dJ12_hashCode_1 : decode cJ12_hashCode 1 = .ok (.getfield 205, 3) := dk_180 0 205 (dk_at dksJ12_hashCode_0 1 rfl rfl)
theorem dJ12_hashCode_4 : decode cJ12_hashCode 4 = .ok (.invokestatic 208, 3) := dk_184 0 208 (dk_at dksJ12_hashCode_0 4 rfl rfl)
theorem dJ12_hashCode_7 : decode cJ12_hashCode 7 = .ok (.ireturn, 1) := dk_172 (dk_at dksJ12_hashCode_0 7 rfl rfl)
abbrev cJ12_hashCode_2 : ByteArray := prog_26_method_33_code
def yJ12_hashCode_2 : MethodName := ⟨RJ12, "hashCode", "(I)I"⟩
theorem dJ12_hashCode_2_0 : decode cJ12_hashCode_2 0 = .ok (.iload_n 0, 1) := by decide +kernel
theorem dJ12_hashCode_2_1 : decode cJ12_hashCode_2 1 = .ok (.ireturn, 1) := by decide +kernel
abbrev cJ12_compareTo : ByteArray := prog_26_method_63_code
def yJ12_compareTo : MethodName := ⟨RJ12, "compareTo", "(Ljava/lang/Object;)I"⟩
def dkwJ12_compareTo_0 : List UInt8 := [42, 43, 192, 0, 1, 182, 1, 28, 172]
abbrev dktJ12_compareTo_0 : List UInt8 := dkwJ12_compareTo_0 ++ []
theorem dksJ12_compareTo_0 : cJ12_compareTo.data.toList.drop 0 = dktJ12_compareTo_0 := by decide +kernel
theorem dJ12_compareTo_0 : decode cJ12_compareTo 0 = .ok (.aload_n 0, 1) := dk_42 (dk_at dksJ12_compareTo_0 0 rfl rfl)
theorem dJ12_compareTo_1 : decode cJ12_compareTo 1 = .ok (.aload_n 1, 1) := dk_43 (dk_at dksJ12_compareTo_0 1 rfl rfl)
theorem dJ12_compareTo_2 : decode cJ12_compareTo 2 = .ok (.checkcast 1, 3) := dk_192 0 1 (dk_at dksJ12_compareTo_0 2 rfl rfl)
theorem dJ12_compareTo_5 : decode cJ12_compareTo 5 = .ok (.invokevirtual 284, 3) := dk_182 1 28 (dk_at dksJ12_compareTo_0 5 rfl rfl)
theorem dJ12_compareTo_8 : decode cJ12_compareTo 8 = .ok (.ireturn, 1) := dk_172 (dk_at dksJ12_compareTo_0 8 rfl rfl)
abbrev cJ12_compareTo_2 : ByteArray := prog_26_method_39_code
def yJ12_compareTo_2 : MethodName := ⟨RJ12, "compareTo", "(Ljava/lang/Integer;)I"⟩
def dkwJ12_compareTo_2_0 : List UInt8 := [42, 180, 0, 205, 43, 180, 0, 205, 184, 1, 3, 172]
abbrev dktJ12_compareTo_2_0 : List UInt8 := dkwJ12_compareTo_2_0 ++ []
theorem dksJ12_compareTo_2_0 : cJ12_compareTo_2.data.toList.drop 0 = dktJ12_compareTo_2_0 := by decide +kernel
theorem dJ12_compareTo_2_0 : decode cJ12_compareTo_2 0 = .ok (.aload_n 0, 1) := dk_42 (dk_at dksJ12_compareTo_2_0 0 rfl rfl)
theorem dJ12_compareTo_2_1 : decode cJ12_compareTo_2 1 = .ok (.getfield 205, 3) := dk_180 0 205 (dk_at dksJ12_compareTo_2_0 1 rfl rfl)
theorem dJ12_compareTo_2_4 : decode cJ12_compareTo_2 4 = .ok (.aload_n 1, 1) := dk_43 (dk_at dksJ12_compareTo_2_0 4 rfl rfl)
theorem dJ12_compareTo_2_5 : decode cJ12_compareTo_2 5 = .ok (.getfield 205, 3) := dk_180 0 205 (dk_at dksJ12_compareTo_2_0 5 rfl rfl)
theorem dJ12_compareTo_2_8 : decode cJ12_compareTo_2 8 = .ok (.invokestatic 259, 3) := dk_184 1 3 (dk_at dksJ12_compareTo_2_0 8 rfl rfl)
theorem dJ12_compareTo_2_11 : decode cJ12_compareTo_2 11 = .ok (.ireturn, 1) := dk_172 (dk_at dksJ12_compareTo_2_0 11 rfl rfl)
abbrev cJ12_compare : ByteArray := prog_26_method_40_code
def yJ12_compare : MethodName := ⟨RJ12, "compare", "(II)I"⟩
def dkwJ12_compare_0 : List UInt8 := [26, 27, 162, 0, 7, 2, 167, 0, 13, 26, 27, 160, 0, 7, 3, 167, 0, 4, 4, 172]
abbrev dktJ12_compare_0 : List UInt8 := dkwJ12_compare_0 ++ []
theorem dksJ12_compare_0 : cJ12_compare.data.toList.drop 0 = dktJ12_compare_0 := by decide +kernel
theorem dJ12_compare_0 : decode cJ12_compare 0 = .ok (.iload_n 0, 1) := dk_26 (dk_at dksJ12_compare_0 0 rfl rfl)
theorem dJ12_compare_1 : decode cJ12_compare 1 = .ok (.iload_n 1, 1) := dk_27 (dk_at dksJ12_compare_0 1 rfl rfl)
theorem dJ12_compare_2 : decode cJ12_compare 2 = .ok (.if_icmp .ge 7, 3) := dk_162 0 7 (dk_at dksJ12_compare_0 2 rfl rfl)
theorem dJ12_compare_5 : decode cJ12_compare 5 = .ok (.iconst (-1), 1) := dk_2 (dk_at dksJ12_compare_0 5 rfl rfl)
theorem dJ12_compare_6 : decode cJ12_compare 6 = .ok (.goto 13, 3) := dk_167 0 13 (dk_at dksJ12_compare_0 6 rfl rfl)
theorem dJ12_compare_9 : decode cJ12_compare 9 = .ok (.iload_n 0, 1) := dk_26 (dk_at dksJ12_compare_0 9 rfl rfl)
theorem dJ12_compare_10 : decode cJ12_compare 10 = .ok (.iload_n 1, 1) := dk_27 (dk_at dksJ12_compare_0 10 rfl rfl)
theorem dJ12_compare_11 : decode cJ12_compare 11 = .ok (.if_icmp .ne 7, 3) := dk_160 0 7 (dk_at dksJ12_compare_0 11 rfl rfl)
theorem dJ12_compare_14 : decode cJ12_compare 14 = .ok (.iconst 0, 1) := dk_3 (dk_at dksJ12_compare_0 14 rfl rfl)
theorem dJ12_compare_15 : decode cJ12_compare 15 = .ok (.goto 4, 3) := dk_167 0 4 (dk_at dksJ12_compare_0 15 rfl rfl)
theorem dJ12_compare_18 : decode cJ12_compare 18 = .ok (.iconst 1, 1) := dk_4 (dk_at dksJ12_compare_0 18 rfl rfl)
theorem dJ12_compare_19 : decode cJ12_compare 19 = .ok (.ireturn, 1) := dk_172 (dk_at dksJ12_compare_0 19 rfl rfl)
abbrev cJ12_numberOfLeadingZeros : ByteArray := prog_26_method_47_code
def yJ12_numberOfLeadingZeros : MethodName := ⟨RJ12, "numberOfLeadingZeros", "(I)I"⟩
def dkwJ12_numberOfLeadingZeros_3 : List UInt8 := [5, 124, 59, 27, 26, 4, 124, 100, 172]
abbrev dktJ12_numberOfLeadingZeros_3 : List UInt8 := dkwJ12_numberOfLeadingZeros_3 ++ []
def dkwJ12_numberOfLeadingZeros_2 : List UInt8 := [124, 59, 26, 16, 16, 161, 0, 10, 132, 1, 252, 26, 7, 124, 59, 26, 7, 161, 0, 10, 132, 1, 254, 26]
abbrev dktJ12_numberOfLeadingZeros_2 : List UInt8 := dkwJ12_numberOfLeadingZeros_2 ++ dktJ12_numberOfLeadingZeros_3
def dkwJ12_numberOfLeadingZeros_1 : List UInt8 := [161, 0, 11, 132, 1, 240, 26, 16, 16, 124, 59, 26, 17, 1, 0, 161, 0, 11, 132, 1, 248, 26, 16, 8]
abbrev dktJ12_numberOfLeadingZeros_1 : List UInt8 := dkwJ12_numberOfLeadingZeros_1 ++ dktJ12_numberOfLeadingZeros_2
def dkwJ12_numberOfLeadingZeros_0 : List UInt8 := [26, 157, 0, 14, 26, 154, 0, 8, 16, 32, 167, 0, 4, 3, 172, 16, 31, 60, 26, 19, 1, 8]
abbrev dktJ12_numberOfLeadingZeros_0 : List UInt8 := dkwJ12_numberOfLeadingZeros_0 ++ dktJ12_numberOfLeadingZeros_1
theorem dksJ12_numberOfLeadingZeros_0 : cJ12_numberOfLeadingZeros.data.toList.drop 0 = dktJ12_numberOfLeadingZeros_0 := by decide +kernel
theorem dksJ12_numberOfLeadingZeros_1 : cJ12_numberOfLeadingZeros.data.toList.drop 22 = dktJ12_numberOfLeadingZeros_1 := dk_seg dksJ12_numberOfLeadingZeros_0 22 rfl rfl
theorem dksJ12_numberOfLeadingZeros_2 : cJ12_numberOfLeadingZeros.data.toList.drop 46 = dktJ12_numberOfLeadingZeros_2 := dk_seg dksJ12_numberOfLeadingZeros_1 24 rfl rfl
theorem dksJ12_numberOfLeadingZeros_3 : cJ12_numberOfLeadingZeros.data.toList.drop 70 = dktJ12_numberOfLeadingZeros_3 := dk_seg dksJ12_numberOfLeadingZeros_2 24 rfl rfl
theorem dJ12_numberOfLeadingZeros_0 : decode cJ12_numberOfLeadingZeros 0 = .ok (.iload_n 0, 1) := dk_26 (dk_at dksJ12_numberOfLeadingZeros_0 0 rfl rfl)
theorem dJ12_numberOfLeadingZeros_1 : decode cJ12_numberOfLeadingZeros 1 = .ok (.ifCond .gt 14, 3) := dk_157 0 14 (dk_at dksJ12_numberOfLeadingZeros_0 1 rfl rfl)
theorem dJ12_numberOfLeadingZeros_4 : decode cJ12_numberOfLeadingZeros 4 = .ok (.iload_n 0, 1) := dk_26 (dk_at dksJ12_numberOfLeadingZeros_0 4 rfl rfl)
theorem dJ12_numberOfLeadingZeros_5 : decode cJ12_numberOfLeadingZeros 5 = .ok (.ifCond .ne 8, 3) := dk_154 0 8 (dk_at dksJ12_numberOfLeadingZeros_0 5 rfl rfl)
theorem dJ12_numberOfLeadingZeros_8 : decode cJ12_numberOfLeadingZeros 8 = .ok (.bipush 32, 2) := dk_16 32 (dk_at dksJ12_numberOfLeadingZeros_0 8 rfl rfl)
theorem dJ12_numberOfLeadingZeros_10 : decode cJ12_numberOfLeadingZeros 10 = .ok (.goto 4, 3) := dk_167 0 4 (dk_at dksJ12_numberOfLeadingZeros_0 10 rfl rfl)
theorem dJ12_numberOfLeadingZeros_13 : decode cJ12_numberOfLeadingZeros 13 = .ok (.iconst 0, 1) := dk_3 (dk_at dksJ12_numberOfLeadingZeros_0 13 rfl rfl)
theorem dJ12_numberOfLeadingZeros_14 : decode cJ12_numberOfLeadingZeros 14 = .ok (.ireturn, 1) := dk_172 (dk_at dksJ12_numberOfLeadingZeros_0 14 rfl rfl)
theorem dJ12_numberOfLeadingZeros_15 : decode cJ12_numberOfLeadingZeros 15 = .ok (.bipush 31, 2) := dk_16 31 (dk_at dksJ12_numberOfLeadingZeros_0 15 rfl rfl)
theorem dJ12_numberOfLeadingZeros_17 : decode cJ12_numberOfLeadingZeros 17 = .ok (.istore_n 1, 1) := dk_60 (dk_at dksJ12_numberOfLeadingZeros_0 17 rfl rfl)
theorem dJ12_numberOfLeadingZeros_18 : decode cJ12_numberOfLeadingZeros 18 = .ok (.iload_n 0, 1) := dk_26 (dk_at dksJ12_numberOfLeadingZeros_0 18 rfl rfl)
theorem dJ12_numberOfLeadingZeros_19 : decode cJ12_numberOfLeadingZeros 19 = .ok (.ldc_w 264, 3) := dk_19 1 8 (dk_at dksJ12_numberOfLeadingZeros_0 19 rfl rfl)
theorem dJ12_numberOfLeadingZeros_22 : decode cJ12_numberOfLeadingZeros 22 = .ok (.if_icmp .lt 11, 3) := dk_161 0 11 (dk_at dksJ12_numberOfLeadingZeros_1 0 rfl rfl)
theorem dJ12_numberOfLeadingZeros_25 : decode cJ12_numberOfLeadingZeros 25 = .ok (.iinc 1 (-16), 3) := dk_132 1 240 (dk_at dksJ12_numberOfLeadingZeros_1 3 rfl rfl)
theorem dJ12_numberOfLeadingZeros_28 : decode cJ12_numberOfLeadingZeros 28 = .ok (.iload_n 0, 1) := dk_26 (dk_at dksJ12_numberOfLeadingZeros_1 6 rfl rfl)
theorem dJ12_numberOfLeadingZeros_29 : decode cJ12_numberOfLeadingZeros 29 = .ok (.bipush 16, 2) := dk_16 16 (dk_at dksJ12_numberOfLeadingZeros_1 7 rfl rfl)
theorem dJ12_numberOfLeadingZeros_31 : decode cJ12_numberOfLeadingZeros 31 = .ok (.iushr, 1) := dk_124 (dk_at dksJ12_numberOfLeadingZeros_1 9 rfl rfl)
theorem dJ12_numberOfLeadingZeros_32 : decode cJ12_numberOfLeadingZeros 32 = .ok (.istore_n 0, 1) := dk_59 (dk_at dksJ12_numberOfLeadingZeros_1 10 rfl rfl)
theorem dJ12_numberOfLeadingZeros_33 : decode cJ12_numberOfLeadingZeros 33 = .ok (.iload_n 0, 1) := dk_26 (dk_at dksJ12_numberOfLeadingZeros_1 11 rfl rfl)
theorem dJ12_numberOfLeadingZeros_34 : decode cJ12_numberOfLeadingZeros 34 = .ok (.sipush 256, 3) := dk_17 1 0 (dk_at dksJ12_numberOfLeadingZeros_1 12 rfl rfl)
theorem dJ12_numberOfLeadingZeros_37 : decode cJ12_numberOfLeadingZeros 37 = .ok (.if_icmp .lt 11, 3) := dk_161 0 11 (dk_at dksJ12_numberOfLeadingZeros_1 15 rfl rfl)
theorem dJ12_numberOfLeadingZeros_40 : decode cJ12_numberOfLeadingZeros 40 = .ok (.iinc 1 (-8), 3) := dk_132 1 248 (dk_at dksJ12_numberOfLeadingZeros_1 18 rfl rfl)
theorem dJ12_numberOfLeadingZeros_43 : decode cJ12_numberOfLeadingZeros 43 = .ok (.iload_n 0, 1) := dk_26 (dk_at dksJ12_numberOfLeadingZeros_1 21 rfl rfl)
theorem dJ12_numberOfLeadingZeros_44 : decode cJ12_numberOfLeadingZeros 44 = .ok (.bipush 8, 2) := dk_16 8 (dk_at dksJ12_numberOfLeadingZeros_1 22 rfl rfl)
theorem dJ12_numberOfLeadingZeros_46 : decode cJ12_numberOfLeadingZeros 46 = .ok (.iushr, 1) := dk_124 (dk_at dksJ12_numberOfLeadingZeros_2 0 rfl rfl)
theorem dJ12_numberOfLeadingZeros_47 : decode cJ12_numberOfLeadingZeros 47 = .ok (.istore_n 0, 1) := dk_59 (dk_at dksJ12_numberOfLeadingZeros_2 1 rfl rfl)
theorem dJ12_numberOfLeadingZeros_48 : decode cJ12_numberOfLeadingZeros 48 = .ok (.iload_n 0, 1) := dk_26 (dk_at dksJ12_numberOfLeadingZeros_2 2 rfl rfl)
theorem dJ12_numberOfLeadingZeros_49 : decode cJ12_numberOfLeadingZeros 49 = .ok (.bipush 16, 2) := dk_16 16 (dk_at dksJ12_numberOfLeadingZeros_2 3 rfl rfl)
theorem dJ12_numberOfLeadingZeros_51 : decode cJ12_numberOfLeadingZeros 51 = .ok (.if_icmp .lt 10, 3) := dk_161 0 10 (dk_at dksJ12_numberOfLeadingZeros_2 5 rfl rfl)
theorem dJ12_numberOfLeadingZeros_54 : decode cJ12_numberOfLeadingZeros 54 = .ok (.iinc 1 (-4), 3) := dk_132 1 252 (dk_at dksJ12_numberOfLeadingZeros_2 8 rfl rfl)
theorem dJ12_numberOfLeadingZeros_57 : decode cJ12_numberOfLeadingZeros 57 = .ok (.iload_n 0, 1) := dk_26 (dk_at dksJ12_numberOfLeadingZeros_2 11 rfl rfl)
theorem dJ12_numberOfLeadingZeros_58 : decode cJ12_numberOfLeadingZeros 58 = .ok (.iconst 4, 1) := dk_7 (dk_at dksJ12_numberOfLeadingZeros_2 12 rfl rfl)
theorem dJ12_numberOfLeadingZeros_59 : decode cJ12_numberOfLeadingZeros 59 = .ok (.iushr, 1) := dk_124 (dk_at dksJ12_numberOfLeadingZeros_2 13 rfl rfl)
theorem dJ12_numberOfLeadingZeros_60 : decode cJ12_numberOfLeadingZeros 60 = .ok (.istore_n 0, 1) := dk_59 (dk_at dksJ12_numberOfLeadingZeros_2 14 rfl rfl)
theorem dJ12_numberOfLeadingZeros_61 : decode cJ12_numberOfLeadingZeros 61 = .ok (.iload_n 0, 1) := dk_26 (dk_at dksJ12_numberOfLeadingZeros_2 15 rfl rfl)
theorem dJ12_numberOfLeadingZeros_62 : decode cJ12_numberOfLeadingZeros 62 = .ok (.iconst 4, 1) := dk_7 (dk_at dksJ12_numberOfLeadingZeros_2 16 rfl rfl)
theorem dJ12_numberOfLeadingZeros_63 : decode cJ12_numberOfLeadingZeros 63 = .ok (.if_icmp .lt 10, 3) := dk_161 0 10 (dk_at dksJ12_numberOfLeadingZeros_2 17 rfl rfl)
theorem dJ12_numberOfLeadingZeros_66 : decode cJ12_numberOfLeadingZeros 66 = .ok (.iinc 1 (-2), 3) := dk_132 1 254 (dk_at dksJ12_numberOfLeadingZeros_2 20 rfl rfl)
theorem dJ12_numberOfLeadingZeros_69 : decode cJ12_numberOfLeadingZeros 69 = .ok (.iload_n 0, 1) := dk_26 (dk_at dksJ12_numberOfLeadingZeros_2 23 rfl rfl)
theorem dJ12_numberOfLeadingZeros_70 : decode cJ12_numberOfLeadingZeros 70 = .ok (.iconst 2, 1) := dk_5 (dk_at dksJ12_numberOfLeadingZeros_3 0 rfl rfl)
theorem dJ12_numberOfLeadingZeros_71 : decode cJ12_numberOfLeadingZeros 71 = .ok (.iushr, 1) := dk_124 (dk_at dksJ12_numberOfLeadingZeros_3 1 rfl rfl)
theorem dJ12_numberOfLeadingZeros_72 : decode cJ12_numberOfLeadingZeros 72 = .ok (.istore_n 0, 1) := dk_59 (dk_at dksJ12_numberOfLeadingZeros_3 2 rfl rfl)
theorem dJ12_numberOfLeadingZeros_73 : decode cJ12_numberOfLeadingZeros 73 = .ok (.iload_n 1, 1) := dk_27 (dk_at dksJ12_numberOfLeadingZeros_3 3 rfl rfl)
theorem dJ12_numberOfLeadingZeros_74 : decode cJ12_numberOfLeadingZeros 74 = .ok (.iload_n 0, 1) := dk_26 (dk_at dksJ12_numberOfLeadingZeros_3 4 rfl rfl)
theorem dJ12_numberOfLeadingZeros_75 : decode cJ12_numberOfLeadingZeros 75 = .ok (.iconst 1, 1) := dk_4 (dk_at dksJ12_numberOfLeadingZeros_3 5 rfl rfl)
theorem dJ12_numberOfLeadingZeros_76 : decode cJ12_numberOfLeadingZeros 76 = .ok (.iushr, 1) := dk_124 (dk_at dksJ12_numberOfLeadingZeros_3 6 rfl rfl)
theorem dJ12_numberOfLeadingZeros_77 : decode cJ12_numberOfLeadingZeros 77 = .ok (.isub, 1) := dk_100 (dk_at dksJ12_numberOfLeadingZeros_3 7 rfl rfl)
theorem dJ12_numberOfLeadingZeros_78 : decode cJ12_numberOfLeadingZeros 78 = .ok (.ireturn, 1) := dk_172 (dk_at dksJ12_numberOfLeadingZeros_3 8 rfl rfl)
abbrev cJ12_numberOfTrailingZeros : ByteArray := prog_26_method_48_code
def yJ12_numberOfTrailingZeros : MethodName := ⟨RJ12, "numberOfTrailingZeros", "(I)I"⟩
def dkwJ12_numberOfTrailingZeros_3 : List UInt8 := [5, 124, 59, 27, 26, 4, 124, 96, 172]
abbrev dktJ12_numberOfTrailingZeros_3 : List UInt8 := dkwJ12_numberOfTrailingZeros_3 ++ []
def dkwJ12_numberOfTrailingZeros_2 : List UInt8 := [124, 59, 26, 16, 16, 164, 0, 10, 132, 1, 4, 26, 7, 124, 59, 26, 7, 164, 0, 10, 132, 1, 2, 26]
abbrev dktJ12_numberOfTrailingZeros_2 : List UInt8 := dkwJ12_numberOfTrailingZeros_2 ++ dktJ12_numberOfTrailingZeros_3
def dkwJ12_numberOfTrailingZeros_1 : List UInt8 := [164, 0, 11, 132, 1, 16, 26, 16, 16, 124, 59, 26, 17, 1, 0, 164, 0, 11, 132, 1, 8, 26, 16, 8]
abbrev dktJ12_numberOfTrailingZeros_1 : List UInt8 := dkwJ12_numberOfTrailingZeros_1 ++ dktJ12_numberOfTrailingZeros_2
def dkwJ12_numberOfTrailingZeros_0 : List UInt8 := [26, 2, 130, 26, 4, 100, 126, 59, 26, 157, 0, 8, 26, 16, 32, 126, 172, 4, 60, 26, 19, 1, 8]
abbrev dktJ12_numberOfTrailingZeros_0 : List UInt8 := dkwJ12_numberOfTrailingZeros_0 ++ dktJ12_numberOfTrailingZeros_1
theorem dksJ12_numberOfTrailingZeros_0 : cJ12_numberOfTrailingZeros.data.toList.drop 0 = dktJ12_numberOfTrailingZeros_0 := by decide +kernel
theorem dksJ12_numberOfTrailingZeros_1 : cJ12_numberOfTrailingZeros.data.toList.drop 23 = dktJ12_numberOfTrailingZeros_1 := dk_seg dksJ12_numberOfTrailingZeros_0 23 rfl rfl
theorem dksJ12_numberOfTrailingZeros_2 : cJ12_numberOfTrailingZeros.data.toList.drop 47 = dktJ12_numberOfTrailingZeros_2 := dk_seg dksJ12_numberOfTrailingZeros_1 24 rfl rfl
theorem dksJ12_numberOfTrailingZeros_3 : cJ12_numberOfTrailingZeros.data.toList.drop 71 = dktJ12_numberOfTrailingZeros_3 := dk_seg dksJ12_numberOfTrailingZeros_2 24 rfl rfl
theorem dJ12_numberOfTrailingZeros_0 : decode cJ12_numberOfTrailingZeros 0 = .ok (.iload_n 0, 1) := dk_26 (dk_at dksJ12_numberOfTrailingZeros_0 0 rfl rfl)
theorem dJ12_numberOfTrailingZeros_1 : decode cJ12_numberOfTrailingZeros 1 = .ok (.iconst (-1), 1) := dk_2 (dk_at dksJ12_numberOfTrailingZeros_0 1 rfl rfl)
theorem dJ12_numberOfTrailingZeros_2 : decode cJ12_numberOfTrailingZeros 2 = .ok (.ixor, 1) := dk_130 (dk_at dksJ12_numberOfTrailingZeros_0 2 rfl rfl)
theorem dJ12_numberOfTrailingZeros_3 : decode cJ12_numberOfTrailingZeros 3 = .ok (.iload_n 0, 1) := dk_26 (dk_at dksJ12_numberOfTrailingZeros_0 3 rfl rfl)
theorem dJ12_numberOfTrailingZeros_4 : decode cJ12_numberOfTrailingZeros 4 = .ok (.iconst 1, 1) := dk_4 (dk_at dksJ12_numberOfTrailingZeros_0 4 rfl rfl)
theorem dJ12_numberOfTrailingZeros_5 : decode cJ12_numberOfTrailingZeros 5 = .ok (.isub, 1) := dk_100 (dk_at dksJ12_numberOfTrailingZeros_0 5 rfl rfl)
theorem dJ12_numberOfTrailingZeros_6 : decode cJ12_numberOfTrailingZeros 6 = .ok (.iand, 1) := dk_126 (dk_at dksJ12_numberOfTrailingZeros_0 6 rfl rfl)
theorem dJ12_numberOfTrailingZeros_7 : decode cJ12_numberOfTrailingZeros 7 = .ok (.istore_n 0, 1) := dk_59 (dk_at dksJ12_numberOfTrailingZeros_0 7 rfl rfl)
theorem dJ12_numberOfTrailingZeros_8 : decode cJ12_numberOfTrailingZeros 8 = .ok (.iload_n 0, 1) := dk_26 (dk_at dksJ12_numberOfTrailingZeros_0 8 rfl rfl)
theorem dJ12_numberOfTrailingZeros_9 : decode cJ12_numberOfTrailingZeros 9 = .ok (.ifCond .gt 8, 3) := dk_157 0 8 (dk_at dksJ12_numberOfTrailingZeros_0 9 rfl rfl)
theorem dJ12_numberOfTrailingZeros_12 : decode cJ12_numberOfTrailingZeros 12 = .ok (.iload_n 0, 1) := dk_26 (dk_at dksJ12_numberOfTrailingZeros_0 12 rfl rfl)
theorem dJ12_numberOfTrailingZeros_13 : decode cJ12_numberOfTrailingZeros 13 = .ok (.bipush 32, 2) := dk_16 32 (dk_at dksJ12_numberOfTrailingZeros_0 13 rfl rfl)
theorem dJ12_numberOfTrailingZeros_15 : decode cJ12_numberOfTrailingZeros 15 = .ok (.iand, 1) := dk_126 (dk_at dksJ12_numberOfTrailingZeros_0 15 rfl rfl)
theorem dJ12_numberOfTrailingZeros_16 : decode cJ12_numberOfTrailingZeros 16 = .ok (.ireturn, 1) := dk_172 (dk_at dksJ12_numberOfTrailingZeros_0 16 rfl rfl)
theorem dJ12_numberOfTrailingZeros_17 : decode cJ12_numberOfTrailingZeros 17 = .ok (.iconst 1, 1) := dk_4 (dk_at dksJ12_numberOfTrailingZeros_0 17 rfl rfl)
theorem dJ12_numberOfTrailingZeros_18 : decode cJ12_numberOfTrailingZeros 18 = .ok (.istore_n 1, 1) := dk_60 (dk_at dksJ12_numberOfTrailingZeros_0 18 rfl rfl)
theorem dJ12_numberOfTrailingZeros_19 : decode cJ12_numberOfTrailingZeros 19 = .ok (.iload_n 0, 1) := dk_26 (dk_at dksJ12_numberOfTrailingZeros_0 19 rfl rfl)
theorem dJ12_numberOfTrailingZeros_20 : decode cJ12_numberOfTrailingZeros 20 = .ok (.ldc_w 264, 3) := dk_19 1 8 (dk_at dksJ12_numberOfTrailingZeros_0 20 rfl rfl)
theorem dJ12_numberOfTrailingZeros_23 : decode cJ12_numberOfTrailingZeros 23 = .ok (.if_icmp .le 11, 3) := dk_164 0 11 (dk_at dksJ12_numberOfTrailingZeros_1 0 rfl rfl)
theorem dJ12_numberOfTrailingZeros_26 : decode cJ12_numberOfTrailingZeros 26 = .ok (.iinc 1 16, 3) := dk_132 1 16 (dk_at dksJ12_numberOfTrailingZeros_1 3 rfl rfl)
theorem dJ12_numberOfTrailingZeros_29 : decode cJ12_numberOfTrailingZeros 29 = .ok (.iload_n 0, 1) := dk_26 (dk_at dksJ12_numberOfTrailingZeros_1 6 rfl rfl)
theorem dJ12_numberOfTrailingZeros_30 : decode cJ12_numberOfTrailingZeros 30 = .ok (.bipush 16, 2) := dk_16 16 (dk_at dksJ12_numberOfTrailingZeros_1 7 rfl rfl)
theorem dJ12_numberOfTrailingZeros_32 : decode cJ12_numberOfTrailingZeros 32 = .ok (.iushr, 1) := dk_124 (dk_at dksJ12_numberOfTrailingZeros_1 9 rfl rfl)
theorem dJ12_numberOfTrailingZeros_33 : decode cJ12_numberOfTrailingZeros 33 = .ok (.istore_n 0, 1) := dk_59 (dk_at dksJ12_numberOfTrailingZeros_1 10 rfl rfl)
theorem dJ12_numberOfTrailingZeros_34 : decode cJ12_numberOfTrailingZeros 34 = .ok (.iload_n 0, 1) := dk_26 (dk_at dksJ12_numberOfTrailingZeros_1 11 rfl rfl)
theorem dJ12_numberOfTrailingZeros_35 : decode cJ12_numberOfTrailingZeros 35 = .ok (.sipush 256, 3) := dk_17 1 0 (dk_at dksJ12_numberOfTrailingZeros_1 12 rfl rfl)
theorem dJ12_numberOfTrailingZeros_38 : decode cJ12_numberOfTrailingZeros 38 = .ok (.if_icmp .le 11, 3) := dk_164 0 11 (dk_at dksJ12_numberOfTrailingZeros_1 15 rfl rfl)
theorem dJ12_numberOfTrailingZeros_41 : decode cJ12_numberOfTrailingZeros 41 = .ok (.iinc 1 8, 3) := dk_132 1 8 (dk_at dksJ12_numberOfTrailingZeros_1 18 rfl rfl)
theorem dJ12_numberOfTrailingZeros_44 : decode cJ12_numberOfTrailingZeros 44 = .ok (.iload_n 0, 1) := dk_26 (dk_at dksJ12_numberOfTrailingZeros_1 21 rfl rfl)
theorem dJ12_numberOfTrailingZeros_45 : decode cJ12_numberOfTrailingZeros 45 = .ok (.bipush 8, 2) := dk_16 8 (dk_at dksJ12_numberOfTrailingZeros_1 22 rfl rfl)
theorem dJ12_numberOfTrailingZeros_47 : decode cJ12_numberOfTrailingZeros 47 = .ok (.iushr, 1) := dk_124 (dk_at dksJ12_numberOfTrailingZeros_2 0 rfl rfl)
theorem dJ12_numberOfTrailingZeros_48 : decode cJ12_numberOfTrailingZeros 48 = .ok (.istore_n 0, 1) := dk_59 (dk_at dksJ12_numberOfTrailingZeros_2 1 rfl rfl)
theorem dJ12_numberOfTrailingZeros_49 : decode cJ12_numberOfTrailingZeros 49 = .ok (.iload_n 0, 1) := dk_26 (dk_at dksJ12_numberOfTrailingZeros_2 2 rfl rfl)
theorem dJ12_numberOfTrailingZeros_50 : decode cJ12_numberOfTrailingZeros 50 = .ok (.bipush 16, 2) := dk_16 16 (dk_at dksJ12_numberOfTrailingZeros_2 3 rfl rfl)
theorem dJ12_numberOfTrailingZeros_52 : decode cJ12_numberOfTrailingZeros 52 = .ok (.if_icmp .le 10, 3) := dk_164 0 10 (dk_at dksJ12_numberOfTrailingZeros_2 5 rfl rfl)
theorem dJ12_numberOfTrailingZeros_55 : decode cJ12_numberOfTrailingZeros 55 = .ok (.iinc 1 4, 3) := dk_132 1 4 (dk_at dksJ12_numberOfTrailingZeros_2 8 rfl rfl)
theorem dJ12_numberOfTrailingZeros_58 : decode cJ12_numberOfTrailingZeros 58 = .ok (.iload_n 0, 1) := dk_26 (dk_at dksJ12_numberOfTrailingZeros_2 11 rfl rfl)
theorem dJ12_numberOfTrailingZeros_59 : decode cJ12_numberOfTrailingZeros 59 = .ok (.iconst 4, 1) := dk_7 (dk_at dksJ12_numberOfTrailingZeros_2 12 rfl rfl)
theorem dJ12_numberOfTrailingZeros_60 : decode cJ12_numberOfTrailingZeros 60 = .ok (.iushr, 1) := dk_124 (dk_at dksJ12_numberOfTrailingZeros_2 13 rfl rfl)
theorem dJ12_numberOfTrailingZeros_61 : decode cJ12_numberOfTrailingZeros 61 = .ok (.istore_n 0, 1) := dk_59 (dk_at dksJ12_numberOfTrailingZeros_2 14 rfl rfl)
theorem dJ12_numberOfTrailingZeros_62 : decode cJ12_numberOfTrailingZeros 62 = .ok (.iload_n 0, 1) := dk_26 (dk_at dksJ12_numberOfTrailingZeros_2 15 rfl rfl)
theorem dJ12_numberOfTrailingZeros_63 : decode cJ12_numberOfTrailingZeros 63 = .ok (.iconst 4, 1) := dk_7 (dk_at dksJ12_numberOfTrailingZeros_2 16 rfl rfl)
theorem dJ12_numberOfTrailingZeros_64 : decode cJ12_numberOfTrailingZeros 64 = .ok (.if_icmp .le 10, 3) := dk_164 0 10 (dk_at dksJ12_numberOfTrailingZeros_2 17 rfl rfl)
theorem dJ12_numberOfTrailingZeros_67 : decode cJ12_numberOfTrailingZeros 67 = .ok (.iinc 1 2, 3) := dk_132 1 2 (dk_at dksJ12_numberOfTrailingZeros_2 20 rfl rfl)
theorem dJ12_numberOfTrailingZeros_70 : decode cJ12_numberOfTrailingZeros 70 = .ok (.iload_n 0, 1) := dk_26 (dk_at dksJ12_numberOfTrailingZeros_2 23 rfl rfl)
theorem dJ12_numberOfTrailingZeros_71 : decode cJ12_numberOfTrailingZeros 71 = .ok (.iconst 2, 1) := dk_5 (dk_at dksJ12_numberOfTrailingZeros_3 0 rfl rfl)
theorem dJ12_numberOfTrailingZeros_72 : decode cJ12_numberOfTrailingZeros 72 = .ok (.iushr, 1) := dk_124 (dk_at dksJ12_numberOfTrailingZeros_3 1 rfl rfl)
theorem dJ12_numberOfTrailingZeros_73 : decode cJ12_numberOfTrailingZeros 73 = .ok (.istore_n 0, 1) := dk_59 (dk_at dksJ12_numberOfTrailingZeros_3 2 rfl rfl)
theorem dJ12_numberOfTrailingZeros_74 : decode cJ12_numberOfTrailingZeros 74 = .ok (.iload_n 1, 1) := dk_27 (dk_at dksJ12_numberOfTrailingZeros_3 3 rfl rfl)
theorem dJ12_numberOfTrailingZeros_75 : decode cJ12_numberOfTrailingZeros 75 = .ok (.iload_n 0, 1) := dk_26 (dk_at dksJ12_numberOfTrailingZeros_3 4 rfl rfl)
theorem dJ12_numberOfTrailingZeros_76 : decode cJ12_numberOfTrailingZeros 76 = .ok (.iconst 1, 1) := dk_4 (dk_at dksJ12_numberOfTrailingZeros_3 5 rfl rfl)
theorem dJ12_numberOfTrailingZeros_77 : decode cJ12_numberOfTrailingZeros 77 = .ok (.iushr, 1) := dk_124 (dk_at dksJ12_numberOfTrailingZeros_3 6 rfl rfl)
theorem dJ12_numberOfTrailingZeros_78 : decode cJ12_numberOfTrailingZeros 78 = .ok (.iadd, 1) := dk_96 (dk_at dksJ12_numberOfTrailingZeros_3 7 rfl rfl)
theorem dJ12_numberOfTrailingZeros_79 : decode cJ12_numberOfTrailingZeros 79 = .ok (.ireturn, 1) := dk_172 (dk_at dksJ12_numberOfTrailingZeros_3 8 rfl rfl)
abbrev cJ12_equals : ByteArray := prog_26_method_34_code
def yJ12_equals : MethodName := ⟨RJ12, "equals", "(Ljava/lang/Object;)Z"⟩
def dkwJ12_equals_1 : List UInt8 := [167, 0, 4, 3, 172, 3, 172]
abbrev dktJ12_equals_1 : List UInt8 := dkwJ12_equals_1 ++ []
def dkwJ12_equals_0 : List UInt8 := [43, 193, 0, 1, 153, 0, 23, 42, 180, 0, 205, 43, 192, 0, 1, 182, 0, 211, 160, 0, 7, 4]
abbrev dktJ12_equals_0 : List UInt8 := dkwJ12_equals_0 ++ dktJ12_equals_1
theorem dksJ12_equals_0 : cJ12_equals.data.toList.drop 0 = dktJ12_equals_0 := by decide +kernel
theorem dksJ12_equals_1 : cJ12_equals.data.toList.drop 22 = dktJ12_equals_1 := dk_seg dksJ12_equals_0 22 rfl rfl
theorem dJ12_equals_0 : decode cJ12_equals 0 = .ok (.aload_n 1, 1) := dk_43 (dk_at dksJ12_equals_0 0 rfl rfl)
theorem dJ12_equals_1 : decode cJ12_equals 1 = .ok (.instanceof 1, 3) := dk_193 0 1 (dk_at dksJ12_equals_0 1 rfl rfl)
theorem dJ12_equals_4 : decode cJ12_equals 4 = .ok (.ifCond .eq 23, 3) := dk_153 0 23 (dk_at dksJ12_equals_0 4 rfl rfl)
theorem dJ12_equals_7 : decode cJ12_equals 7 = .ok (.aload_n 0, 1) := dk_42 (dk_at dksJ12_equals_0 7 rfl rfl)
theorem dJ12_equals_8 : decode cJ12_equals 8 = .ok (.getfield 205, 3) := dk_180 0 205 (dk_at dksJ12_equals_0 8 rfl rfl)
theorem dJ12_equals_11 : decode cJ12_equals 11 = .ok (.aload_n 1, 1) := dk_43 (dk_at dksJ12_equals_0 11 rfl rfl)
theorem dJ12_equals_12 : decode cJ12_equals 12 = .ok (.checkcast 1, 3) := dk_192 0 1 (dk_at dksJ12_equals_0 12 rfl rfl)
theorem dJ12_equals_15 : decode cJ12_equals 15 = .ok (.invokevirtual 211, 3) := dk_182 0 211 (dk_at dksJ12_equals_0 15 rfl rfl)
theorem dJ12_equals_18 : decode cJ12_equals 18 = .ok (.if_icmp .ne 7, 3) := dk_160 0 7 (dk_at dksJ12_equals_0 18 rfl rfl)
theorem dJ12_equals_21 : decode cJ12_equals 21 = .ok (.iconst 1, 1) := dk_4 (dk_at dksJ12_equals_0 21 rfl rfl)
theorem dJ12_equals_22 : decode cJ12_equals 22 = .ok (.goto 4, 3) := dk_167 0 4 (dk_at dksJ12_equals_1 0 rfl rfl)
theorem dJ12_equals_25 : decode cJ12_equals 25 = .ok (.iconst 0, 1) := dk_3 (dk_at dksJ12_equals_1 3 rfl rfl)
theorem dJ12_equals_26 : decode cJ12_equals 26 = .ok (.ireturn, 1) := dk_172 (dk_at dksJ12_equals_1 4 rfl rfl)
theorem dJ12_equals_27 : decode cJ12_equals 27 = .ok (.iconst 0, 1) := dk_3 (dk_at dksJ12_equals_1 5 rfl rfl)
theorem dJ12_equals_28 : decode cJ12_equals 28 = .ok (.ireturn, 1) := dk_172 (dk_at dksJ12_equals_1 6 rfl rfl)
abbrev cJ12_intValue : ByteArray := prog_26_method_27_code
def yJ12_intValue : MethodName := ⟨RJ12, "intValue", "()I"⟩
theorem dJ12_intValue_0 : decode cJ12_intValue 0 = .ok (.aload_n 0, 1) := by decide +kernel
theorem dJ12_intValue_1 : decode cJ12_intValue 1 = .ok (.getfield 205, 3) := by decide +kernel
theorem dJ12_intValue_4 : decode cJ12_intValue 4 = .ok (.ireturn, 1) := by decide +kernel
abbrev cJ12_valueOf : ByteArray := prog_26_method_22_code
def yJ12_valueOf : MethodName := ⟨RJ12, "valueOf", "(I)Ljava/lang/Integer;"⟩
def dkwJ12_valueOf_1 : List UInt8 := [187, 0, 1, 89, 26, 183, 0, 199, 176]
abbrev dktJ12_valueOf_1 : List UInt8 := dkwJ12_valueOf_1 ++ []
def dkwJ12_valueOf_0 : List UInt8 := [26, 16, 128, 161, 0, 20, 26, 178, 0, 191, 163, 0, 13, 178, 0, 195, 26, 17, 0, 128, 96, 50, 176]
abbrev dktJ12_valueOf_0 : List UInt8 := dkwJ12_valueOf_0 ++ dktJ12_valueOf_1
theorem dksJ12_valueOf_0 : cJ12_valueOf.data.toList.drop 0 = dktJ12_valueOf_0 := by decide +kernel
theorem dksJ12_valueOf_1 : cJ12_valueOf.data.toList.drop 23 = dktJ12_valueOf_1 := dk_seg dksJ12_valueOf_0 23 rfl rfl
theorem dJ12_valueOf_0 : decode cJ12_valueOf 0 = .ok (.iload_n 0, 1) := dk_26 (dk_at dksJ12_valueOf_0 0 rfl rfl)
theorem dJ12_valueOf_1 : decode cJ12_valueOf 1 = .ok (.bipush (-128), 2) := dk_16 128 (dk_at dksJ12_valueOf_0 1 rfl rfl)
theorem dJ12_valueOf_3 : decode cJ12_valueOf 3 = .ok (.if_icmp .lt 20, 3) := dk_161 0 20 (dk_at dksJ12_valueOf_0 3 rfl rfl)
theorem dJ12_valueOf_6 : decode cJ12_valueOf 6 = .ok (.iload_n 0, 1) := dk_26 (dk_at dksJ12_valueOf_0 6 rfl rfl)
theorem dJ12_valueOf_7 : decode cJ12_valueOf 7 = .ok (.getstatic 191, 3) := dk_178 0 191 (dk_at dksJ12_valueOf_0 7 rfl rfl)
theorem dJ12_valueOf_10 : decode cJ12_valueOf 10 = .ok (.if_icmp .gt 13, 3) := dk_163 0 13 (dk_at dksJ12_valueOf_0 10 rfl rfl)
theorem dJ12_valueOf_13 : decode cJ12_valueOf 13 = .ok (.getstatic 195, 3) := dk_178 0 195 (dk_at dksJ12_valueOf_0 13 rfl rfl)
theorem dJ12_valueOf_16 : decode cJ12_valueOf 16 = .ok (.iload_n 0, 1) := dk_26 (dk_at dksJ12_valueOf_0 16 rfl rfl)
theorem dJ12_valueOf_17 : decode cJ12_valueOf 17 = .ok (.sipush 128, 3) := dk_17 0 128 (dk_at dksJ12_valueOf_0 17 rfl rfl)
theorem dJ12_valueOf_20 : decode cJ12_valueOf 20 = .ok (.iadd, 1) := dk_96 (dk_at dksJ12_valueOf_0 20 rfl rfl)
theorem dJ12_valueOf_21 : decode cJ12_valueOf 21 = .ok (.aaload, 1) := dk_50 (dk_at dksJ12_valueOf_0 21 rfl rfl)
theorem dJ12_valueOf_22 : decode cJ12_valueOf 22 = .ok (.areturn, 1) := dk_176 (dk_at dksJ12_valueOf_0 22 rfl rfl)
theorem dJ12_valueOf_23 : decode cJ12_valueOf 23 = .ok (.new 1, 3) := dk_187 0 1 (dk_at dksJ12_valueOf_1 0 rfl rfl)
theorem dJ12_valueOf_26 : decode cJ12_valueOf 26 = .ok (.dup, 1) := dk_89 (dk_at dksJ12_valueOf_1 3 rfl rfl)
theorem dJ12_valueOf_27 : decode cJ12_valueOf 27 = .ok (.iload_n 0, 1) := dk_26 (dk_at dksJ12_valueOf_1 4 rfl rfl)
theorem dJ12_valueOf_28 : decode cJ12_valueOf 28 = .ok (.invokespecial 199, 3) := dk_183 0 199 (dk_at dksJ12_valueOf_1 5 rfl rfl)
theorem dJ12_valueOf_31 : decode cJ12_valueOf 31 = .ok (.areturn, 1) := dk_176 (dk_at dksJ12_valueOf_1 8 rfl rfl)
abbrev cJ12_init : ByteArray := prog_26_method_23_code
def yJ12_init : MethodName := ⟨RJ12, "<init>", "(I)V"⟩
def dkwJ12_init_0 : List UInt8 := [42, 183, 0, 202, 42, 27, 181, 0, 205, 177]
abbrev dktJ12_init_0 : List UInt8 := dkwJ12_init_0 ++ []
theorem dksJ12_init_0 : cJ12_init.data.toList.drop 0 = dktJ12_init_0 := by decide +kernel
theorem dJ12_init_0 : decode cJ12_init 0 = .ok (.aload_n 0, 1) := dk_42 (dk_at dksJ12_init_0 0 rfl rfl)
theorem dJ12_init_1 : decode cJ12_init 1 = .ok (.invokespecial 202, 3) := dk_183 0 202 (dk_at dksJ12_init_0 1 rfl rfl)
theorem dJ12_init_4 : decode cJ12_init 4 = .ok (.aload_n 0, 1) := dk_42 (dk_at dksJ12_init_0 4 rfl rfl)
theorem dJ12_init_5 : decode cJ12_init 5 = .ok (.iload_n 1, 1) := dk_27 (dk_at dksJ12_init_0 5 rfl rfl)
theorem dJ12_init_6 : decode cJ12_init 6 = .ok (.putfield 205, 3) := dk_181 0 205 (dk_at dksJ12_init_0 6 rfl rfl)
theorem dJ12_init_9 : decode cJ12_init 9 = .ok (.return_, 1) := dk_177 (dk_at dksJ12_init_0 9 rfl rfl)
theorem q109 : (Jvm.Cond.initialized "java/lang/Integer") ∈ lw_all := lw_g (lw_at lw_m1 20 rfl) rfl
theorem q373 : (Jvm.Cond.selects "java/lang/Integer" ({ cls := "java/lang/Object", name := "getClass", desc := "()Ljava/lang/Class;" } : Jvm.MethodName) ({ cls := "java/lang/Object", name := "getClass", desc := "()Ljava/lang/Class;" } : Jvm.MethodName)) ∈ lw_all := lw_g (lw_at lw_m2 44 rfl) rfl
theorem q536 : (Jvm.Cond.selects "java/lang/Integer" ({ cls := "java/lang/Object", name := "hashCode", desc := "()I" } : Jvm.MethodName) ({ cls := "java/lang/Integer", name := "hashCode", desc := "()I" } : Jvm.MethodName)) ∈ lw_all := lw_g (lw_at lw_m2 207 rfl) rfl
theorem q537 : (Jvm.Cond.instanceMethod ({ cls := "java/lang/Integer", name := "hashCode", desc := "()I" } : Jvm.MethodName)) ∈ lw_all := lw_g (lw_at lw_m2 208 rfl) rfl
theorem q538 : (Jvm.Cond.code ({ cls := "java/lang/Integer", name := "hashCode", desc := "()I" } : Jvm.MethodName) prog_26_method_32_code (1 : Nat) (Option.some Jvm.ClassFile.FieldType.int)) ∈ lw_all := lw_g (lw_at lw_m2 209 rfl) rfl
theorem q539 : (Jvm.Cond.methodLink "java/lang/Integer" (208 : Nat) ({ cls := "java/lang/Integer", name := "hashCode", desc := "(I)I" } : Jvm.MethodName)) ∈ lw_all := lw_g (lw_at lw_m2 210 rfl) rfl
theorem q540 : (Jvm.Cond.static ({ cls := "java/lang/Integer", name := "hashCode", desc := "(I)I" } : Jvm.MethodName)) ∈ lw_all := lw_g (lw_at lw_m2 211 rfl) rfl
theorem q541 : (Jvm.Cond.code ({ cls := "java/lang/Integer", name := "hashCode", desc := "(I)I" } : Jvm.MethodName) prog_26_method_33_code (1 : Nat) (Option.some Jvm.ClassFile.FieldType.int)) ∈ lw_all := lw_g (lw_at lw_m2 212 rfl) rfl
theorem q716 : (Jvm.Cond.castable "java/lang/Integer" "java/lang/Comparable") ∈ lw_tbl := lw_at lw_m3 147 rfl
theorem q717 : (Jvm.Cond.selects "java/lang/Integer" ({ cls := "java/lang/Comparable", name := "compareTo", desc := "(Ljava/lang/Object;)I" } : Jvm.MethodName) ({ cls := "java/lang/Integer", name := "compareTo", desc := "(Ljava/lang/Object;)I" } : Jvm.MethodName)) ∈ lw_all := lw_g (lw_at lw_m3 148 rfl) rfl
theorem q718 : (Jvm.Cond.unhidden "java/lang/Integer" "compareTo" "(Ljava/lang/Object;)I") ∈ lw_tbl := lw_at lw_m3 149 rfl
theorem q719 : (Jvm.Cond.instanceMethod ({ cls := "java/lang/Integer", name := "compareTo", desc := "(Ljava/lang/Object;)I" } : Jvm.MethodName)) ∈ lw_all := lw_g (lw_at lw_m3 150 rfl) rfl
theorem q720 : (Jvm.Cond.publicMethod ({ cls := "java/lang/Integer", name := "compareTo", desc := "(Ljava/lang/Object;)I" } : Jvm.MethodName)) ∈ lw_tbl := lw_at lw_m3 151 rfl
theorem q721 : (Jvm.Cond.code ({ cls := "java/lang/Integer", name := "compareTo", desc := "(Ljava/lang/Object;)I" } : Jvm.MethodName) prog_26_method_63_code (2 : Nat) (Option.some Jvm.ClassFile.FieldType.int)) ∈ lw_all := lw_g (lw_at lw_m3 152 rfl) rfl
theorem q722 : (Jvm.Cond.classLink "java/lang/Integer" (1 : Nat) "java/lang/Integer") ∈ lw_all := lw_g (lw_at lw_m3 153 rfl) rfl
theorem q723 : (Jvm.Cond.methodLink "java/lang/Integer" (284 : Nat) ({ cls := "java/lang/Integer", name := "compareTo", desc := "(Ljava/lang/Integer;)I" } : Jvm.MethodName)) ∈ lw_all := lw_g (lw_at lw_m3 154 rfl) rfl
theorem q724 : (Jvm.Cond.instanceMethod ({ cls := "java/lang/Integer", name := "compareTo", desc := "(Ljava/lang/Integer;)I" } : Jvm.MethodName)) ∈ lw_all := lw_g (lw_at lw_m3 155 rfl) rfl
theorem q725 : (Jvm.Cond.selects "java/lang/Integer" ({ cls := "java/lang/Integer", name := "compareTo", desc := "(Ljava/lang/Integer;)I" } : Jvm.MethodName) ({ cls := "java/lang/Integer", name := "compareTo", desc := "(Ljava/lang/Integer;)I" } : Jvm.MethodName)) ∈ lw_all := lw_g (lw_at lw_m3 156 rfl) rfl
theorem q726 : (Jvm.Cond.code ({ cls := "java/lang/Integer", name := "compareTo", desc := "(Ljava/lang/Integer;)I" } : Jvm.MethodName) prog_26_method_39_code (2 : Nat) (Option.some Jvm.ClassFile.FieldType.int)) ∈ lw_all := lw_g (lw_at lw_m3 157 rfl) rfl
theorem q727 : (Jvm.Cond.methodLink "java/lang/Integer" (259 : Nat) ({ cls := "java/lang/Integer", name := "compare", desc := "(II)I" } : Jvm.MethodName)) ∈ lw_all := lw_g (lw_at lw_m3 158 rfl) rfl
theorem q728 : (Jvm.Cond.static ({ cls := "java/lang/Integer", name := "compare", desc := "(II)I" } : Jvm.MethodName)) ∈ lw_all := lw_g (lw_at lw_m3 159 rfl) rfl
theorem q729 : (Jvm.Cond.code ({ cls := "java/lang/Integer", name := "compare", desc := "(II)I" } : Jvm.MethodName) prog_26_method_40_code (2 : Nat) (Option.some Jvm.ClassFile.FieldType.int)) ∈ lw_all := lw_g (lw_at lw_m3 160 rfl) rfl
theorem q824 : (Jvm.Cond.static ({ cls := "java/lang/Integer", name := "numberOfLeadingZeros", desc := "(I)I" } : Jvm.MethodName)) ∈ lw_all := lw_g (lw_at lw_m4 15 rfl) rfl
theorem q825 : (Jvm.Cond.code ({ cls := "java/lang/Integer", name := "numberOfLeadingZeros", desc := "(I)I" } : Jvm.MethodName) prog_26_method_47_code (2 : Nat) (Option.some Jvm.ClassFile.FieldType.int)) ∈ lw_all := lw_g (lw_at lw_m4 16 rfl) rfl
theorem q826 : (Jvm.Cond.constant "java/lang/Integer" (264 : Nat) (65536 : Int32)) ∈ lw_all := lw_g (lw_at lw_m4 17 rfl) rfl
theorem q833 : (Jvm.Cond.static ({ cls := "java/lang/Integer", name := "numberOfTrailingZeros", desc := "(I)I" } : Jvm.MethodName)) ∈ lw_all := lw_g (lw_at lw_m4 24 rfl) rfl
theorem q834 : (Jvm.Cond.code ({ cls := "java/lang/Integer", name := "numberOfTrailingZeros", desc := "(I)I" } : Jvm.MethodName) prog_26_method_48_code (2 : Nat) (Option.some Jvm.ClassFile.FieldType.int)) ∈ lw_all := lw_g (lw_at lw_m4 25 rfl) rfl
theorem q971 : (Jvm.Cond.selects "java/lang/Integer" ({ cls := "java/lang/Object", name := "equals", desc := "(Ljava/lang/Object;)Z" } : Jvm.MethodName) ({ cls := "java/lang/Integer", name := "equals", desc := "(Ljava/lang/Object;)Z" } : Jvm.MethodName)) ∈ lw_all := lw_g (lw_at lw_m4 162 rfl) rfl
theorem q972 : (Jvm.Cond.instanceMethod ({ cls := "java/lang/Integer", name := "equals", desc := "(Ljava/lang/Object;)Z" } : Jvm.MethodName)) ∈ lw_all := lw_g (lw_at lw_m4 163 rfl) rfl
theorem q973 : (Jvm.Cond.code ({ cls := "java/lang/Integer", name := "equals", desc := "(Ljava/lang/Object;)Z" } : Jvm.MethodName) prog_26_method_34_code (2 : Nat) (Option.some Jvm.ClassFile.FieldType.boolean)) ∈ lw_all := lw_g (lw_at lw_m4 164 rfl) rfl
theorem q974 : (Jvm.Cond.methodLink "java/lang/Integer" (211 : Nat) ({ cls := "java/lang/Integer", name := "intValue", desc := "()I" } : Jvm.MethodName)) ∈ lw_all := lw_g (lw_at lw_m4 165 rfl) rfl
theorem q975 : (Jvm.Cond.instanceMethod ({ cls := "java/lang/Integer", name := "intValue", desc := "()I" } : Jvm.MethodName)) ∈ lw_all := lw_g (lw_at lw_m4 166 rfl) rfl
theorem q976 : (Jvm.Cond.selects "java/lang/Integer" ({ cls := "java/lang/Integer", name := "intValue", desc := "()I" } : Jvm.MethodName) ({ cls := "java/lang/Integer", name := "intValue", desc := "()I" } : Jvm.MethodName)) ∈ lw_all := lw_g (lw_at lw_m4 167 rfl) rfl
theorem q977 : (Jvm.Cond.code ({ cls := "java/lang/Integer", name := "intValue", desc := "()I" } : Jvm.MethodName) prog_26_method_27_code (1 : Nat) (Option.some Jvm.ClassFile.FieldType.int)) ∈ lw_all := lw_g (lw_at lw_m4 168 rfl) rfl
theorem q1161 : (Jvm.Cond.static ({ cls := "java/lang/Integer", name := "valueOf", desc := "(I)Ljava/lang/Integer;" } : Jvm.MethodName)) ∈ lw_all := lw_g (lw_at lw_m5 112 rfl) rfl
theorem q1162 : (Jvm.Cond.code ({ cls := "java/lang/Integer", name := "valueOf", desc := "(I)Ljava/lang/Integer;" } : Jvm.MethodName) prog_26_method_22_code (1 : Nat) (Option.some (Jvm.ClassFile.FieldType.object "java/lang/Integer"))) ∈ lw_all := lw_g (lw_at lw_m5 113 rfl) rfl
theorem q1163 : (Jvm.Cond.fieldLink "java/lang/Integer" (191 : Nat) "java/lang/Integer$IntegerCache" "high" "I") ∈ lw_all := lw_g (lw_at lw_m5 114 rfl) rfl
theorem q1165 : (Jvm.Cond.fieldLink "java/lang/Integer" (195 : Nat) "java/lang/Integer$IntegerCache" "cache" "[Ljava/lang/Integer;") ∈ lw_all := lw_g (lw_at lw_m5 116 rfl) rfl
theorem q1167 : (Jvm.Cond.instantiable "java/lang/Integer" (1 : Nat)) ∈ lw_all := lw_g (lw_at lw_m5 118 rfl) rfl
theorem q1168 : (Jvm.Cond.methodLink "java/lang/Integer" (199 : Nat) ({ cls := "java/lang/Integer", name := "<init>", desc := "(I)V" } : Jvm.MethodName)) ∈ lw_all := lw_g (lw_at lw_m5 119 rfl) rfl
theorem q1169 : (Jvm.Cond.instanceMethod ({ cls := "java/lang/Integer", name := "<init>", desc := "(I)V" } : Jvm.MethodName)) ∈ lw_all := lw_g (lw_at lw_m5 120 rfl) rfl
theorem q1170 : (Jvm.Cond.code ({ cls := "java/lang/Integer", name := "<init>", desc := "(I)V" } : Jvm.MethodName) prog_26_method_23_code (2 : Nat) (Option.none : Option Jvm.ClassFile.FieldType)) ∈ lw_all := lw_g (lw_at lw_m5 121 rfl) rfl
theorem q1171 : (Jvm.Cond.methodLink "java/lang/Integer" (202 : Nat) ({ cls := "java/lang/Number", name := "<init>", desc := "()V" } : Jvm.MethodName)) ∈ lw_all := lw_g (lw_at lw_m5 122 rfl) rfl
theorem q1175 : (Jvm.Cond.fieldLink "java/lang/Integer" (205 : Nat) "java/lang/Integer" "value" "I") ∈ lw_all := lw_g (lw_at lw_m5 126 rfl) rfl
theorem q1176 : (Jvm.Cond.laysFinal "java/lang/Integer" "java/lang/Integer" "value" "I") ∈ lw_all := lw_g (lw_at lw_m5 127 rfl) rfl
theorem q1177 : (Jvm.Cond.soleField "java/lang/Integer" "value") ∈ lw_all := lw_g (lw_at lw_m5 128 rfl) rfl
theorem q1178 : (Jvm.Cond.superclass "java/lang/Integer" "java/lang/Number") ∈ lw_all := lw_g (lw_at lw_m5 129 rfl) rfl
theorem q2466 : (Jvm.Cond.castable "java/lang/Integer" "java/lang/Object") ∈ lw_tbl := lw_at lw_m10 217 rfl
theorem in_J12 : ∀ w ∈ wsJ120, w ∈ lw_all := lw_in wsJ120 [1176] (by decide +kernel) (by decide +kernel)

/-! java/lang/String -/
set_option maxRecDepth 100000
def RJ13 : String := "java/lang/String"
def TJ13 : u_T := fun k => match k with
  | 0 => ("java/lang/String", "value", "[B", true)
  | 1 => ("java/lang/String", "coder", "B", true)
  | 2 => ("java/lang/String", "hash", "I", false)
  | _ => ("java/lang/String", "hashIsZero", "Z", false)
def tyJ13 : Nat → FieldType := fun k => match k with
  | 0 => .array .byte
  | 1 => .byte
  | 2 => .int
  | _ => .boolean
abbrev wsJ130 : List Cond := u_ws RJ13 TJ13 4
theorem nmJ13 : ∀ a, a < 4 → ∀ b, b < 4 → a ≠ b → (TJ13 a).2.1 ≠ (TJ13 b).2.1 := by decide +kernel
theorem tyJ13_ok : ∀ k, k < 4 → parseFieldDescriptor (TJ13 k).2.2.1 = some (tyJ13 k) := by decide +kernel
abbrev cJ13_hashCode : ByteArray := prog_32_method_78_code
def yJ13_hashCode : MethodName := ⟨RJ13, "hashCode", "()I"⟩
def dkwJ13_hashCode_2 : List UInt8 := [181, 0, 23, 167, 0, 8, 42, 27, 181, 0, 19, 27, 172]
abbrev dktJ13_hashCode_2 : List UInt8 := dkwJ13_hashCode_2 ++ []
def dkwJ13_hashCode_1 : List UInt8 := [180, 0, 9, 184, 2, 116, 167, 0, 10, 42, 180, 0, 9, 184, 2, 120, 60, 27, 154, 0, 11, 42, 4]
abbrev dktJ13_hashCode_1 : List UInt8 := dkwJ13_hashCode_1 ++ dktJ13_hashCode_2
def dkwJ13_hashCode_0 : List UInt8 := [42, 180, 0, 19, 60, 27, 154, 0, 52, 42, 180, 0, 23, 154, 0, 45, 42, 182, 1, 236, 153, 0, 13, 42]
abbrev dktJ13_hashCode_0 : List UInt8 := dkwJ13_hashCode_0 ++ dktJ13_hashCode_1
theorem dksJ13_hashCode_0 : cJ13_hashCode.data.toList.drop 0 = dktJ13_hashCode_0 := by decide +kernel
theorem dksJ13_hashCode_1 : cJ13_hashCode.data.toList.drop 24 = dktJ13_hashCode_1 := dk_seg dksJ13_hashCode_0 24 rfl rfl
theorem dksJ13_hashCode_2 : cJ13_hashCode.data.toList.drop 47 = dktJ13_hashCode_2 := dk_seg dksJ13_hashCode_1 23 rfl rfl
theorem dJ13_hashCode_0 : decode cJ13_hashCode 0 = .ok (.aload_n 0, 1) := dk_42 (dk_at dksJ13_hashCode_0 0 rfl rfl)
theorem dJ13_hashCode_1 : decode cJ13_hashCode 1 = .ok (.getfield 19, 3) := dk_180 0 19 (dk_at dksJ13_hashCode_0 1 rfl rfl)
theorem dJ13_hashCode_4 : decode cJ13_hashCode 4 = .ok (.istore_n 1, 1) := dk_60 (dk_at dksJ13_hashCode_0 4 rfl rfl)
theorem dJ13_hashCode_5 : decode cJ13_hashCode 5 = .ok (.iload_n 1, 1) := dk_27 (dk_at dksJ13_hashCode_0 5 rfl rfl)
theorem dJ13_hashCode_6 : decode cJ13_hashCode 6 = .ok (.ifCond .ne 52, 3) := dk_154 0 52 (dk_at dksJ13_hashCode_0 6 rfl rfl)
theorem dJ13_hashCode_9 : decode cJ13_hashCode 9 = .ok (.aload_n 0, 1) := dk_42 (dk_at dksJ13_hashCode_0 9 rfl rfl)
theorem dJ13_hashCode_10 : decode cJ13_hashCode 10 = .ok (.getfield 23, 3) := dk_180 0 23 (dk_at dksJ13_hashCode_0 10 rfl rfl)
theorem dJ13_hashCode_13 : decode cJ13_hashCode 13 = .ok (.ifCond .ne 45, 3) := dk_154 0 45 (dk_at dksJ13_hashCode_0 13 rfl rfl)
theorem dJ13_hashCode_16 : decode cJ13_hashCode 16 = .ok (.aload_n 0, 1) := dk_42 (dk_at dksJ13_hashCode_0 16 rfl rfl)
theorem dJ13_hashCode_17 : decode cJ13_hashCode 17 = .ok (.invokevirtual 492, 3) := dk_182 1 236 (dk_at dksJ13_hashCode_0 17 rfl rfl)
theorem dJ13_hashCode_20 : decode cJ13_hashCode 20 = .ok (.ifCond .eq 13, 3) := dk_153 0 13 (dk_at dksJ13_hashCode_0 20 rfl rfl)
theorem dJ13_hashCode_23 : decode cJ13_hashCode 23 = .ok (.aload_n 0, 1) := dk_42 (dk_at dksJ13_hashCode_0 23 rfl rfl)
theorem dJ13_hashCode_24 : decode cJ13_hashCode 24 = .ok (.getfield 9, 3) := dk_180 0 9 (dk_at dksJ13_hashCode_1 0 rfl rfl)
theorem dJ13_hashCode_27 : decode cJ13_hashCode 27 = .ok (.invokestatic 628, 3) := dk_184 2 116 (dk_at dksJ13_hashCode_1 3 rfl rfl)
theorem dJ13_hashCode_30 : decode cJ13_hashCode 30 = .ok (.goto 10, 3) := dk_167 0 10 (dk_at dksJ13_hashCode_1 6 rfl rfl)
theorem dJ13_hashCode_33 : decode cJ13_hashCode 33 = .ok (.aload_n 0, 1) := dk_42 (dk_at dksJ13_hashCode_1 9 rfl rfl)
theorem dJ13_hashCode_34 : decode cJ13_hashCode 34 = .ok (.getfield 9, 3) := dk_180 0 9 (dk_at dksJ13_hashCode_1 10 rfl rfl)
theorem dJ13_hashCode_37 : decode cJ13_hashCode 37 = .ok (.invokestatic 632, 3) := dk_184 2 120 (dk_at dksJ13_hashCode_1 13 rfl rfl)
theorem dJ13_hashCode_40 : decode cJ13_hashCode 40 = .ok (.istore_n 1, 1) := dk_60 (dk_at dksJ13_hashCode_1 16 rfl rfl)
theorem dJ13_hashCode_41 : decode cJ13_hashCode 41 = .ok (.iload_n 1, 1) := dk_27 (dk_at dksJ13_hashCode_1 17 rfl rfl)
theorem dJ13_hashCode_42 : decode cJ13_hashCode 42 = .ok (.ifCond .ne 11, 3) := dk_154 0 11 (dk_at dksJ13_hashCode_1 18 rfl rfl)
theorem dJ13_hashCode_45 : decode cJ13_hashCode 45 = .ok (.aload_n 0, 1) := dk_42 (dk_at dksJ13_hashCode_1 21 rfl rfl)
theorem dJ13_hashCode_46 : decode cJ13_hashCode 46 = .ok (.iconst 1, 1) := dk_4 (dk_at dksJ13_hashCode_1 22 rfl rfl)
theorem dJ13_hashCode_47 : decode cJ13_hashCode 47 = .ok (.putfield 23, 3) := dk_181 0 23 (dk_at dksJ13_hashCode_2 0 rfl rfl)
theorem dJ13_hashCode_50 : decode cJ13_hashCode 50 = .ok (.goto 8, 3) := dk_167 0 8 (dk_at dksJ13_hashCode_2 3 rfl rfl)
theorem dJ13_hashCode_53 : decode cJ13_hashCode 53 = .ok (.aload_n 0, 1) := dk_42 (dk_at dksJ13_hashCode_2 6 rfl rfl)
theorem dJ13_hashCode_54 : decode cJ13_hashCode 54 = .ok (.iload_n 1, 1) := dk_27 (dk_at dksJ13_hashCode_2 7 rfl rfl)
theorem dJ13_hashCode_55 : decode cJ13_hashCode 55 = .ok (.putfield 19, 3) := dk_181 0 19 (dk_at dksJ13_hashCode_2 8 rfl rfl)
theorem dJ13_hashCode_58 : decode cJ13_hashCode 58 = .ok (.iload_n 1, 1) := dk_27 (dk_at dksJ13_hashCode_2 11 rfl rfl)
theorem dJ13_hashCode_59 : decode cJ13_hashCode 59 = .ok (.ireturn, 1) := dk_172 (dk_at dksJ13_hashCode_2 12 rfl rfl)
abbrev cJ13_isLatin1 : ByteArray := prog_32_method_154_code
def yJ13_isLatin1 : MethodName := ⟨RJ13, "isLatin1", "()Z"⟩
def dkwJ13_isLatin1_0 : List UInt8 := [178, 0, 38, 153, 0, 14, 42, 180, 0, 15, 154, 0, 7, 4, 167, 0, 4, 3, 172]
abbrev dktJ13_isLatin1_0 : List UInt8 := dkwJ13_isLatin1_0 ++ []
theorem dksJ13_isLatin1_0 : cJ13_isLatin1.data.toList.drop 0 = dktJ13_isLatin1_0 := by decide +kernel
theorem dJ13_isLatin1_0 : decode cJ13_isLatin1 0 = .ok (.getstatic 38, 3) := dk_178 0 38 (dk_at dksJ13_isLatin1_0 0 rfl rfl)
theorem dJ13_isLatin1_3 : decode cJ13_isLatin1 3 = .ok (.ifCond .eq 14, 3) := dk_153 0 14 (dk_at dksJ13_isLatin1_0 3 rfl rfl)
theorem dJ13_isLatin1_6 : decode cJ13_isLatin1 6 = .ok (.aload_n 0, 1) := dk_42 (dk_at dksJ13_isLatin1_0 6 rfl rfl)
theorem dJ13_isLatin1_7 : decode cJ13_isLatin1 7 = .ok (.getfield 15, 3) := dk_180 0 15 (dk_at dksJ13_isLatin1_0 7 rfl rfl)
theorem dJ13_isLatin1_10 : decode cJ13_isLatin1 10 = .ok (.ifCond .ne 7, 3) := dk_154 0 7 (dk_at dksJ13_isLatin1_0 10 rfl rfl)
theorem dJ13_isLatin1_13 : decode cJ13_isLatin1 13 = .ok (.iconst 1, 1) := dk_4 (dk_at dksJ13_isLatin1_0 13 rfl rfl)
theorem dJ13_isLatin1_14 : decode cJ13_isLatin1 14 = .ok (.goto 4, 3) := dk_167 0 4 (dk_at dksJ13_isLatin1_0 14 rfl rfl)
theorem dJ13_isLatin1_17 : decode cJ13_isLatin1 17 = .ok (.iconst 0, 1) := dk_3 (dk_at dksJ13_isLatin1_0 17 rfl rfl)
theorem dJ13_isLatin1_18 : decode cJ13_isLatin1 18 = .ok (.ireturn, 1) := dk_172 (dk_at dksJ13_isLatin1_0 18 rfl rfl)
abbrev cJ13_compareTo : ByteArray := prog_32_method_162_code
def yJ13_compareTo : MethodName := ⟨RJ13, "compareTo", "(Ljava/lang/Object;)I"⟩
def dkwJ13_compareTo_0 : List UInt8 := [42, 43, 192, 0, 10, 182, 4, 60, 172]
abbrev dktJ13_compareTo_0 : List UInt8 := dkwJ13_compareTo_0 ++ []
theorem dksJ13_compareTo_0 : cJ13_compareTo.data.toList.drop 0 = dktJ13_compareTo_0 := by decide +kernel
theorem dJ13_compareTo_0 : decode cJ13_compareTo 0 = .ok (.aload_n 0, 1) := dk_42 (dk_at dksJ13_compareTo_0 0 rfl rfl)
theorem dJ13_compareTo_1 : decode cJ13_compareTo 1 = .ok (.aload_n 1, 1) := dk_43 (dk_at dksJ13_compareTo_0 1 rfl rfl)
theorem dJ13_compareTo_2 : decode cJ13_compareTo 2 = .ok (.checkcast 10, 3) := dk_192 0 10 (dk_at dksJ13_compareTo_0 2 rfl rfl)
theorem dJ13_compareTo_5 : decode cJ13_compareTo 5 = .ok (.invokevirtual 1084, 3) := dk_182 4 60 (dk_at dksJ13_compareTo_0 5 rfl rfl)
theorem dJ13_compareTo_8 : decode cJ13_compareTo 8 = .ok (.ireturn, 1) := dk_172 (dk_at dksJ13_compareTo_0 8 rfl rfl)
abbrev cJ13_compareTo_2 : ByteArray := prog_32_method_71_code
def yJ13_compareTo_2 : MethodName := ⟨RJ13, "compareTo", "(Ljava/lang/String;)I"⟩
def dkwJ13_compareTo_2_2 : List UInt8 := [154, 0, 11, 44, 45, 184, 2, 79, 167, 0, 8, 44, 45, 184, 2, 82, 172]
abbrev dktJ13_compareTo_2_2 : List UInt8 := dkwJ13_compareTo_2_2 ++ []
def dkwJ13_compareTo_2_1 : List UInt8 := [160, 0, 22, 21, 4, 154, 0, 11, 44, 45, 184, 2, 74, 167, 0, 8, 44, 45, 184, 2, 78, 172, 21, 4]
abbrev dktJ13_compareTo_2_1 : List UInt8 := dkwJ13_compareTo_2_1 ++ dktJ13_compareTo_2_2
def dkwJ13_compareTo_2_0 : List UInt8 := [42, 180, 0, 9, 77, 43, 180, 0, 9, 78, 42, 182, 1, 79, 54, 4, 21, 4, 43, 182, 1, 79]
abbrev dktJ13_compareTo_2_0 : List UInt8 := dkwJ13_compareTo_2_0 ++ dktJ13_compareTo_2_1
theorem dksJ13_compareTo_2_0 : cJ13_compareTo_2.data.toList.drop 0 = dktJ13_compareTo_2_0 := by decide +kernel
theorem dksJ13_compareTo_2_1 : cJ13_compareTo_2.data.toList.drop 22 = dktJ13_compareTo_2_1 := dk_seg dksJ13_compareTo_2_0 22 rfl rfl
theorem dksJ13_compareTo_2_2 : cJ13_compareTo_2.data.toList.drop 46 = dktJ13_compareTo_2_2 := dk_seg dksJ13_compareTo_2_1 24 rfl rfl
theorem dJ13_compareTo_2_0 : decode cJ13_compareTo_2 0 = .ok (.aload_n 0, 1) := dk_42 (dk_at dksJ13_compareTo_2_0 0 rfl rfl)
theorem dJ13_compareTo_2_1 : decode cJ13_compareTo_2 1 = .ok (.getfield 9, 3) := dk_180 0 9 (dk_at dksJ13_compareTo_2_0 1 rfl rfl)
theorem dJ13_compareTo_2_4 : decode cJ13_compareTo_2 4 = .ok (.astore_n 2, 1) := dk_77 (dk_at dksJ13_compareTo_2_0 4 rfl rfl)
theorem dJ13_compareTo_2_5 : decode cJ13_compareTo_2 5 = .ok (.aload_n 1, 1) := dk_43 (dk_at dksJ13_compareTo_2_0 5 rfl rfl)
theorem dJ13_compareTo_2_6 : decode cJ13_compareTo_2 6 = .ok (.getfield 9, 3) := dk_180 0 9 (dk_at dksJ13_compareTo_2_0 6 rfl rfl)
theorem dJ13_compareTo_2_9 : decode cJ13_compareTo_2 9 = .ok (.astore_n 3, 1) := dk_78 (dk_at dksJ13_compareTo_2_0 9 rfl rfl)
theorem dJ13_compareTo_2_10 : decode cJ13_compareTo_2 10 = .ok (.aload_n 0, 1) := dk_42 (dk_at dksJ13_compareTo_2_0 10 rfl rfl)
theorem dJ13_compareTo_2_11 : decode cJ13_compareTo_2 11 = .ok (.invokevirtual 335, 3) := dk_182 1 79 (dk_at dksJ13_compareTo_2_0 11 rfl rfl)
theorem dJ13_compareTo_2_14 : decode cJ13_compareTo_2 14 = .ok (.istore 4, 2) := dk_54 4 (dk_at dksJ13_compareTo_2_0 14 rfl rfl)
theorem dJ13_compareTo_2_16 : decode cJ13_compareTo_2 16 = .ok (.iload 4, 2) := dk_21 4 (dk_at dksJ13_compareTo_2_0 16 rfl rfl)
theorem dJ13_compareTo_2_18 : decode cJ13_compareTo_2 18 = .ok (.aload_n 1, 1) := dk_43 (dk_at dksJ13_compareTo_2_0 18 rfl rfl)
theorem dJ13_compareTo_2_19 : decode cJ13_compareTo_2 19 = .ok (.invokevirtual 335, 3) := dk_182 1 79 (dk_at dksJ13_compareTo_2_0 19 rfl rfl)
theorem dJ13_compareTo_2_22 : decode cJ13_compareTo_2 22 = .ok (.if_icmp .ne 22, 3) := dk_160 0 22 (dk_at dksJ13_compareTo_2_1 0 rfl rfl)
theorem dJ13_compareTo_2_25 : decode cJ13_compareTo_2 25 = .ok (.iload 4, 2) := dk_21 4 (dk_at dksJ13_compareTo_2_1 3 rfl rfl)
theorem dJ13_compareTo_2_27 : decode cJ13_compareTo_2 27 = .ok (.ifCond .ne 11, 3) := dk_154 0 11 (dk_at dksJ13_compareTo_2_1 5 rfl rfl)
theorem dJ13_compareTo_2_30 : decode cJ13_compareTo_2 30 = .ok (.aload_n 2, 1) := dk_44 (dk_at dksJ13_compareTo_2_1 8 rfl rfl)
theorem dJ13_compareTo_2_31 : decode cJ13_compareTo_2 31 = .ok (.aload_n 3, 1) := dk_45 (dk_at dksJ13_compareTo_2_1 9 rfl rfl)
theorem dJ13_compareTo_2_32 : decode cJ13_compareTo_2 32 = .ok (.invokestatic 586, 3) := dk_184 2 74 (dk_at dksJ13_compareTo_2_1 10 rfl rfl)
theorem dJ13_compareTo_2_35 : decode cJ13_compareTo_2 35 = .ok (.goto 8, 3) := dk_167 0 8 (dk_at dksJ13_compareTo_2_1 13 rfl rfl)
theorem dJ13_compareTo_2_38 : decode cJ13_compareTo_2 38 = .ok (.aload_n 2, 1) := dk_44 (dk_at dksJ13_compareTo_2_1 16 rfl rfl)
theorem dJ13_compareTo_2_39 : decode cJ13_compareTo_2 39 = .ok (.aload_n 3, 1) := dk_45 (dk_at dksJ13_compareTo_2_1 17 rfl rfl)
theorem dJ13_compareTo_2_40 : decode cJ13_compareTo_2 40 = .ok (.invokestatic 590, 3) := dk_184 2 78 (dk_at dksJ13_compareTo_2_1 18 rfl rfl)
theorem dJ13_compareTo_2_43 : decode cJ13_compareTo_2 43 = .ok (.ireturn, 1) := dk_172 (dk_at dksJ13_compareTo_2_1 21 rfl rfl)
theorem dJ13_compareTo_2_44 : decode cJ13_compareTo_2 44 = .ok (.iload 4, 2) := dk_21 4 (dk_at dksJ13_compareTo_2_1 22 rfl rfl)
theorem dJ13_compareTo_2_46 : decode cJ13_compareTo_2 46 = .ok (.ifCond .ne 11, 3) := dk_154 0 11 (dk_at dksJ13_compareTo_2_2 0 rfl rfl)
theorem dJ13_compareTo_2_49 : decode cJ13_compareTo_2 49 = .ok (.aload_n 2, 1) := dk_44 (dk_at dksJ13_compareTo_2_2 3 rfl rfl)
theorem dJ13_compareTo_2_50 : decode cJ13_compareTo_2 50 = .ok (.aload_n 3, 1) := dk_45 (dk_at dksJ13_compareTo_2_2 4 rfl rfl)
theorem dJ13_compareTo_2_51 : decode cJ13_compareTo_2 51 = .ok (.invokestatic 591, 3) := dk_184 2 79 (dk_at dksJ13_compareTo_2_2 5 rfl rfl)
theorem dJ13_compareTo_2_54 : decode cJ13_compareTo_2 54 = .ok (.goto 8, 3) := dk_167 0 8 (dk_at dksJ13_compareTo_2_2 8 rfl rfl)
theorem dJ13_compareTo_2_57 : decode cJ13_compareTo_2 57 = .ok (.aload_n 2, 1) := dk_44 (dk_at dksJ13_compareTo_2_2 11 rfl rfl)
theorem dJ13_compareTo_2_58 : decode cJ13_compareTo_2 58 = .ok (.aload_n 3, 1) := dk_45 (dk_at dksJ13_compareTo_2_2 12 rfl rfl)
theorem dJ13_compareTo_2_59 : decode cJ13_compareTo_2 59 = .ok (.invokestatic 594, 3) := dk_184 2 82 (dk_at dksJ13_compareTo_2_2 13 rfl rfl)
theorem dJ13_compareTo_2_62 : decode cJ13_compareTo_2 62 = .ok (.ireturn, 1) := dk_172 (dk_at dksJ13_compareTo_2_2 16 rfl rfl)
abbrev cJ13_coder : ByteArray := prog_32_method_152_code
def yJ13_coder : MethodName := ⟨RJ13, "coder", "()B"⟩
def dkwJ13_coder_0 : List UInt8 := [178, 0, 38, 153, 0, 10, 42, 180, 0, 15, 167, 0, 4, 4, 172]
abbrev dktJ13_coder_0 : List UInt8 := dkwJ13_coder_0 ++ []
theorem dksJ13_coder_0 : cJ13_coder.data.toList.drop 0 = dktJ13_coder_0 := by decide +kernel
theorem dJ13_coder_0 : decode cJ13_coder 0 = .ok (.getstatic 38, 3) := dk_178 0 38 (dk_at dksJ13_coder_0 0 rfl rfl)
theorem dJ13_coder_3 : decode cJ13_coder 3 = .ok (.ifCond .eq 10, 3) := dk_153 0 10 (dk_at dksJ13_coder_0 3 rfl rfl)
theorem dJ13_coder_6 : decode cJ13_coder 6 = .ok (.aload_n 0, 1) := dk_42 (dk_at dksJ13_coder_0 6 rfl rfl)
theorem dJ13_coder_7 : decode cJ13_coder 7 = .ok (.getfield 15, 3) := dk_180 0 15 (dk_at dksJ13_coder_0 7 rfl rfl)
theorem dJ13_coder_10 : decode cJ13_coder 10 = .ok (.goto 4, 3) := dk_167 0 4 (dk_at dksJ13_coder_0 10 rfl rfl)
theorem dJ13_coder_13 : decode cJ13_coder 13 = .ok (.iconst 1, 1) := dk_4 (dk_at dksJ13_coder_0 13 rfl rfl)
theorem dJ13_coder_14 : decode cJ13_coder 14 = .ok (.ireturn, 1) := dk_172 (dk_at dksJ13_coder_0 14 rfl rfl)
abbrev cJ13_checkOffset : ByteArray := prog_32_method_156_code
def yJ13_checkOffset : MethodName := ⟨RJ13, "checkOffset", "(II)V"⟩
def dkwJ13_checkOffset_0 : List UInt8 := [26, 27, 27, 178, 4, 29, 184, 4, 38, 87, 177]
abbrev dktJ13_checkOffset_0 : List UInt8 := dkwJ13_checkOffset_0 ++ []
theorem dksJ13_checkOffset_0 : cJ13_checkOffset.data.toList.drop 0 = dktJ13_checkOffset_0 := by decide +kernel
theorem dJ13_checkOffset_0 : decode cJ13_checkOffset 0 = .ok (.iload_n 0, 1) := dk_26 (dk_at dksJ13_checkOffset_0 0 rfl rfl)
theorem dJ13_checkOffset_1 : decode cJ13_checkOffset 1 = .ok (.iload_n 1, 1) := dk_27 (dk_at dksJ13_checkOffset_0 1 rfl rfl)
theorem dJ13_checkOffset_2 : decode cJ13_checkOffset 2 = .ok (.iload_n 1, 1) := dk_27 (dk_at dksJ13_checkOffset_0 2 rfl rfl)
theorem dJ13_checkOffset_3 : decode cJ13_checkOffset 3 = .ok (.getstatic 1053, 3) := dk_178 4 29 (dk_at dksJ13_checkOffset_0 3 rfl rfl)
theorem dJ13_checkOffset_6 : decode cJ13_checkOffset 6 = .ok (.invokestatic 1062, 3) := dk_184 4 38 (dk_at dksJ13_checkOffset_0 6 rfl rfl)
theorem dJ13_checkOffset_9 : decode cJ13_checkOffset 9 = .ok (.pop, 1) := dk_87 (dk_at dksJ13_checkOffset_0 9 rfl rfl)
theorem dJ13_checkOffset_10 : decode cJ13_checkOffset 10 = .ok (.return_, 1) := dk_177 (dk_at dksJ13_checkOffset_0 10 rfl rfl)
abbrev cJ13_equals : ByteArray := prog_32_method_66_code
def yJ13_equals : MethodName := ⟨RJ13, "equals", "(Ljava/lang/Object;)Z"⟩
def dkwJ13_equals_2 : List UInt8 := [184, 2, 29, 153, 0, 7, 4, 167, 0, 4, 3, 172]
abbrev dktJ13_equals_2 : List UInt8 := dkwJ13_equals_2 ++ []
def dkwJ13_equals_1 : List UInt8 := [153, 0, 14, 42, 180, 0, 15, 44, 180, 0, 15, 160, 0, 21, 42, 180, 0, 9, 44, 180, 0, 9]
abbrev dktJ13_equals_1 : List UInt8 := dkwJ13_equals_1 ++ dktJ13_equals_2
def dkwJ13_equals_0 : List UInt8 := [42, 43, 166, 0, 5, 4, 172, 43, 193, 0, 10, 153, 0, 43, 43, 192, 0, 10, 77, 178, 0, 38]
abbrev dktJ13_equals_0 : List UInt8 := dkwJ13_equals_0 ++ dktJ13_equals_1
theorem dksJ13_equals_0 : cJ13_equals.data.toList.drop 0 = dktJ13_equals_0 := by decide +kernel
theorem dksJ13_equals_1 : cJ13_equals.data.toList.drop 22 = dktJ13_equals_1 := dk_seg dksJ13_equals_0 22 rfl rfl
theorem dksJ13_equals_2 : cJ13_equals.data.toList.drop 44 = dktJ13_equals_2 := dk_seg dksJ13_equals_1 22 rfl rfl
theorem dJ13_equals_0 : decode cJ13_equals 0 = .ok (.aload_n 0, 1) := dk_42 (dk_at dksJ13_equals_0 0 rfl rfl)
theorem dJ13_equals_1 : decode cJ13_equals 1 = .ok (.aload_n 1, 1) := dk_43 (dk_at dksJ13_equals_0 1 rfl rfl)
theorem dJ13_equals_2 : decode cJ13_equals 2 = .ok (.if_acmp .ne 5, 3) := dk_166 0 5 (dk_at dksJ13_equals_0 2 rfl rfl)
theorem dJ13_equals_5 : decode cJ13_equals 5 = .ok (.iconst 1, 1) := dk_4 (dk_at dksJ13_equals_0 5 rfl rfl)
theorem dJ13_equals_6 : decode cJ13_equals 6 = .ok (.ireturn, 1) := dk_172 (dk_at dksJ13_equals_0 6 rfl rfl)
theorem dJ13_equals_7 : decode cJ13_equals 7 = .ok (.aload_n 1, 1) := dk_43 (dk_at dksJ13_equals_0 7 rfl rfl)
theorem dJ13_equals_8 : decode cJ13_equals 8 = .ok (.instanceof 10, 3) := dk_193 0 10 (dk_at dksJ13_equals_0 8 rfl rfl)
theorem dJ13_equals_11 : decode cJ13_equals 11 = .ok (.ifCond .eq 43, 3) := dk_153 0 43 (dk_at dksJ13_equals_0 11 rfl rfl)
theorem dJ13_equals_14 : decode cJ13_equals 14 = .ok (.aload_n 1, 1) := dk_43 (dk_at dksJ13_equals_0 14 rfl rfl)
theorem dJ13_equals_15 : decode cJ13_equals 15 = .ok (.checkcast 10, 3) := dk_192 0 10 (dk_at dksJ13_equals_0 15 rfl rfl)
theorem dJ13_equals_18 : decode cJ13_equals 18 = .ok (.astore_n 2, 1) := dk_77 (dk_at dksJ13_equals_0 18 rfl rfl)
theorem dJ13_equals_19 : decode cJ13_equals 19 = .ok (.getstatic 38, 3) := dk_178 0 38 (dk_at dksJ13_equals_0 19 rfl rfl)
theorem dJ13_equals_22 : decode cJ13_equals 22 = .ok (.ifCond .eq 14, 3) := dk_153 0 14 (dk_at dksJ13_equals_1 0 rfl rfl)
theorem dJ13_equals_25 : decode cJ13_equals 25 = .ok (.aload_n 0, 1) := dk_42 (dk_at dksJ13_equals_1 3 rfl rfl)
theorem dJ13_equals_26 : decode cJ13_equals 26 = .ok (.getfield 15, 3) := dk_180 0 15 (dk_at dksJ13_equals_1 4 rfl rfl)
theorem dJ13_equals_29 : decode cJ13_equals 29 = .ok (.aload_n 2, 1) := dk_44 (dk_at dksJ13_equals_1 7 rfl rfl)
theorem dJ13_equals_30 : decode cJ13_equals 30 = .ok (.getfield 15, 3) := dk_180 0 15 (dk_at dksJ13_equals_1 8 rfl rfl)
theorem dJ13_equals_33 : decode cJ13_equals 33 = .ok (.if_icmp .ne 21, 3) := dk_160 0 21 (dk_at dksJ13_equals_1 11 rfl rfl)
theorem dJ13_equals_36 : decode cJ13_equals 36 = .ok (.aload_n 0, 1) := dk_42 (dk_at dksJ13_equals_1 14 rfl rfl)
theorem dJ13_equals_37 : decode cJ13_equals 37 = .ok (.getfield 9, 3) := dk_180 0 9 (dk_at dksJ13_equals_1 15 rfl rfl)
theorem dJ13_equals_40 : decode cJ13_equals 40 = .ok (.aload_n 2, 1) := dk_44 (dk_at dksJ13_equals_1 18 rfl rfl)
theorem dJ13_equals_41 : decode cJ13_equals 41 = .ok (.getfield 9, 3) := dk_180 0 9 (dk_at dksJ13_equals_1 19 rfl rfl)
theorem dJ13_equals_44 : decode cJ13_equals 44 = .ok (.invokestatic 541, 3) := dk_184 2 29 (dk_at dksJ13_equals_2 0 rfl rfl)
theorem dJ13_equals_47 : decode cJ13_equals 47 = .ok (.ifCond .eq 7, 3) := dk_153 0 7 (dk_at dksJ13_equals_2 3 rfl rfl)
theorem dJ13_equals_50 : decode cJ13_equals 50 = .ok (.iconst 1, 1) := dk_4 (dk_at dksJ13_equals_2 6 rfl rfl)
theorem dJ13_equals_51 : decode cJ13_equals 51 = .ok (.goto 4, 3) := dk_167 0 4 (dk_at dksJ13_equals_2 7 rfl rfl)
theorem dJ13_equals_54 : decode cJ13_equals 54 = .ok (.iconst 0, 1) := dk_3 (dk_at dksJ13_equals_2 10 rfl rfl)
theorem dJ13_equals_55 : decode cJ13_equals 55 = .ok (.ireturn, 1) := dk_172 (dk_at dksJ13_equals_2 11 rfl rfl)
abbrev cJ13_checkBoundsOffCount : ByteArray := prog_32_method_157_code
def yJ13_checkBoundsOffCount : MethodName := ⟨RJ13, "checkBoundsOffCount", "(III)I"⟩
def dkwJ13_checkBoundsOffCount_0 : List UInt8 := [26, 27, 28, 178, 4, 29, 184, 4, 41, 172]
abbrev dktJ13_checkBoundsOffCount_0 : List UInt8 := dkwJ13_checkBoundsOffCount_0 ++ []
theorem dksJ13_checkBoundsOffCount_0 : cJ13_checkBoundsOffCount.data.toList.drop 0 = dktJ13_checkBoundsOffCount_0 := by decide +kernel
theorem dJ13_checkBoundsOffCount_0 : decode cJ13_checkBoundsOffCount 0 = .ok (.iload_n 0, 1) := dk_26 (dk_at dksJ13_checkBoundsOffCount_0 0 rfl rfl)
theorem dJ13_checkBoundsOffCount_1 : decode cJ13_checkBoundsOffCount 1 = .ok (.iload_n 1, 1) := dk_27 (dk_at dksJ13_checkBoundsOffCount_0 1 rfl rfl)
theorem dJ13_checkBoundsOffCount_2 : decode cJ13_checkBoundsOffCount 2 = .ok (.iload_n 2, 1) := dk_28 (dk_at dksJ13_checkBoundsOffCount_0 2 rfl rfl)
theorem dJ13_checkBoundsOffCount_3 : decode cJ13_checkBoundsOffCount 3 = .ok (.getstatic 1053, 3) := dk_178 4 29 (dk_at dksJ13_checkBoundsOffCount_0 3 rfl rfl)
theorem dJ13_checkBoundsOffCount_6 : decode cJ13_checkBoundsOffCount 6 = .ok (.invokestatic 1065, 3) := dk_184 4 41 (dk_at dksJ13_checkBoundsOffCount_0 6 rfl rfl)
theorem dJ13_checkBoundsOffCount_9 : decode cJ13_checkBoundsOffCount 9 = .ok (.ireturn, 1) := dk_172 (dk_at dksJ13_checkBoundsOffCount_0 9 rfl rfl)
abbrev cJ13_checkIndex : ByteArray := prog_32_method_155_code
def yJ13_checkIndex : MethodName := ⟨RJ13, "checkIndex", "(II)V"⟩
def dkwJ13_checkIndex_0 : List UInt8 := [26, 27, 178, 4, 29, 184, 4, 35, 87, 177]
abbrev dktJ13_checkIndex_0 : List UInt8 := dkwJ13_checkIndex_0 ++ []
theorem dksJ13_checkIndex_0 : cJ13_checkIndex.data.toList.drop 0 = dktJ13_checkIndex_0 := by decide +kernel
theorem dJ13_checkIndex_0 : decode cJ13_checkIndex 0 = .ok (.iload_n 0, 1) := dk_26 (dk_at dksJ13_checkIndex_0 0 rfl rfl)
theorem dJ13_checkIndex_1 : decode cJ13_checkIndex 1 = .ok (.iload_n 1, 1) := dk_27 (dk_at dksJ13_checkIndex_0 1 rfl rfl)
theorem dJ13_checkIndex_2 : decode cJ13_checkIndex 2 = .ok (.getstatic 1053, 3) := dk_178 4 29 (dk_at dksJ13_checkIndex_0 2 rfl rfl)
theorem dJ13_checkIndex_5 : decode cJ13_checkIndex 5 = .ok (.invokestatic 1059, 3) := dk_184 4 35 (dk_at dksJ13_checkIndex_0 5 rfl rfl)
theorem dJ13_checkIndex_8 : decode cJ13_checkIndex 8 = .ok (.pop, 1) := dk_87 (dk_at dksJ13_checkIndex_0 8 rfl rfl)
theorem dJ13_checkIndex_9 : decode cJ13_checkIndex 9 = .ok (.return_, 1) := dk_177 (dk_at dksJ13_checkIndex_0 9 rfl rfl)
abbrev cJ13_init : ByteArray := prog_32_method_53_code
def yJ13_init : MethodName := ⟨RJ13, "<init>", "(Ljava/lang/StringBuilder;)V"⟩
def dkwJ13_init_0 : List UInt8 := [42, 43, 1, 183, 1, 233, 177]
abbrev dktJ13_init_0 : List UInt8 := dkwJ13_init_0 ++ []
theorem dksJ13_init_0 : cJ13_init.data.toList.drop 0 = dktJ13_init_0 := by decide +kernel
theorem dJ13_init_0 : decode cJ13_init 0 = .ok (.aload_n 0, 1) := dk_42 (dk_at dksJ13_init_0 0 rfl rfl)
theorem dJ13_init_1 : decode cJ13_init 1 = .ok (.aload_n 1, 1) := dk_43 (dk_at dksJ13_init_0 1 rfl rfl)
theorem dJ13_init_2 : decode cJ13_init 2 = .ok (.aconst_null, 1) := dk_1 (dk_at dksJ13_init_0 2 rfl rfl)
theorem dJ13_init_3 : decode cJ13_init 3 = .ok (.invokespecial 489, 3) := dk_183 1 233 (dk_at dksJ13_init_0 3 rfl rfl)
theorem dJ13_init_6 : decode cJ13_init 6 = .ok (.return_, 1) := dk_177 (dk_at dksJ13_init_0 6 rfl rfl)
abbrev cJ13_init_2 : ByteArray := prog_32_method_150_code
def yJ13_init_2 : MethodName := ⟨RJ13, "<init>", "(Ljava/lang/AbstractStringBuilder;Ljava/lang/Void;)V"⟩
def dkwJ13_init_2_4 : List UInt8 := [181, 0, 9, 177]
abbrev dktJ13_init_2_4 : List UInt8 := dkwJ13_init_2_4 ++ []
def dkwJ13_init_2_3 : List UInt8 := [184, 0, 47, 181, 0, 15, 177, 42, 4, 181, 0, 15, 42, 45, 3, 21, 4, 4, 120, 184, 0, 54]
abbrev dktJ13_init_2_3 : List UInt8 := dkwJ13_init_2_3 ++ dktJ13_init_2_4
def dkwJ13_init_2_2 : List UInt8 := [180, 4, 24, 153, 0, 28, 42, 45, 3, 21, 4, 184, 4, 27, 181, 0, 9, 42, 42, 180, 0, 9, 21, 4]
abbrev dktJ13_init_2_2 : List UInt8 := dkwJ13_init_2_2 ++ dktJ13_init_2_3
def dkwJ13_init_2_1 : List UInt8 := [181, 0, 15, 42, 45, 3, 21, 4, 184, 0, 54, 181, 0, 9, 167, 0, 59, 178, 0, 38, 153, 0, 35, 43]
abbrev dktJ13_init_2_1 : List UInt8 := dkwJ13_init_2_1 ++ dktJ13_init_2_2
def dkwJ13_init_2_0 : List UInt8 := [42, 183, 0, 1, 43, 182, 2, 40, 78, 43, 182, 2, 37, 54, 4, 43, 182, 4, 23, 153, 0, 22, 42, 3]
abbrev dktJ13_init_2_0 : List UInt8 := dkwJ13_init_2_0 ++ dktJ13_init_2_1
theorem dksJ13_init_2_0 : cJ13_init_2.data.toList.drop 0 = dktJ13_init_2_0 := by decide +kernel
theorem dksJ13_init_2_1 : cJ13_init_2.data.toList.drop 24 = dktJ13_init_2_1 := dk_seg dksJ13_init_2_0 24 rfl rfl
theorem dksJ13_init_2_2 : cJ13_init_2.data.toList.drop 48 = dktJ13_init_2_2 := dk_seg dksJ13_init_2_1 24 rfl rfl
theorem dksJ13_init_2_3 : cJ13_init_2.data.toList.drop 72 = dktJ13_init_2_3 := dk_seg dksJ13_init_2_2 24 rfl rfl
theorem dksJ13_init_2_4 : cJ13_init_2.data.toList.drop 94 = dktJ13_init_2_4 := dk_seg dksJ13_init_2_3 22 rfl rfl
theorem dJ13_init_2_0 : decode cJ13_init_2 0 = .ok (.aload_n 0, 1) := dk_42 (dk_at dksJ13_init_2_0 0 rfl rfl)
theorem dJ13_init_2_1 : decode cJ13_init_2 1 = .ok (.invokespecial 1, 3) := dk_183 0 1 (dk_at dksJ13_init_2_0 1 rfl rfl)
theorem dJ13_init_2_4 : decode cJ13_init_2 4 = .ok (.aload_n 1, 1) := dk_43 (dk_at dksJ13_init_2_0 4 rfl rfl)
theorem dJ13_init_2_5 : decode cJ13_init_2 5 = .ok (.invokevirtual 552, 3) := dk_182 2 40 (dk_at dksJ13_init_2_0 5 rfl rfl)
theorem dJ13_init_2_8 : decode cJ13_init_2 8 = .ok (.astore_n 3, 1) := dk_78 (dk_at dksJ13_init_2_0 8 rfl rfl)
theorem dJ13_init_2_9 : decode cJ13_init_2 9 = .ok (.aload_n 1, 1) := dk_43 (dk_at dksJ13_init_2_0 9 rfl rfl)
theorem dJ13_init_2_10 : decode cJ13_init_2 10 = .ok (.invokevirtual 549, 3) := dk_182 2 37 (dk_at dksJ13_init_2_0 10 rfl rfl)
theorem dJ13_init_2_13 : decode cJ13_init_2 13 = .ok (.istore 4, 2) := dk_54 4 (dk_at dksJ13_init_2_0 13 rfl rfl)
theorem dJ13_init_2_15 : decode cJ13_init_2 15 = .ok (.aload_n 1, 1) := dk_43 (dk_at dksJ13_init_2_0 15 rfl rfl)
theorem dJ13_init_2_16 : decode cJ13_init_2 16 = .ok (.invokevirtual 1047, 3) := dk_182 4 23 (dk_at dksJ13_init_2_0 16 rfl rfl)
theorem dJ13_init_2_19 : decode cJ13_init_2 19 = .ok (.ifCond .eq 22, 3) := dk_153 0 22 (dk_at dksJ13_init_2_0 19 rfl rfl)
theorem dJ13_init_2_22 : decode cJ13_init_2 22 = .ok (.aload_n 0, 1) := dk_42 (dk_at dksJ13_init_2_0 22 rfl rfl)
theorem dJ13_init_2_23 : decode cJ13_init_2 23 = .ok (.iconst 0, 1) := dk_3 (dk_at dksJ13_init_2_0 23 rfl rfl)
theorem dJ13_init_2_24 : decode cJ13_init_2 24 = .ok (.putfield 15, 3) := dk_181 0 15 (dk_at dksJ13_init_2_1 0 rfl rfl)
theorem dJ13_init_2_27 : decode cJ13_init_2 27 = .ok (.aload_n 0, 1) := dk_42 (dk_at dksJ13_init_2_1 3 rfl rfl)
theorem dJ13_init_2_28 : decode cJ13_init_2 28 = .ok (.aload_n 3, 1) := dk_45 (dk_at dksJ13_init_2_1 4 rfl rfl)
theorem dJ13_init_2_29 : decode cJ13_init_2 29 = .ok (.iconst 0, 1) := dk_3 (dk_at dksJ13_init_2_1 5 rfl rfl)
theorem dJ13_init_2_30 : decode cJ13_init_2 30 = .ok (.iload 4, 2) := dk_21 4 (dk_at dksJ13_init_2_1 6 rfl rfl)
theorem dJ13_init_2_32 : decode cJ13_init_2 32 = .ok (.invokestatic 54, 3) := dk_184 0 54 (dk_at dksJ13_init_2_1 8 rfl rfl)
theorem dJ13_init_2_35 : decode cJ13_init_2 35 = .ok (.putfield 9, 3) := dk_181 0 9 (dk_at dksJ13_init_2_1 11 rfl rfl)
theorem dJ13_init_2_38 : decode cJ13_init_2 38 = .ok (.goto 59, 3) := dk_167 0 59 (dk_at dksJ13_init_2_1 14 rfl rfl)
theorem dJ13_init_2_41 : decode cJ13_init_2 41 = .ok (.getstatic 38, 3) := dk_178 0 38 (dk_at dksJ13_init_2_1 17 rfl rfl)
theorem dJ13_init_2_44 : decode cJ13_init_2 44 = .ok (.ifCond .eq 35, 3) := dk_153 0 35 (dk_at dksJ13_init_2_1 20 rfl rfl)
theorem dJ13_init_2_47 : decode cJ13_init_2 47 = .ok (.aload_n 1, 1) := dk_43 (dk_at dksJ13_init_2_1 23 rfl rfl)
theorem dJ13_init_2_48 : decode cJ13_init_2 48 = .ok (.getfield 1048, 3) := dk_180 4 24 (dk_at dksJ13_init_2_2 0 rfl rfl)
theorem dJ13_init_2_51 : decode cJ13_init_2 51 = .ok (.ifCond .eq 28, 3) := dk_153 0 28 (dk_at dksJ13_init_2_2 3 rfl rfl)
theorem dJ13_init_2_54 : decode cJ13_init_2 54 = .ok (.aload_n 0, 1) := dk_42 (dk_at dksJ13_init_2_2 6 rfl rfl)
theorem dJ13_init_2_55 : decode cJ13_init_2 55 = .ok (.aload_n 3, 1) := dk_45 (dk_at dksJ13_init_2_2 7 rfl rfl)
theorem dJ13_init_2_56 : decode cJ13_init_2 56 = .ok (.iconst 0, 1) := dk_3 (dk_at dksJ13_init_2_2 8 rfl rfl)
theorem dJ13_init_2_57 : decode cJ13_init_2 57 = .ok (.iload 4, 2) := dk_21 4 (dk_at dksJ13_init_2_2 9 rfl rfl)
theorem dJ13_init_2_59 : decode cJ13_init_2 59 = .ok (.invokestatic 1051, 3) := dk_184 4 27 (dk_at dksJ13_init_2_2 11 rfl rfl)
theorem dJ13_init_2_62 : decode cJ13_init_2 62 = .ok (.putfield 9, 3) := dk_181 0 9 (dk_at dksJ13_init_2_2 14 rfl rfl)
theorem dJ13_init_2_65 : decode cJ13_init_2 65 = .ok (.aload_n 0, 1) := dk_42 (dk_at dksJ13_init_2_2 17 rfl rfl)
theorem dJ13_init_2_66 : decode cJ13_init_2 66 = .ok (.aload_n 0, 1) := dk_42 (dk_at dksJ13_init_2_2 18 rfl rfl)
theorem dJ13_init_2_67 : decode cJ13_init_2 67 = .ok (.getfield 9, 3) := dk_180 0 9 (dk_at dksJ13_init_2_2 19 rfl rfl)
theorem dJ13_init_2_70 : decode cJ13_init_2 70 = .ok (.iload 4, 2) := dk_21 4 (dk_at dksJ13_init_2_2 22 rfl rfl)
theorem dJ13_init_2_72 : decode cJ13_init_2 72 = .ok (.invokestatic 47, 3) := dk_184 0 47 (dk_at dksJ13_init_2_3 0 rfl rfl)
theorem dJ13_init_2_75 : decode cJ13_init_2 75 = .ok (.putfield 15, 3) := dk_181 0 15 (dk_at dksJ13_init_2_3 3 rfl rfl)
theorem dJ13_init_2_78 : decode cJ13_init_2 78 = .ok (.return_, 1) := dk_177 (dk_at dksJ13_init_2_3 6 rfl rfl)
theorem dJ13_init_2_79 : decode cJ13_init_2 79 = .ok (.aload_n 0, 1) := dk_42 (dk_at dksJ13_init_2_3 7 rfl rfl)
theorem dJ13_init_2_80 : decode cJ13_init_2 80 = .ok (.iconst 1, 1) := dk_4 (dk_at dksJ13_init_2_3 8 rfl rfl)
theorem dJ13_init_2_81 : decode cJ13_init_2 81 = .ok (.putfield 15, 3) := dk_181 0 15 (dk_at dksJ13_init_2_3 9 rfl rfl)
theorem dJ13_init_2_84 : decode cJ13_init_2 84 = .ok (.aload_n 0, 1) := dk_42 (dk_at dksJ13_init_2_3 12 rfl rfl)
theorem dJ13_init_2_85 : decode cJ13_init_2 85 = .ok (.aload_n 3, 1) := dk_45 (dk_at dksJ13_init_2_3 13 rfl rfl)
theorem dJ13_init_2_86 : decode cJ13_init_2 86 = .ok (.iconst 0, 1) := dk_3 (dk_at dksJ13_init_2_3 14 rfl rfl)
theorem dJ13_init_2_87 : decode cJ13_init_2 87 = .ok (.iload 4, 2) := dk_21 4 (dk_at dksJ13_init_2_3 15 rfl rfl)
theorem dJ13_init_2_89 : decode cJ13_init_2 89 = .ok (.iconst 1, 1) := dk_4 (dk_at dksJ13_init_2_3 17 rfl rfl)
theorem dJ13_init_2_90 : decode cJ13_init_2 90 = .ok (.ishl, 1) := dk_120 (dk_at dksJ13_init_2_3 18 rfl rfl)
theorem dJ13_init_2_91 : decode cJ13_init_2 91 = .ok (.invokestatic 54, 3) := dk_184 0 54 (dk_at dksJ13_init_2_3 19 rfl rfl)
theorem dJ13_init_2_94 : decode cJ13_init_2 94 = .ok (.putfield 9, 3) := dk_181 0 9 (dk_at dksJ13_init_2_4 0 rfl rfl)
theorem dJ13_init_2_97 : decode cJ13_init_2 97 = .ok (.return_, 1) := dk_177 (dk_at dksJ13_init_2_4 3 rfl rfl)
abbrev cJ13_toString : ByteArray := prog_32_method_126_code
def yJ13_toString : MethodName := ⟨RJ13, "toString", "()Ljava/lang/String;"⟩
theorem dJ13_toString_0 : decode cJ13_toString 0 = .ok (.aload_n 0, 1) := by decide +kernel
theorem dJ13_toString_1 : decode cJ13_toString 1 = .ok (.areturn, 1) := by decide +kernel
theorem q110 : (Jvm.Cond.initialized "java/lang/String") ∈ lw_all := lw_g (lw_at lw_m1 21 rfl) rfl
theorem q374 : (Jvm.Cond.selects "java/lang/String" ({ cls := "java/lang/Object", name := "getClass", desc := "()Ljava/lang/Class;" } : Jvm.MethodName) ({ cls := "java/lang/Object", name := "getClass", desc := "()Ljava/lang/Class;" } : Jvm.MethodName)) ∈ lw_all := lw_g (lw_at lw_m2 45 rfl) rfl
theorem q542 : (Jvm.Cond.selects "java/lang/String" ({ cls := "java/lang/Object", name := "hashCode", desc := "()I" } : Jvm.MethodName) ({ cls := "java/lang/String", name := "hashCode", desc := "()I" } : Jvm.MethodName)) ∈ lw_all := lw_g (lw_at lw_m2 213 rfl) rfl
theorem q543 : (Jvm.Cond.instanceMethod ({ cls := "java/lang/String", name := "hashCode", desc := "()I" } : Jvm.MethodName)) ∈ lw_all := lw_g (lw_at lw_m2 214 rfl) rfl
theorem q544 : (Jvm.Cond.code ({ cls := "java/lang/String", name := "hashCode", desc := "()I" } : Jvm.MethodName) prog_32_method_78_code (2 : Nat) (Option.some Jvm.ClassFile.FieldType.int)) ∈ lw_all := lw_g (lw_at lw_m2 215 rfl) rfl
theorem q545 : (Jvm.Cond.methodLink "java/lang/String" (492 : Nat) ({ cls := "java/lang/String", name := "isLatin1", desc := "()Z" } : Jvm.MethodName)) ∈ lw_all := lw_g (lw_at lw_m2 216 rfl) rfl
theorem q546 : (Jvm.Cond.instanceMethod ({ cls := "java/lang/String", name := "isLatin1", desc := "()Z" } : Jvm.MethodName)) ∈ lw_all := lw_g (lw_at lw_m2 217 rfl) rfl
theorem q547 : (Jvm.Cond.selects "java/lang/String" ({ cls := "java/lang/String", name := "isLatin1", desc := "()Z" } : Jvm.MethodName) ({ cls := "java/lang/String", name := "isLatin1", desc := "()Z" } : Jvm.MethodName)) ∈ lw_all := lw_g (lw_at lw_m2 218 rfl) rfl
theorem q548 : (Jvm.Cond.code ({ cls := "java/lang/String", name := "isLatin1", desc := "()Z" } : Jvm.MethodName) prog_32_method_154_code (1 : Nat) (Option.some Jvm.ClassFile.FieldType.boolean)) ∈ lw_all := lw_g (lw_at lw_m2 219 rfl) rfl
theorem q549 : (Jvm.Cond.fieldLink "java/lang/String" (38 : Nat) "java/lang/String" "COMPACT_STRINGS" "Z") ∈ lw_all := lw_g (lw_at lw_m2 220 rfl) rfl
theorem q550 : (Jvm.Cond.laysStatic "java/lang/String" "COMPACT_STRINGS" "Z") ∈ lw_tbl := lw_at lw_m2 221 rfl
theorem q551 : (Jvm.Cond.methodLink "java/lang/String" (628 : Nat) ({ cls := "java/lang/StringLatin1", name := "hashCode", desc := "([B)I" } : Jvm.MethodName)) ∈ lw_all := lw_g (lw_at lw_m2 222 rfl) rfl
theorem q603 : (Jvm.Cond.methodLink "java/lang/String" (632 : Nat) ({ cls := "java/lang/StringUTF16", name := "hashCode", desc := "([B)I" } : Jvm.MethodName)) ∈ lw_all := lw_g (lw_at lw_m3 34 rfl) rfl
theorem q730 : (Jvm.Cond.castable "java/lang/String" "java/lang/Comparable") ∈ lw_tbl := lw_at lw_m3 161 rfl
theorem q731 : (Jvm.Cond.selects "java/lang/String" ({ cls := "java/lang/Comparable", name := "compareTo", desc := "(Ljava/lang/Object;)I" } : Jvm.MethodName) ({ cls := "java/lang/String", name := "compareTo", desc := "(Ljava/lang/Object;)I" } : Jvm.MethodName)) ∈ lw_all := lw_g (lw_at lw_m3 162 rfl) rfl
theorem q732 : (Jvm.Cond.unhidden "java/lang/String" "compareTo" "(Ljava/lang/Object;)I") ∈ lw_tbl := lw_at lw_m3 163 rfl
theorem q733 : (Jvm.Cond.instanceMethod ({ cls := "java/lang/String", name := "compareTo", desc := "(Ljava/lang/Object;)I" } : Jvm.MethodName)) ∈ lw_all := lw_g (lw_at lw_m3 164 rfl) rfl
theorem q734 : (Jvm.Cond.publicMethod ({ cls := "java/lang/String", name := "compareTo", desc := "(Ljava/lang/Object;)I" } : Jvm.MethodName)) ∈ lw_tbl := lw_at lw_m3 165 rfl
theorem q735 : (Jvm.Cond.code ({ cls := "java/lang/String", name := "compareTo", desc := "(Ljava/lang/Object;)I" } : Jvm.MethodName) prog_32_method_162_code (2 : Nat) (Option.some Jvm.ClassFile.FieldType.int)) ∈ lw_all := lw_g (lw_at lw_m3 166 rfl) rfl
theorem q736 : (Jvm.Cond.classLink "java/lang/String" (10 : Nat) "java/lang/String") ∈ lw_all := lw_g (lw_at lw_m3 167 rfl) rfl
theorem q737 : (Jvm.Cond.methodLink "java/lang/String" (1084 : Nat) ({ cls := "java/lang/String", name := "compareTo", desc := "(Ljava/lang/String;)I" } : Jvm.MethodName)) ∈ lw_all := lw_g (lw_at lw_m3 168 rfl) rfl
theorem q738 : (Jvm.Cond.instanceMethod ({ cls := "java/lang/String", name := "compareTo", desc := "(Ljava/lang/String;)I" } : Jvm.MethodName)) ∈ lw_all := lw_g (lw_at lw_m3 169 rfl) rfl
theorem q739 : (Jvm.Cond.selects "java/lang/String" ({ cls := "java/lang/String", name := "compareTo", desc := "(Ljava/lang/String;)I" } : Jvm.MethodName) ({ cls := "java/lang/String", name := "compareTo", desc := "(Ljava/lang/String;)I" } : Jvm.MethodName)) ∈ lw_all := lw_g (lw_at lw_m3 170 rfl) rfl
theorem q740 : (Jvm.Cond.code ({ cls := "java/lang/String", name := "compareTo", desc := "(Ljava/lang/String;)I" } : Jvm.MethodName) prog_32_method_71_code (5 : Nat) (Option.some Jvm.ClassFile.FieldType.int)) ∈ lw_all := lw_g (lw_at lw_m3 171 rfl) rfl
theorem q741 : (Jvm.Cond.methodLink "java/lang/String" (335 : Nat) ({ cls := "java/lang/String", name := "coder", desc := "()B" } : Jvm.MethodName)) ∈ lw_all := lw_g (lw_at lw_m3 172 rfl) rfl
theorem q742 : (Jvm.Cond.instanceMethod ({ cls := "java/lang/String", name := "coder", desc := "()B" } : Jvm.MethodName)) ∈ lw_all := lw_g (lw_at lw_m3 173 rfl) rfl
theorem q743 : (Jvm.Cond.selects "java/lang/String" ({ cls := "java/lang/String", name := "coder", desc := "()B" } : Jvm.MethodName) ({ cls := "java/lang/String", name := "coder", desc := "()B" } : Jvm.MethodName)) ∈ lw_all := lw_g (lw_at lw_m3 174 rfl) rfl
theorem q744 : (Jvm.Cond.code ({ cls := "java/lang/String", name := "coder", desc := "()B" } : Jvm.MethodName) prog_32_method_152_code (1 : Nat) (Option.some Jvm.ClassFile.FieldType.byte)) ∈ lw_all := lw_g (lw_at lw_m3 175 rfl) rfl
theorem q745 : (Jvm.Cond.methodLink "java/lang/String" (586 : Nat) ({ cls := "java/lang/StringLatin1", name := "compareTo", desc := "([B[B)I" } : Jvm.MethodName)) ∈ lw_all := lw_g (lw_at lw_m3 176 rfl) rfl
theorem q859 : (Jvm.Cond.methodLink "java/lang/String" (590 : Nat) ({ cls := "java/lang/StringUTF16", name := "compareTo", desc := "([B[B)I" } : Jvm.MethodName)) ∈ lw_all := lw_g (lw_at lw_m4 50 rfl) rfl
theorem q866 : (Jvm.Cond.methodLink "java/lang/String" (591 : Nat) ({ cls := "java/lang/StringLatin1", name := "compareToUTF16", desc := "([B[B)I" } : Jvm.MethodName)) ∈ lw_all := lw_g (lw_at lw_m4 57 rfl) rfl
theorem q877 : (Jvm.Cond.methodLink "java/lang/String" (594 : Nat) ({ cls := "java/lang/StringUTF16", name := "compareToLatin1", desc := "([B[B)I" } : Jvm.MethodName)) ∈ lw_all := lw_g (lw_at lw_m4 68 rfl) rfl
theorem q910 : (Jvm.Cond.static ({ cls := "java/lang/String", name := "checkOffset", desc := "(II)V" } : Jvm.MethodName)) ∈ lw_all := lw_g (lw_at lw_m4 101 rfl) rfl
theorem q911 : (Jvm.Cond.code ({ cls := "java/lang/String", name := "checkOffset", desc := "(II)V" } : Jvm.MethodName) prog_32_method_156_code (2 : Nat) (Option.none : Option Jvm.ClassFile.FieldType)) ∈ lw_all := lw_g (lw_at lw_m4 102 rfl) rfl
theorem q912 : (Jvm.Cond.fieldLink "java/lang/String" (1053 : Nat) "jdk/internal/util/Preconditions" "SIOOBE_FORMATTER" "Ljava/util/function/BiFunction;") ∈ lw_all := lw_g (lw_at lw_m4 103 rfl) rfl
theorem q914 : (Jvm.Cond.methodLink "java/lang/String" (1062 : Nat) ({ cls := "jdk/internal/util/Preconditions", name := "checkFromToIndex", desc := "(IIILjava/util/function/BiFunction;)I" } : Jvm.MethodName)) ∈ lw_all := lw_g (lw_at lw_m4 105 rfl) rfl
theorem q978 : (Jvm.Cond.selects "java/lang/String" ({ cls := "java/lang/Object", name := "equals", desc := "(Ljava/lang/Object;)Z" } : Jvm.MethodName) ({ cls := "java/lang/String", name := "equals", desc := "(Ljava/lang/Object;)Z" } : Jvm.MethodName)) ∈ lw_all := lw_g (lw_at lw_m4 169 rfl) rfl
theorem q979 : (Jvm.Cond.instanceMethod ({ cls := "java/lang/String", name := "equals", desc := "(Ljava/lang/Object;)Z" } : Jvm.MethodName)) ∈ lw_all := lw_g (lw_at lw_m4 170 rfl) rfl
theorem q980 : (Jvm.Cond.code ({ cls := "java/lang/String", name := "equals", desc := "(Ljava/lang/Object;)Z" } : Jvm.MethodName) prog_32_method_66_code (3 : Nat) (Option.some Jvm.ClassFile.FieldType.boolean)) ∈ lw_all := lw_g (lw_at lw_m4 171 rfl) rfl
theorem q981 : (Jvm.Cond.methodLink "java/lang/String" (541 : Nat) ({ cls := "java/lang/StringLatin1", name := "equals", desc := "([B[B)Z" } : Jvm.MethodName)) ∈ lw_all := lw_g (lw_at lw_m4 172 rfl) rfl
theorem q1709 : (Jvm.Cond.fieldLink "java/lang/String" (1048 : Nat) "java/lang/AbstractStringBuilder" "maybeLatin1" "Z") ∈ lw_all := lw_g (lw_at lw_m7 180 rfl) rfl
theorem q1762 : (Jvm.Cond.static ({ cls := "java/lang/String", name := "checkBoundsOffCount", desc := "(III)I" } : Jvm.MethodName)) ∈ lw_all := lw_g (lw_at lw_m7 233 rfl) rfl
theorem q1763 : (Jvm.Cond.code ({ cls := "java/lang/String", name := "checkBoundsOffCount", desc := "(III)I" } : Jvm.MethodName) prog_32_method_157_code (3 : Nat) (Option.some Jvm.ClassFile.FieldType.int)) ∈ lw_all := lw_g (lw_at lw_m7 234 rfl) rfl
theorem q1764 : (Jvm.Cond.methodLink "java/lang/String" (1065 : Nat) ({ cls := "jdk/internal/util/Preconditions", name := "checkFromIndexSize", desc := "(IIILjava/util/function/BiFunction;)I" } : Jvm.MethodName)) ∈ lw_all := lw_g (lw_at lw_m7 235 rfl) rfl
theorem q1777 : (Jvm.Cond.static ({ cls := "java/lang/String", name := "checkIndex", desc := "(II)V" } : Jvm.MethodName)) ∈ lw_all := lw_g (lw_at lw_m8 8 rfl) rfl
theorem q1778 : (Jvm.Cond.code ({ cls := "java/lang/String", name := "checkIndex", desc := "(II)V" } : Jvm.MethodName) prog_32_method_155_code (2 : Nat) (Option.none : Option Jvm.ClassFile.FieldType)) ∈ lw_all := lw_g (lw_at lw_m8 9 rfl) rfl
theorem q1779 : (Jvm.Cond.methodLink "java/lang/String" (1059 : Nat) ({ cls := "jdk/internal/util/Preconditions", name := "checkIndex", desc := "(IILjava/util/function/BiFunction;)I" } : Jvm.MethodName)) ∈ lw_all := lw_g (lw_at lw_m8 10 rfl) rfl
theorem q1785 : (Jvm.Cond.instantiable "java/lang/String" (4 : Nat)) ∈ lw_all := lw_g (lw_at lw_m8 16 rfl) rfl
theorem q1787 : (Jvm.Cond.instanceMethod ({ cls := "java/lang/String", name := "<init>", desc := "(Ljava/lang/StringBuilder;)V" } : Jvm.MethodName)) ∈ lw_all := lw_g (lw_at lw_m8 18 rfl) rfl
theorem q1788 : (Jvm.Cond.code ({ cls := "java/lang/String", name := "<init>", desc := "(Ljava/lang/StringBuilder;)V" } : Jvm.MethodName) prog_32_method_53_code (2 : Nat) (Option.none : Option Jvm.ClassFile.FieldType)) ∈ lw_all := lw_g (lw_at lw_m8 19 rfl) rfl
theorem q1789 : (Jvm.Cond.methodLink "java/lang/String" (489 : Nat) ({ cls := "java/lang/String", name := "<init>", desc := "(Ljava/lang/AbstractStringBuilder;Ljava/lang/Void;)V" } : Jvm.MethodName)) ∈ lw_all := lw_g (lw_at lw_m8 20 rfl) rfl
theorem q1790 : (Jvm.Cond.instanceMethod ({ cls := "java/lang/String", name := "<init>", desc := "(Ljava/lang/AbstractStringBuilder;Ljava/lang/Void;)V" } : Jvm.MethodName)) ∈ lw_all := lw_g (lw_at lw_m8 21 rfl) rfl
theorem q1791 : (Jvm.Cond.code ({ cls := "java/lang/String", name := "<init>", desc := "(Ljava/lang/AbstractStringBuilder;Ljava/lang/Void;)V" } : Jvm.MethodName) prog_32_method_150_code (5 : Nat) (Option.none : Option Jvm.ClassFile.FieldType)) ∈ lw_all := lw_g (lw_at lw_m8 22 rfl) rfl
theorem q1792 : (Jvm.Cond.methodLink "java/lang/String" (1 : Nat) ({ cls := "java/lang/Object", name := "<init>", desc := "()V" } : Jvm.MethodName)) ∈ lw_all := lw_g (lw_at lw_m8 23 rfl) rfl
theorem q1793 : (Jvm.Cond.methodLink "java/lang/String" (552 : Nat) ({ cls := "java/lang/AbstractStringBuilder", name := "getValue", desc := "()[B" } : Jvm.MethodName)) ∈ lw_all := lw_g (lw_at lw_m8 24 rfl) rfl
theorem q1798 : (Jvm.Cond.methodLink "java/lang/String" (549 : Nat) ({ cls := "java/lang/AbstractStringBuilder", name := "length", desc := "()I" } : Jvm.MethodName)) ∈ lw_all := lw_g (lw_at lw_m8 29 rfl) rfl
theorem q1806 : (Jvm.Cond.methodLink "java/lang/String" (1047 : Nat) ({ cls := "java/lang/AbstractStringBuilder", name := "isLatin1", desc := "()Z" } : Jvm.MethodName)) ∈ lw_all := lw_g (lw_at lw_m8 37 rfl) rfl
theorem q1807 : (Jvm.Cond.methodLink "java/lang/String" (54 : Nat) ({ cls := "java/util/Arrays", name := "copyOfRange", desc := "([BII)[B" } : Jvm.MethodName)) ∈ lw_all := lw_g (lw_at lw_m8 38 rfl) rfl
theorem q1816 : (Jvm.Cond.methodLink "java/lang/String" (1051 : Nat) ({ cls := "java/lang/StringUTF16", name := "compress", desc := "([BII)[B" } : Jvm.MethodName)) ∈ lw_all := lw_g (lw_at lw_m8 47 rfl) rfl
theorem q1823 : (Jvm.Cond.methodLink "java/lang/String" (47 : Nat) ({ cls := "java/lang/StringUTF16", name := "coderFromArrayLen", desc := "([BI)B" } : Jvm.MethodName)) ∈ lw_all := lw_g (lw_at lw_m8 54 rfl) rfl
theorem q1826 : (Jvm.Cond.fieldLink "java/lang/String" (9 : Nat) "java/lang/String" "value" "[B") ∈ lw_all := lw_g (lw_at lw_m8 57 rfl) rfl
theorem q1827 : (Jvm.Cond.fieldLink "java/lang/String" (15 : Nat) "java/lang/String" "coder" "B") ∈ lw_all := lw_g (lw_at lw_m8 58 rfl) rfl
theorem q1828 : (Jvm.Cond.fieldLink "java/lang/String" (19 : Nat) "java/lang/String" "hash" "I") ∈ lw_all := lw_g (lw_at lw_m8 59 rfl) rfl
theorem q1829 : (Jvm.Cond.fieldLink "java/lang/String" (23 : Nat) "java/lang/String" "hashIsZero" "Z") ∈ lw_all := lw_g (lw_at lw_m8 60 rfl) rfl
theorem q1830 : (Jvm.Cond.laysFinal "java/lang/String" "java/lang/String" "value" "[B") ∈ lw_all := lw_g (lw_at lw_m8 61 rfl) rfl
theorem q1831 : (Jvm.Cond.soleField "java/lang/String" "value") ∈ lw_all := lw_g (lw_at lw_m8 62 rfl) rfl
theorem q1832 : (Jvm.Cond.laysFinal "java/lang/String" "java/lang/String" "coder" "B") ∈ lw_all := lw_g (lw_at lw_m8 63 rfl) rfl
theorem q1833 : (Jvm.Cond.soleField "java/lang/String" "coder") ∈ lw_all := lw_g (lw_at lw_m8 64 rfl) rfl
theorem q1834 : (Jvm.Cond.lays "java/lang/String" "java/lang/String" "hash" "I") ∈ lw_all := lw_g (lw_at lw_m8 65 rfl) rfl
theorem q1835 : (Jvm.Cond.soleField "java/lang/String" "hash") ∈ lw_all := lw_g (lw_at lw_m8 66 rfl) rfl
theorem q1836 : (Jvm.Cond.lays "java/lang/String" "java/lang/String" "hashIsZero" "Z") ∈ lw_all := lw_g (lw_at lw_m8 67 rfl) rfl
theorem q1837 : (Jvm.Cond.soleField "java/lang/String" "hashIsZero") ∈ lw_all := lw_g (lw_at lw_m8 68 rfl) rfl
theorem q1838 : (Jvm.Cond.superclass "java/lang/String" "java/lang/Object") ∈ lw_all := lw_g (lw_at lw_m8 69 rfl) rfl
theorem q1839 : (Jvm.Cond.castable "java/lang/String" "java/lang/CharSequence") ∈ lw_tbl := lw_at lw_m8 70 rfl
theorem q1840 : (Jvm.Cond.selects "java/lang/String" ({ cls := "java/lang/CharSequence", name := "toString", desc := "()Ljava/lang/String;" } : Jvm.MethodName) ({ cls := "java/lang/String", name := "toString", desc := "()Ljava/lang/String;" } : Jvm.MethodName)) ∈ lw_all := lw_g (lw_at lw_m8 71 rfl) rfl
theorem q1841 : (Jvm.Cond.unhidden "java/lang/String" "toString" "()Ljava/lang/String;") ∈ lw_tbl := lw_at lw_m8 72 rfl
theorem q1842 : (Jvm.Cond.instanceMethod ({ cls := "java/lang/String", name := "toString", desc := "()Ljava/lang/String;" } : Jvm.MethodName)) ∈ lw_all := lw_g (lw_at lw_m8 73 rfl) rfl
theorem q1843 : (Jvm.Cond.publicMethod ({ cls := "java/lang/String", name := "toString", desc := "()Ljava/lang/String;" } : Jvm.MethodName)) ∈ lw_tbl := lw_at lw_m8 74 rfl
theorem q1844 : (Jvm.Cond.code ({ cls := "java/lang/String", name := "toString", desc := "()Ljava/lang/String;" } : Jvm.MethodName) prog_32_method_126_code (1 : Nat) (Option.some (Jvm.ClassFile.FieldType.object "java/lang/String"))) ∈ lw_all := lw_g (lw_at lw_m8 75 rfl) rfl
theorem q2447 : (Jvm.Cond.selects "java/lang/String" ({ cls := "java/lang/String", name := "hashCode", desc := "()I" } : Jvm.MethodName) ({ cls := "java/lang/String", name := "hashCode", desc := "()I" } : Jvm.MethodName)) ∈ lw_all := lw_g (lw_at lw_m10 198 rfl) rfl
theorem q2448 : (Jvm.Cond.selects "java/lang/String" ({ cls := "java/lang/String", name := "equals", desc := "(Ljava/lang/Object;)Z" } : Jvm.MethodName) ({ cls := "java/lang/String", name := "equals", desc := "(Ljava/lang/Object;)Z" } : Jvm.MethodName)) ∈ lw_all := lw_g (lw_at lw_m10 199 rfl) rfl
theorem q2476 : (Jvm.Cond.castable "java/lang/String" "java/lang/Object") ∈ lw_tbl := lw_at lw_m10 227 rfl
theorem in_J13 : ∀ w ∈ wsJ130, w ∈ lw_all := lw_in wsJ130 [1830, 1832, 1834, 1836] (by decide +kernel) (by decide +kernel)

/-! java/lang/StringLatin1 -/
set_option maxRecDepth 100000
def RJ14 : String := "java/lang/StringLatin1"
abbrev cJ14_hashCode : ByteArray := prog_34_method_21_code
def yJ14_hashCode : MethodName := ⟨RJ14, "hashCode", "([B)I"⟩
def dkwJ14_hashCode_2 : List UInt8 := [3, 167, 0, 22, 42, 3, 51, 17, 0, 255, 126, 167, 0, 12, 42, 3, 42, 190, 3, 7, 184, 0, 84, 172]
abbrev dktJ14_hashCode_2 : List UInt8 := dkwJ14_hashCode_2 ++ []
def dkwJ14_hashCode_1 : List UInt8 := [171, 0, 0, 0, 0, 40, 0, 0, 0, 2, 0, 0, 0, 0, 0, 0, 0, 26, 0, 0, 0, 1, 0, 0, 0, 30]
abbrev dktJ14_hashCode_1 : List UInt8 := dkwJ14_hashCode_1 ++ dktJ14_hashCode_2
def dkwJ14_hashCode_0 : List UInt8 := [42, 190]
abbrev dktJ14_hashCode_0 : List UInt8 := dkwJ14_hashCode_0 ++ dktJ14_hashCode_1
theorem dksJ14_hashCode_0 : cJ14_hashCode.data.toList.drop 0 = dktJ14_hashCode_0 := by decide +kernel
theorem dksJ14_hashCode_1 : cJ14_hashCode.data.toList.drop 2 = dktJ14_hashCode_1 := dk_seg dksJ14_hashCode_0 2 rfl rfl
theorem dksJ14_hashCode_2 : cJ14_hashCode.data.toList.drop 28 = dktJ14_hashCode_2 := dk_seg dksJ14_hashCode_1 26 rfl rfl
theorem dJ14_hashCode_0 : decode cJ14_hashCode 0 = .ok (.aload_n 0, 1) := dk_42 (dk_at dksJ14_hashCode_0 0 rfl rfl)
theorem dJ14_hashCode_1 : decode cJ14_hashCode 1 = .ok (.arraylength, 1) := dk_190 (dk_at dksJ14_hashCode_0 1 rfl rfl)
theorem dJ14_hashCode_2 : decode cJ14_hashCode 2 = .ok (.lookupswitch 40 #[(0, 26), (1, 30)], 26) := by decide +kernel
theorem dJ14_hashCode_28 : decode cJ14_hashCode 28 = .ok (.iconst 0, 1) := dk_3 (dk_at dksJ14_hashCode_2 0 rfl rfl)
theorem dJ14_hashCode_29 : decode cJ14_hashCode 29 = .ok (.goto 22, 3) := dk_167 0 22 (dk_at dksJ14_hashCode_2 1 rfl rfl)
theorem dJ14_hashCode_32 : decode cJ14_hashCode 32 = .ok (.aload_n 0, 1) := dk_42 (dk_at dksJ14_hashCode_2 4 rfl rfl)
theorem dJ14_hashCode_33 : decode cJ14_hashCode 33 = .ok (.iconst 0, 1) := dk_3 (dk_at dksJ14_hashCode_2 5 rfl rfl)
theorem dJ14_hashCode_34 : decode cJ14_hashCode 34 = .ok (.baload, 1) := dk_51 (dk_at dksJ14_hashCode_2 6 rfl rfl)
theorem dJ14_hashCode_35 : decode cJ14_hashCode 35 = .ok (.sipush 255, 3) := dk_17 0 255 (dk_at dksJ14_hashCode_2 7 rfl rfl)
theorem dJ14_hashCode_38 : decode cJ14_hashCode 38 = .ok (.iand, 1) := dk_126 (dk_at dksJ14_hashCode_2 10 rfl rfl)
theorem dJ14_hashCode_39 : decode cJ14_hashCode 39 = .ok (.goto 12, 3) := dk_167 0 12 (dk_at dksJ14_hashCode_2 11 rfl rfl)
theorem dJ14_hashCode_42 : decode cJ14_hashCode 42 = .ok (.aload_n 0, 1) := dk_42 (dk_at dksJ14_hashCode_2 14 rfl rfl)
theorem dJ14_hashCode_43 : decode cJ14_hashCode 43 = .ok (.iconst 0, 1) := dk_3 (dk_at dksJ14_hashCode_2 15 rfl rfl)
theorem dJ14_hashCode_44 : decode cJ14_hashCode 44 = .ok (.aload_n 0, 1) := dk_42 (dk_at dksJ14_hashCode_2 16 rfl rfl)
theorem dJ14_hashCode_45 : decode cJ14_hashCode 45 = .ok (.arraylength, 1) := dk_190 (dk_at dksJ14_hashCode_2 17 rfl rfl)
theorem dJ14_hashCode_46 : decode cJ14_hashCode 46 = .ok (.iconst 0, 1) := dk_3 (dk_at dksJ14_hashCode_2 18 rfl rfl)
theorem dJ14_hashCode_47 : decode cJ14_hashCode 47 = .ok (.iconst 4, 1) := dk_7 (dk_at dksJ14_hashCode_2 19 rfl rfl)
theorem dJ14_hashCode_48 : decode cJ14_hashCode 48 = .ok (.invokestatic 84, 3) := dk_184 0 84 (dk_at dksJ14_hashCode_2 20 rfl rfl)
theorem dJ14_hashCode_51 : decode cJ14_hashCode 51 = .ok (.ireturn, 1) := dk_172 (dk_at dksJ14_hashCode_2 23 rfl rfl)
abbrev cJ14_compareTo : ByteArray := prog_34_method_14_code
def yJ14_compareTo : MethodName := ⟨RJ14, "compareTo", "([B[B)I"⟩
def dkwJ14_compareTo_0 : List UInt8 := [42, 190, 61, 43, 190, 62, 42, 43, 28, 29, 184, 0, 34, 172]
abbrev dktJ14_compareTo_0 : List UInt8 := dkwJ14_compareTo_0 ++ []
theorem dksJ14_compareTo_0 : cJ14_compareTo.data.toList.drop 0 = dktJ14_compareTo_0 := by decide +kernel
theorem dJ14_compareTo_0 : decode cJ14_compareTo 0 = .ok (.aload_n 0, 1) := dk_42 (dk_at dksJ14_compareTo_0 0 rfl rfl)
theorem dJ14_compareTo_1 : decode cJ14_compareTo 1 = .ok (.arraylength, 1) := dk_190 (dk_at dksJ14_compareTo_0 1 rfl rfl)
theorem dJ14_compareTo_2 : decode cJ14_compareTo 2 = .ok (.istore_n 2, 1) := dk_61 (dk_at dksJ14_compareTo_0 2 rfl rfl)
theorem dJ14_compareTo_3 : decode cJ14_compareTo 3 = .ok (.aload_n 1, 1) := dk_43 (dk_at dksJ14_compareTo_0 3 rfl rfl)
theorem dJ14_compareTo_4 : decode cJ14_compareTo 4 = .ok (.arraylength, 1) := dk_190 (dk_at dksJ14_compareTo_0 4 rfl rfl)
theorem dJ14_compareTo_5 : decode cJ14_compareTo 5 = .ok (.istore_n 3, 1) := dk_62 (dk_at dksJ14_compareTo_0 5 rfl rfl)
theorem dJ14_compareTo_6 : decode cJ14_compareTo 6 = .ok (.aload_n 0, 1) := dk_42 (dk_at dksJ14_compareTo_0 6 rfl rfl)
theorem dJ14_compareTo_7 : decode cJ14_compareTo 7 = .ok (.aload_n 1, 1) := dk_43 (dk_at dksJ14_compareTo_0 7 rfl rfl)
theorem dJ14_compareTo_8 : decode cJ14_compareTo 8 = .ok (.iload_n 2, 1) := dk_28 (dk_at dksJ14_compareTo_0 8 rfl rfl)
theorem dJ14_compareTo_9 : decode cJ14_compareTo 9 = .ok (.iload_n 3, 1) := dk_29 (dk_at dksJ14_compareTo_0 9 rfl rfl)
theorem dJ14_compareTo_10 : decode cJ14_compareTo 10 = .ok (.invokestatic 34, 3) := dk_184 0 34 (dk_at dksJ14_compareTo_0 10 rfl rfl)
theorem dJ14_compareTo_13 : decode cJ14_compareTo 13 = .ok (.ireturn, 1) := dk_172 (dk_at dksJ14_compareTo_0 13 rfl rfl)
abbrev cJ14_compareTo_2 : ByteArray := prog_34_method_15_code
def yJ14_compareTo_2 : MethodName := ⟨RJ14, "compareTo", "([B[BII)I"⟩
def dkwJ14_compareTo_2_1 : List UInt8 := [167, 0, 16, 42, 21, 5, 184, 0, 50, 43, 21, 5, 184, 0, 50, 100, 172]
abbrev dktJ14_compareTo_2_1 : List UInt8 := dkwJ14_compareTo_2_1 ++ []
def dkwJ14_compareTo_2_0 : List UInt8 := [28, 29, 184, 0, 38, 54, 4, 42, 43, 21, 4, 184, 0, 44, 54, 5, 21, 5, 156, 0, 9, 28, 29, 100]
abbrev dktJ14_compareTo_2_0 : List UInt8 := dkwJ14_compareTo_2_0 ++ dktJ14_compareTo_2_1
theorem dksJ14_compareTo_2_0 : cJ14_compareTo_2.data.toList.drop 0 = dktJ14_compareTo_2_0 := by decide +kernel
theorem dksJ14_compareTo_2_1 : cJ14_compareTo_2.data.toList.drop 24 = dktJ14_compareTo_2_1 := dk_seg dksJ14_compareTo_2_0 24 rfl rfl
theorem dJ14_compareTo_2_0 : decode cJ14_compareTo_2 0 = .ok (.iload_n 2, 1) := dk_28 (dk_at dksJ14_compareTo_2_0 0 rfl rfl)
theorem dJ14_compareTo_2_1 : decode cJ14_compareTo_2 1 = .ok (.iload_n 3, 1) := dk_29 (dk_at dksJ14_compareTo_2_0 1 rfl rfl)
theorem dJ14_compareTo_2_2 : decode cJ14_compareTo_2 2 = .ok (.invokestatic 38, 3) := dk_184 0 38 (dk_at dksJ14_compareTo_2_0 2 rfl rfl)
theorem dJ14_compareTo_2_5 : decode cJ14_compareTo_2 5 = .ok (.istore 4, 2) := dk_54 4 (dk_at dksJ14_compareTo_2_0 5 rfl rfl)
theorem dJ14_compareTo_2_7 : decode cJ14_compareTo_2 7 = .ok (.aload_n 0, 1) := dk_42 (dk_at dksJ14_compareTo_2_0 7 rfl rfl)
theorem dJ14_compareTo_2_8 : decode cJ14_compareTo_2 8 = .ok (.aload_n 1, 1) := dk_43 (dk_at dksJ14_compareTo_2_0 8 rfl rfl)
theorem dJ14_compareTo_2_9 : decode cJ14_compareTo_2 9 = .ok (.iload 4, 2) := dk_21 4 (dk_at dksJ14_compareTo_2_0 9 rfl rfl)
theorem dJ14_compareTo_2_11 : decode cJ14_compareTo_2 11 = .ok (.invokestatic 44, 3) := dk_184 0 44 (dk_at dksJ14_compareTo_2_0 11 rfl rfl)
theorem dJ14_compareTo_2_14 : decode cJ14_compareTo_2 14 = .ok (.istore 5, 2) := dk_54 5 (dk_at dksJ14_compareTo_2_0 14 rfl rfl)
theorem dJ14_compareTo_2_16 : decode cJ14_compareTo_2 16 = .ok (.iload 5, 2) := dk_21 5 (dk_at dksJ14_compareTo_2_0 16 rfl rfl)
theorem dJ14_compareTo_2_18 : decode cJ14_compareTo_2 18 = .ok (.ifCond .ge 9, 3) := dk_156 0 9 (dk_at dksJ14_compareTo_2_0 18 rfl rfl)
theorem dJ14_compareTo_2_21 : decode cJ14_compareTo_2 21 = .ok (.iload_n 2, 1) := dk_28 (dk_at dksJ14_compareTo_2_0 21 rfl rfl)
theorem dJ14_compareTo_2_22 : decode cJ14_compareTo_2 22 = .ok (.iload_n 3, 1) := dk_29 (dk_at dksJ14_compareTo_2_0 22 rfl rfl)
theorem dJ14_compareTo_2_23 : decode cJ14_compareTo_2 23 = .ok (.isub, 1) := dk_100 (dk_at dksJ14_compareTo_2_0 23 rfl rfl)
theorem dJ14_compareTo_2_24 : decode cJ14_compareTo_2 24 = .ok (.goto 16, 3) := dk_167 0 16 (dk_at dksJ14_compareTo_2_1 0 rfl rfl)
theorem dJ14_compareTo_2_27 : decode cJ14_compareTo_2 27 = .ok (.aload_n 0, 1) := dk_42 (dk_at dksJ14_compareTo_2_1 3 rfl rfl)
theorem dJ14_compareTo_2_28 : decode cJ14_compareTo_2 28 = .ok (.iload 5, 2) := dk_21 5 (dk_at dksJ14_compareTo_2_1 4 rfl rfl)
theorem dJ14_compareTo_2_30 : decode cJ14_compareTo_2 30 = .ok (.invokestatic 50, 3) := dk_184 0 50 (dk_at dksJ14_compareTo_2_1 6 rfl rfl)
theorem dJ14_compareTo_2_33 : decode cJ14_compareTo_2 33 = .ok (.aload_n 1, 1) := dk_43 (dk_at dksJ14_compareTo_2_1 9 rfl rfl)
theorem dJ14_compareTo_2_34 : decode cJ14_compareTo_2 34 = .ok (.iload 5, 2) := dk_21 5 (dk_at dksJ14_compareTo_2_1 10 rfl rfl)
theorem dJ14_compareTo_2_36 : decode cJ14_compareTo_2 36 = .ok (.invokestatic 50, 3) := dk_184 0 50 (dk_at dksJ14_compareTo_2_1 12 rfl rfl)
theorem dJ14_compareTo_2_39 : decode cJ14_compareTo_2 39 = .ok (.isub, 1) := dk_100 (dk_at dksJ14_compareTo_2_1 15 rfl rfl)
theorem dJ14_compareTo_2_40 : decode cJ14_compareTo_2 40 = .ok (.ireturn, 1) := dk_172 (dk_at dksJ14_compareTo_2_1 16 rfl rfl)
abbrev cJ14_getChar : ByteArray := prog_34_method_44_code
def yJ14_getChar : MethodName := ⟨RJ14, "getChar", "([BI)C"⟩
def dkwJ14_getChar_0 : List UInt8 := [42, 27, 51, 17, 0, 255, 126, 146, 172]
abbrev dktJ14_getChar_0 : List UInt8 := dkwJ14_getChar_0 ++ []
theorem dksJ14_getChar_0 : cJ14_getChar.data.toList.drop 0 = dktJ14_getChar_0 := by decide +kernel
theorem dJ14_getChar_0 : decode cJ14_getChar 0 = .ok (.aload_n 0, 1) := dk_42 (dk_at dksJ14_getChar_0 0 rfl rfl)
theorem dJ14_getChar_1 : decode cJ14_getChar 1 = .ok (.iload_n 1, 1) := dk_27 (dk_at dksJ14_getChar_0 1 rfl rfl)
theorem dJ14_getChar_2 : decode cJ14_getChar 2 = .ok (.baload, 1) := dk_51 (dk_at dksJ14_getChar_0 2 rfl rfl)
theorem dJ14_getChar_3 : decode cJ14_getChar 3 = .ok (.sipush 255, 3) := dk_17 0 255 (dk_at dksJ14_getChar_0 3 rfl rfl)
theorem dJ14_getChar_6 : decode cJ14_getChar 6 = .ok (.iand, 1) := dk_126 (dk_at dksJ14_getChar_0 6 rfl rfl)
theorem dJ14_getChar_7 : decode cJ14_getChar 7 = .ok (.i2c, 1) := dk_146 (dk_at dksJ14_getChar_0 7 rfl rfl)
theorem dJ14_getChar_8 : decode cJ14_getChar 8 = .ok (.ireturn, 1) := dk_172 (dk_at dksJ14_getChar_0 8 rfl rfl)
abbrev cJ14_compareToUTF16 : ByteArray := prog_34_method_16_code
def yJ14_compareToUTF16 : MethodName := ⟨RJ14, "compareToUTF16", "([B[B)I"⟩
def dkwJ14_compareToUTF16_0 : List UInt8 := [42, 184, 0, 54, 61, 43, 184, 0, 58, 62, 42, 43, 28, 29, 184, 0, 59, 172]
abbrev dktJ14_compareToUTF16_0 : List UInt8 := dkwJ14_compareToUTF16_0 ++ []
theorem dksJ14_compareToUTF16_0 : cJ14_compareToUTF16.data.toList.drop 0 = dktJ14_compareToUTF16_0 := by decide +kernel
theorem dJ14_compareToUTF16_0 : decode cJ14_compareToUTF16 0 = .ok (.aload_n 0, 1) := dk_42 (dk_at dksJ14_compareToUTF16_0 0 rfl rfl)
theorem dJ14_compareToUTF16_1 : decode cJ14_compareToUTF16 1 = .ok (.invokestatic 54, 3) := dk_184 0 54 (dk_at dksJ14_compareToUTF16_0 1 rfl rfl)
theorem dJ14_compareToUTF16_4 : decode cJ14_compareToUTF16 4 = .ok (.istore_n 2, 1) := dk_61 (dk_at dksJ14_compareToUTF16_0 4 rfl rfl)
theorem dJ14_compareToUTF16_5 : decode cJ14_compareToUTF16 5 = .ok (.aload_n 1, 1) := dk_43 (dk_at dksJ14_compareToUTF16_0 5 rfl rfl)
theorem dJ14_compareToUTF16_6 : decode cJ14_compareToUTF16 6 = .ok (.invokestatic 58, 3) := dk_184 0 58 (dk_at dksJ14_compareToUTF16_0 6 rfl rfl)
theorem dJ14_compareToUTF16_9 : decode cJ14_compareToUTF16 9 = .ok (.istore_n 3, 1) := dk_62 (dk_at dksJ14_compareToUTF16_0 9 rfl rfl)
theorem dJ14_compareToUTF16_10 : decode cJ14_compareToUTF16 10 = .ok (.aload_n 0, 1) := dk_42 (dk_at dksJ14_compareToUTF16_0 10 rfl rfl)
theorem dJ14_compareToUTF16_11 : decode cJ14_compareToUTF16 11 = .ok (.aload_n 1, 1) := dk_43 (dk_at dksJ14_compareToUTF16_0 11 rfl rfl)
theorem dJ14_compareToUTF16_12 : decode cJ14_compareToUTF16 12 = .ok (.iload_n 2, 1) := dk_28 (dk_at dksJ14_compareToUTF16_0 12 rfl rfl)
theorem dJ14_compareToUTF16_13 : decode cJ14_compareToUTF16 13 = .ok (.iload_n 3, 1) := dk_29 (dk_at dksJ14_compareToUTF16_0 13 rfl rfl)
theorem dJ14_compareToUTF16_14 : decode cJ14_compareToUTF16 14 = .ok (.invokestatic 59, 3) := dk_184 0 59 (dk_at dksJ14_compareToUTF16_0 14 rfl rfl)
theorem dJ14_compareToUTF16_17 : decode cJ14_compareToUTF16 17 = .ok (.ireturn, 1) := dk_172 (dk_at dksJ14_compareToUTF16_0 17 rfl rfl)
abbrev cJ14_length : ByteArray := prog_34_method_5_code
def yJ14_length : MethodName := ⟨RJ14, "length", "([B)I"⟩
theorem dJ14_length_0 : decode cJ14_length 0 = .ok (.aload_n 0, 1) := by decide +kernel
theorem dJ14_length_1 : decode cJ14_length 1 = .ok (.arraylength, 1) := by decide +kernel
theorem dJ14_length_2 : decode cJ14_length 2 = .ok (.ireturn, 1) := by decide +kernel
abbrev cJ14_compareToUTF16Values : ByteArray := prog_34_method_18_code
def yJ14_compareToUTF16Values : MethodName := ⟨RJ14, "compareToUTF16Values", "([B[BII)I"⟩
def dkwJ14_compareToUTF16Values_2 : List UInt8 := [132, 5, 1, 167, 255, 217, 28, 29, 100, 172]
abbrev dktJ14_compareToUTF16Values_2 : List UInt8 := dkwJ14_compareToUTF16Values_2 ++ []
def dkwJ14_compareToUTF16Values_1 : List UInt8 := [54, 6, 43, 21, 5, 184, 0, 65, 54, 7, 21, 6, 21, 7, 159, 0, 9, 21, 6, 21, 7, 100, 172]
abbrev dktJ14_compareToUTF16Values_1 : List UInt8 := dkwJ14_compareToUTF16Values_1 ++ dktJ14_compareToUTF16Values_2
def dkwJ14_compareToUTF16Values_0 : List UInt8 := [28, 29, 184, 0, 38, 54, 4, 3, 54, 5, 21, 5, 21, 4, 162, 0, 38, 42, 21, 5, 184, 0, 50]
abbrev dktJ14_compareToUTF16Values_0 : List UInt8 := dkwJ14_compareToUTF16Values_0 ++ dktJ14_compareToUTF16Values_1
theorem dksJ14_compareToUTF16Values_0 : cJ14_compareToUTF16Values.data.toList.drop 0 = dktJ14_compareToUTF16Values_0 := by decide +kernel
theorem dksJ14_compareToUTF16Values_1 : cJ14_compareToUTF16Values.data.toList.drop 23 = dktJ14_compareToUTF16Values_1 := dk_seg dksJ14_compareToUTF16Values_0 23 rfl rfl
theorem dksJ14_compareToUTF16Values_2 : cJ14_compareToUTF16Values.data.toList.drop 46 = dktJ14_compareToUTF16Values_2 := dk_seg dksJ14_compareToUTF16Values_1 23 rfl rfl
theorem dJ14_compareToUTF16Values_0 : decode cJ14_compareToUTF16Values 0 = .ok (.iload_n 2, 1) := dk_28 (dk_at dksJ14_compareToUTF16Values_0 0 rfl rfl)
theorem dJ14_compareToUTF16Values_1 : decode cJ14_compareToUTF16Values 1 = .ok (.iload_n 3, 1) := dk_29 (dk_at dksJ14_compareToUTF16Values_0 1 rfl rfl)
theorem dJ14_compareToUTF16Values_2 : decode cJ14_compareToUTF16Values 2 = .ok (.invokestatic 38, 3) := dk_184 0 38 (dk_at dksJ14_compareToUTF16Values_0 2 rfl rfl)
theorem dJ14_compareToUTF16Values_5 : decode cJ14_compareToUTF16Values 5 = .ok (.istore 4, 2) := dk_54 4 (dk_at dksJ14_compareToUTF16Values_0 5 rfl rfl)
theorem dJ14_compareToUTF16Values_7 : decode cJ14_compareToUTF16Values 7 = .ok (.iconst 0, 1) := dk_3 (dk_at dksJ14_compareToUTF16Values_0 7 rfl rfl)
theorem dJ14_compareToUTF16Values_8 : decode cJ14_compareToUTF16Values 8 = .ok (.istore 5, 2) := dk_54 5 (dk_at dksJ14_compareToUTF16Values_0 8 rfl rfl)
theorem dJ14_compareToUTF16Values_10 : decode cJ14_compareToUTF16Values 10 = .ok (.iload 5, 2) := dk_21 5 (dk_at dksJ14_compareToUTF16Values_0 10 rfl rfl)
theorem dJ14_compareToUTF16Values_12 : decode cJ14_compareToUTF16Values 12 = .ok (.iload 4, 2) := dk_21 4 (dk_at dksJ14_compareToUTF16Values_0 12 rfl rfl)
theorem dJ14_compareToUTF16Values_14 : decode cJ14_compareToUTF16Values 14 = .ok (.if_icmp .ge 38, 3) := dk_162 0 38 (dk_at dksJ14_compareToUTF16Values_0 14 rfl rfl)
theorem dJ14_compareToUTF16Values_17 : decode cJ14_compareToUTF16Values 17 = .ok (.aload_n 0, 1) := dk_42 (dk_at dksJ14_compareToUTF16Values_0 17 rfl rfl)
theorem dJ14_compareToUTF16Values_18 : decode cJ14_compareToUTF16Values 18 = .ok (.iload 5, 2) := dk_21 5 (dk_at dksJ14_compareToUTF16Values_0 18 rfl rfl)
theorem dJ14_compareToUTF16Values_20 : decode cJ14_compareToUTF16Values 20 = .ok (.invokestatic 50, 3) := dk_184 0 50 (dk_at dksJ14_compareToUTF16Values_0 20 rfl rfl)
theorem dJ14_compareToUTF16Values_23 : decode cJ14_compareToUTF16Values 23 = .ok (.istore 6, 2) := dk_54 6 (dk_at dksJ14_compareToUTF16Values_1 0 rfl rfl)
theorem dJ14_compareToUTF16Values_25 : decode cJ14_compareToUTF16Values 25 = .ok (.aload_n 1, 1) := dk_43 (dk_at dksJ14_compareToUTF16Values_1 2 rfl rfl)
theorem dJ14_compareToUTF16Values_26 : decode cJ14_compareToUTF16Values 26 = .ok (.iload 5, 2) := dk_21 5 (dk_at dksJ14_compareToUTF16Values_1 3 rfl rfl)
theorem dJ14_compareToUTF16Values_28 : decode cJ14_compareToUTF16Values 28 = .ok (.invokestatic 65, 3) := dk_184 0 65 (dk_at dksJ14_compareToUTF16Values_1 5 rfl rfl)
theorem dJ14_compareToUTF16Values_31 : decode cJ14_compareToUTF16Values 31 = .ok (.istore 7, 2) := dk_54 7 (dk_at dksJ14_compareToUTF16Values_1 8 rfl rfl)
theorem dJ14_compareToUTF16Values_33 : decode cJ14_compareToUTF16Values 33 = .ok (.iload 6, 2) := dk_21 6 (dk_at dksJ14_compareToUTF16Values_1 10 rfl rfl)
theorem dJ14_compareToUTF16Values_35 : decode cJ14_compareToUTF16Values 35 = .ok (.iload 7, 2) := dk_21 7 (dk_at dksJ14_compareToUTF16Values_1 12 rfl rfl)
theorem dJ14_compareToUTF16Values_37 : decode cJ14_compareToUTF16Values 37 = .ok (.if_icmp .eq 9, 3) := dk_159 0 9 (dk_at dksJ14_compareToUTF16Values_1 14 rfl rfl)
theorem dJ14_compareToUTF16Values_40 : decode cJ14_compareToUTF16Values 40 = .ok (.iload 6, 2) := dk_21 6 (dk_at dksJ14_compareToUTF16Values_1 17 rfl rfl)
theorem dJ14_compareToUTF16Values_42 : decode cJ14_compareToUTF16Values 42 = .ok (.iload 7, 2) := dk_21 7 (dk_at dksJ14_compareToUTF16Values_1 19 rfl rfl)
theorem dJ14_compareToUTF16Values_44 : decode cJ14_compareToUTF16Values 44 = .ok (.isub, 1) := dk_100 (dk_at dksJ14_compareToUTF16Values_1 21 rfl rfl)
theorem dJ14_compareToUTF16Values_45 : decode cJ14_compareToUTF16Values 45 = .ok (.ireturn, 1) := dk_172 (dk_at dksJ14_compareToUTF16Values_1 22 rfl rfl)
theorem dJ14_compareToUTF16Values_46 : decode cJ14_compareToUTF16Values 46 = .ok (.iinc 5 1, 3) := dk_132 5 1 (dk_at dksJ14_compareToUTF16Values_2 0 rfl rfl)
theorem dJ14_compareToUTF16Values_49 : decode cJ14_compareToUTF16Values 49 = .ok (.goto (-39), 3) := dk_167 255 217 (dk_at dksJ14_compareToUTF16Values_2 3 rfl rfl)
theorem dJ14_compareToUTF16Values_52 : decode cJ14_compareToUTF16Values 52 = .ok (.iload_n 2, 1) := dk_28 (dk_at dksJ14_compareToUTF16Values_2 6 rfl rfl)
theorem dJ14_compareToUTF16Values_53 : decode cJ14_compareToUTF16Values 53 = .ok (.iload_n 3, 1) := dk_29 (dk_at dksJ14_compareToUTF16Values_2 7 rfl rfl)
theorem dJ14_compareToUTF16Values_54 : decode cJ14_compareToUTF16Values 54 = .ok (.isub, 1) := dk_100 (dk_at dksJ14_compareToUTF16Values_2 8 rfl rfl)
theorem dJ14_compareToUTF16Values_55 : decode cJ14_compareToUTF16Values 55 = .ok (.ireturn, 1) := dk_172 (dk_at dksJ14_compareToUTF16Values_2 9 rfl rfl)
abbrev cJ14_compareToUTF16_2 : ByteArray := prog_34_method_17_code
def yJ14_compareToUTF16_2 : MethodName := ⟨RJ14, "compareToUTF16", "([B[BII)I"⟩
def dkwJ14_compareToUTF16_2_0 : List UInt8 := [28, 42, 184, 0, 54, 184, 0, 62, 29, 43, 184, 0, 58, 184, 0, 62, 42, 43, 28, 29, 184, 0, 59, 172]
abbrev dktJ14_compareToUTF16_2_0 : List UInt8 := dkwJ14_compareToUTF16_2_0 ++ []
theorem dksJ14_compareToUTF16_2_0 : cJ14_compareToUTF16_2.data.toList.drop 0 = dktJ14_compareToUTF16_2_0 := by decide +kernel
theorem dJ14_compareToUTF16_2_0 : decode cJ14_compareToUTF16_2 0 = .ok (.iload_n 2, 1) := dk_28 (dk_at dksJ14_compareToUTF16_2_0 0 rfl rfl)
theorem dJ14_compareToUTF16_2_1 : decode cJ14_compareToUTF16_2 1 = .ok (.aload_n 0, 1) := dk_42 (dk_at dksJ14_compareToUTF16_2_0 1 rfl rfl)
theorem dJ14_compareToUTF16_2_2 : decode cJ14_compareToUTF16_2 2 = .ok (.invokestatic 54, 3) := dk_184 0 54 (dk_at dksJ14_compareToUTF16_2_0 2 rfl rfl)
theorem dJ14_compareToUTF16_2_5 : decode cJ14_compareToUTF16_2 5 = .ok (.invokestatic 62, 3) := dk_184 0 62 (dk_at dksJ14_compareToUTF16_2_0 5 rfl rfl)
theorem dJ14_compareToUTF16_2_8 : decode cJ14_compareToUTF16_2 8 = .ok (.iload_n 3, 1) := dk_29 (dk_at dksJ14_compareToUTF16_2_0 8 rfl rfl)
theorem dJ14_compareToUTF16_2_9 : decode cJ14_compareToUTF16_2 9 = .ok (.aload_n 1, 1) := dk_43 (dk_at dksJ14_compareToUTF16_2_0 9 rfl rfl)
theorem dJ14_compareToUTF16_2_10 : decode cJ14_compareToUTF16_2 10 = .ok (.invokestatic 58, 3) := dk_184 0 58 (dk_at dksJ14_compareToUTF16_2_0 10 rfl rfl)
theorem dJ14_compareToUTF16_2_13 : decode cJ14_compareToUTF16_2 13 = .ok (.invokestatic 62, 3) := dk_184 0 62 (dk_at dksJ14_compareToUTF16_2_0 13 rfl rfl)
theorem dJ14_compareToUTF16_2_16 : decode cJ14_compareToUTF16_2 16 = .ok (.aload_n 0, 1) := dk_42 (dk_at dksJ14_compareToUTF16_2_0 16 rfl rfl)
theorem dJ14_compareToUTF16_2_17 : decode cJ14_compareToUTF16_2 17 = .ok (.aload_n 1, 1) := dk_43 (dk_at dksJ14_compareToUTF16_2_0 17 rfl rfl)
theorem dJ14_compareToUTF16_2_18 : decode cJ14_compareToUTF16_2 18 = .ok (.iload_n 2, 1) := dk_28 (dk_at dksJ14_compareToUTF16_2_0 18 rfl rfl)
theorem dJ14_compareToUTF16_2_19 : decode cJ14_compareToUTF16_2 19 = .ok (.iload_n 3, 1) := dk_29 (dk_at dksJ14_compareToUTF16_2_0 19 rfl rfl)
theorem dJ14_compareToUTF16_2_20 : decode cJ14_compareToUTF16_2 20 = .ok (.invokestatic 59, 3) := dk_184 0 59 (dk_at dksJ14_compareToUTF16_2_0 20 rfl rfl)
theorem dJ14_compareToUTF16_2_23 : decode cJ14_compareToUTF16_2 23 = .ok (.ireturn, 1) := dk_172 (dk_at dksJ14_compareToUTF16_2_0 23 rfl rfl)
abbrev cJ14_equals : ByteArray := prog_34_method_13_code
def yJ14_equals : MethodName := ⟨RJ14, "equals", "([B[B)Z"⟩
def dkwJ14_equals_1 : List UInt8 := [3, 172, 132, 2, 1, 167, 255, 236, 4, 172, 3, 172]
abbrev dktJ14_equals_1 : List UInt8 := dkwJ14_equals_1 ++ []
def dkwJ14_equals_0 : List UInt8 := [42, 190, 43, 190, 160, 0, 30, 3, 61, 28, 42, 190, 162, 0, 20, 42, 28, 51, 43, 28, 51, 159, 0, 5]
abbrev dktJ14_equals_0 : List UInt8 := dkwJ14_equals_0 ++ dktJ14_equals_1
theorem dksJ14_equals_0 : cJ14_equals.data.toList.drop 0 = dktJ14_equals_0 := by decide +kernel
theorem dksJ14_equals_1 : cJ14_equals.data.toList.drop 24 = dktJ14_equals_1 := dk_seg dksJ14_equals_0 24 rfl rfl
theorem dJ14_equals_0 : decode cJ14_equals 0 = .ok (.aload_n 0, 1) := dk_42 (dk_at dksJ14_equals_0 0 rfl rfl)
theorem dJ14_equals_1 : decode cJ14_equals 1 = .ok (.arraylength, 1) := dk_190 (dk_at dksJ14_equals_0 1 rfl rfl)
theorem dJ14_equals_2 : decode cJ14_equals 2 = .ok (.aload_n 1, 1) := dk_43 (dk_at dksJ14_equals_0 2 rfl rfl)
theorem dJ14_equals_3 : decode cJ14_equals 3 = .ok (.arraylength, 1) := dk_190 (dk_at dksJ14_equals_0 3 rfl rfl)
theorem dJ14_equals_4 : decode cJ14_equals 4 = .ok (.if_icmp .ne 30, 3) := dk_160 0 30 (dk_at dksJ14_equals_0 4 rfl rfl)
theorem dJ14_equals_7 : decode cJ14_equals 7 = .ok (.iconst 0, 1) := dk_3 (dk_at dksJ14_equals_0 7 rfl rfl)
theorem dJ14_equals_8 : decode cJ14_equals 8 = .ok (.istore_n 2, 1) := dk_61 (dk_at dksJ14_equals_0 8 rfl rfl)
theorem dJ14_equals_9 : decode cJ14_equals 9 = .ok (.iload_n 2, 1) := dk_28 (dk_at dksJ14_equals_0 9 rfl rfl)
theorem dJ14_equals_10 : decode cJ14_equals 10 = .ok (.aload_n 0, 1) := dk_42 (dk_at dksJ14_equals_0 10 rfl rfl)
theorem dJ14_equals_11 : decode cJ14_equals 11 = .ok (.arraylength, 1) := dk_190 (dk_at dksJ14_equals_0 11 rfl rfl)
theorem dJ14_equals_12 : decode cJ14_equals 12 = .ok (.if_icmp .ge 20, 3) := dk_162 0 20 (dk_at dksJ14_equals_0 12 rfl rfl)
theorem dJ14_equals_15 : decode cJ14_equals 15 = .ok (.aload_n 0, 1) := dk_42 (dk_at dksJ14_equals_0 15 rfl rfl)
theorem dJ14_equals_16 : decode cJ14_equals 16 = .ok (.iload_n 2, 1) := dk_28 (dk_at dksJ14_equals_0 16 rfl rfl)
theorem dJ14_equals_17 : decode cJ14_equals 17 = .ok (.baload, 1) := dk_51 (dk_at dksJ14_equals_0 17 rfl rfl)
theorem dJ14_equals_18 : decode cJ14_equals 18 = .ok (.aload_n 1, 1) := dk_43 (dk_at dksJ14_equals_0 18 rfl rfl)
theorem dJ14_equals_19 : decode cJ14_equals 19 = .ok (.iload_n 2, 1) := dk_28 (dk_at dksJ14_equals_0 19 rfl rfl)
theorem dJ14_equals_20 : decode cJ14_equals 20 = .ok (.baload, 1) := dk_51 (dk_at dksJ14_equals_0 20 rfl rfl)
theorem dJ14_equals_21 : decode cJ14_equals 21 = .ok (.if_icmp .eq 5, 3) := dk_159 0 5 (dk_at dksJ14_equals_0 21 rfl rfl)
theorem dJ14_equals_24 : decode cJ14_equals 24 = .ok (.iconst 0, 1) := dk_3 (dk_at dksJ14_equals_1 0 rfl rfl)
theorem dJ14_equals_25 : decode cJ14_equals 25 = .ok (.ireturn, 1) := dk_172 (dk_at dksJ14_equals_1 1 rfl rfl)
theorem dJ14_equals_26 : decode cJ14_equals 26 = .ok (.iinc 2 1, 3) := dk_132 2 1 (dk_at dksJ14_equals_1 2 rfl rfl)
theorem dJ14_equals_29 : decode cJ14_equals 29 = .ok (.goto (-20), 3) := dk_167 255 236 (dk_at dksJ14_equals_1 5 rfl rfl)
theorem dJ14_equals_32 : decode cJ14_equals 32 = .ok (.iconst 1, 1) := dk_4 (dk_at dksJ14_equals_1 8 rfl rfl)
theorem dJ14_equals_33 : decode cJ14_equals 33 = .ok (.ireturn, 1) := dk_172 (dk_at dksJ14_equals_1 9 rfl rfl)
theorem dJ14_equals_34 : decode cJ14_equals 34 = .ok (.iconst 0, 1) := dk_3 (dk_at dksJ14_equals_1 10 rfl rfl)
theorem dJ14_equals_35 : decode cJ14_equals 35 = .ok (.ireturn, 1) := dk_172 (dk_at dksJ14_equals_1 11 rfl rfl)
abbrev cJ14_canEncode : ByteArray := prog_34_method_3_code
def yJ14_canEncode : MethodName := ⟨RJ14, "canEncode", "(C)Z"⟩
def dkwJ14_canEncode_0 : List UInt8 := [26, 17, 0, 255, 163, 0, 7, 4, 167, 0, 4, 3, 172]
abbrev dktJ14_canEncode_0 : List UInt8 := dkwJ14_canEncode_0 ++ []
theorem dksJ14_canEncode_0 : cJ14_canEncode.data.toList.drop 0 = dktJ14_canEncode_0 := by decide +kernel
theorem dJ14_canEncode_0 : decode cJ14_canEncode 0 = .ok (.iload_n 0, 1) := dk_26 (dk_at dksJ14_canEncode_0 0 rfl rfl)
theorem dJ14_canEncode_1 : decode cJ14_canEncode 1 = .ok (.sipush 255, 3) := dk_17 0 255 (dk_at dksJ14_canEncode_0 1 rfl rfl)
theorem dJ14_canEncode_4 : decode cJ14_canEncode 4 = .ok (.if_icmp .gt 7, 3) := dk_163 0 7 (dk_at dksJ14_canEncode_0 4 rfl rfl)
theorem dJ14_canEncode_7 : decode cJ14_canEncode 7 = .ok (.iconst 1, 1) := dk_4 (dk_at dksJ14_canEncode_0 7 rfl rfl)
theorem dJ14_canEncode_8 : decode cJ14_canEncode 8 = .ok (.goto 4, 3) := dk_167 0 4 (dk_at dksJ14_canEncode_0 8 rfl rfl)
theorem dJ14_canEncode_11 : decode cJ14_canEncode 11 = .ok (.iconst 0, 1) := dk_3 (dk_at dksJ14_canEncode_0 11 rfl rfl)
theorem dJ14_canEncode_12 : decode cJ14_canEncode 12 = .ok (.ireturn, 1) := dk_172 (dk_at dksJ14_canEncode_0 12 rfl rfl)
abbrev cJ14_inflate : ByteArray := prog_34_method_50_code
def yJ14_inflate : MethodName := ⟨RJ14, "inflate", "([BI[BII)V"⟩
def dkwJ14_inflate_0 : List UInt8 := [42, 27, 44, 29, 21, 4, 184, 0, 240, 177]
abbrev dktJ14_inflate_0 : List UInt8 := dkwJ14_inflate_0 ++ []
theorem dksJ14_inflate_0 : cJ14_inflate.data.toList.drop 0 = dktJ14_inflate_0 := by decide +kernel
theorem dJ14_inflate_0 : decode cJ14_inflate 0 = .ok (.aload_n 0, 1) := dk_42 (dk_at dksJ14_inflate_0 0 rfl rfl)
theorem dJ14_inflate_1 : decode cJ14_inflate 1 = .ok (.iload_n 1, 1) := dk_27 (dk_at dksJ14_inflate_0 1 rfl rfl)
theorem dJ14_inflate_2 : decode cJ14_inflate 2 = .ok (.aload_n 2, 1) := dk_44 (dk_at dksJ14_inflate_0 2 rfl rfl)
theorem dJ14_inflate_3 : decode cJ14_inflate 3 = .ok (.iload_n 3, 1) := dk_29 (dk_at dksJ14_inflate_0 3 rfl rfl)
theorem dJ14_inflate_4 : decode cJ14_inflate 4 = .ok (.iload 4, 2) := dk_21 4 (dk_at dksJ14_inflate_0 4 rfl rfl)
theorem dJ14_inflate_6 : decode cJ14_inflate 6 = .ok (.invokestatic 240, 3) := dk_184 0 240 (dk_at dksJ14_inflate_0 6 rfl rfl)
theorem dJ14_inflate_9 : decode cJ14_inflate 9 = .ok (.return_, 1) := dk_177 (dk_at dksJ14_inflate_0 9 rfl rfl)
theorem q111 : (Jvm.Cond.initialized "java/lang/StringLatin1") ∈ lw_all := lw_g (lw_at lw_m1 22 rfl) rfl
theorem q552 : (Jvm.Cond.static ({ cls := "java/lang/StringLatin1", name := "hashCode", desc := "([B)I" } : Jvm.MethodName)) ∈ lw_all := lw_g (lw_at lw_m2 223 rfl) rfl
theorem q553 : (Jvm.Cond.code ({ cls := "java/lang/StringLatin1", name := "hashCode", desc := "([B)I" } : Jvm.MethodName) prog_34_method_21_code (1 : Nat) (Option.some Jvm.ClassFile.FieldType.int)) ∈ lw_all := lw_g (lw_at lw_m2 224 rfl) rfl
theorem q554 : (Jvm.Cond.methodLink "java/lang/StringLatin1" (84 : Nat) ({ cls := "jdk/internal/util/ArraysSupport", name := "vectorizedHashCode", desc := "(Ljava/lang/Object;IIII)I" } : Jvm.MethodName)) ∈ lw_all := lw_g (lw_at lw_m2 225 rfl) rfl
theorem q746 : (Jvm.Cond.static ({ cls := "java/lang/StringLatin1", name := "compareTo", desc := "([B[B)I" } : Jvm.MethodName)) ∈ lw_all := lw_g (lw_at lw_m3 177 rfl) rfl
theorem q747 : (Jvm.Cond.code ({ cls := "java/lang/StringLatin1", name := "compareTo", desc := "([B[B)I" } : Jvm.MethodName) prog_34_method_14_code (4 : Nat) (Option.some Jvm.ClassFile.FieldType.int)) ∈ lw_all := lw_g (lw_at lw_m3 178 rfl) rfl
theorem q748 : (Jvm.Cond.methodLink "java/lang/StringLatin1" (34 : Nat) ({ cls := "java/lang/StringLatin1", name := "compareTo", desc := "([B[BII)I" } : Jvm.MethodName)) ∈ lw_all := lw_g (lw_at lw_m3 179 rfl) rfl
theorem q749 : (Jvm.Cond.static ({ cls := "java/lang/StringLatin1", name := "compareTo", desc := "([B[BII)I" } : Jvm.MethodName)) ∈ lw_all := lw_g (lw_at lw_m3 180 rfl) rfl
theorem q750 : (Jvm.Cond.code ({ cls := "java/lang/StringLatin1", name := "compareTo", desc := "([B[BII)I" } : Jvm.MethodName) prog_34_method_15_code (6 : Nat) (Option.some Jvm.ClassFile.FieldType.int)) ∈ lw_all := lw_g (lw_at lw_m3 181 rfl) rfl
theorem q751 : (Jvm.Cond.methodLink "java/lang/StringLatin1" (38 : Nat) ({ cls := "java/lang/Math", name := "min", desc := "(II)I" } : Jvm.MethodName)) ∈ lw_all := lw_g (lw_at lw_m3 182 rfl) rfl
theorem q752 : (Jvm.Cond.methodLink "java/lang/StringLatin1" (44 : Nat) ({ cls := "jdk/internal/util/ArraysSupport", name := "mismatch", desc := "([B[BI)I" } : Jvm.MethodName)) ∈ lw_all := lw_g (lw_at lw_m3 183 rfl) rfl
theorem q856 : (Jvm.Cond.methodLink "java/lang/StringLatin1" (50 : Nat) ({ cls := "java/lang/StringLatin1", name := "getChar", desc := "([BI)C" } : Jvm.MethodName)) ∈ lw_all := lw_g (lw_at lw_m4 47 rfl) rfl
theorem q857 : (Jvm.Cond.static ({ cls := "java/lang/StringLatin1", name := "getChar", desc := "([BI)C" } : Jvm.MethodName)) ∈ lw_all := lw_g (lw_at lw_m4 48 rfl) rfl
theorem q858 : (Jvm.Cond.code ({ cls := "java/lang/StringLatin1", name := "getChar", desc := "([BI)C" } : Jvm.MethodName) prog_34_method_44_code (2 : Nat) (Option.some Jvm.ClassFile.FieldType.char)) ∈ lw_all := lw_g (lw_at lw_m4 49 rfl) rfl
theorem q867 : (Jvm.Cond.static ({ cls := "java/lang/StringLatin1", name := "compareToUTF16", desc := "([B[B)I" } : Jvm.MethodName)) ∈ lw_all := lw_g (lw_at lw_m4 58 rfl) rfl
theorem q868 : (Jvm.Cond.code ({ cls := "java/lang/StringLatin1", name := "compareToUTF16", desc := "([B[B)I" } : Jvm.MethodName) prog_34_method_16_code (4 : Nat) (Option.some Jvm.ClassFile.FieldType.int)) ∈ lw_all := lw_g (lw_at lw_m4 59 rfl) rfl
theorem q869 : (Jvm.Cond.methodLink "java/lang/StringLatin1" (54 : Nat) ({ cls := "java/lang/StringLatin1", name := "length", desc := "([B)I" } : Jvm.MethodName)) ∈ lw_all := lw_g (lw_at lw_m4 60 rfl) rfl
theorem q870 : (Jvm.Cond.static ({ cls := "java/lang/StringLatin1", name := "length", desc := "([B)I" } : Jvm.MethodName)) ∈ lw_all := lw_g (lw_at lw_m4 61 rfl) rfl
theorem q871 : (Jvm.Cond.code ({ cls := "java/lang/StringLatin1", name := "length", desc := "([B)I" } : Jvm.MethodName) prog_34_method_5_code (1 : Nat) (Option.some Jvm.ClassFile.FieldType.int)) ∈ lw_all := lw_g (lw_at lw_m4 62 rfl) rfl
theorem q872 : (Jvm.Cond.methodLink "java/lang/StringLatin1" (58 : Nat) ({ cls := "java/lang/StringUTF16", name := "length", desc := "([B)I" } : Jvm.MethodName)) ∈ lw_all := lw_g (lw_at lw_m4 63 rfl) rfl
theorem q873 : (Jvm.Cond.methodLink "java/lang/StringLatin1" (59 : Nat) ({ cls := "java/lang/StringLatin1", name := "compareToUTF16Values", desc := "([B[BII)I" } : Jvm.MethodName)) ∈ lw_all := lw_g (lw_at lw_m4 64 rfl) rfl
theorem q874 : (Jvm.Cond.static ({ cls := "java/lang/StringLatin1", name := "compareToUTF16Values", desc := "([B[BII)I" } : Jvm.MethodName)) ∈ lw_all := lw_g (lw_at lw_m4 65 rfl) rfl
theorem q875 : (Jvm.Cond.code ({ cls := "java/lang/StringLatin1", name := "compareToUTF16Values", desc := "([B[BII)I" } : Jvm.MethodName) prog_34_method_18_code (8 : Nat) (Option.some Jvm.ClassFile.FieldType.int)) ∈ lw_all := lw_g (lw_at lw_m4 66 rfl) rfl
theorem q876 : (Jvm.Cond.methodLink "java/lang/StringLatin1" (65 : Nat) ({ cls := "java/lang/StringUTF16", name := "getChar", desc := "([BI)C" } : Jvm.MethodName)) ∈ lw_all := lw_g (lw_at lw_m4 67 rfl) rfl
theorem q918 : (Jvm.Cond.static ({ cls := "java/lang/StringLatin1", name := "compareToUTF16", desc := "([B[BII)I" } : Jvm.MethodName)) ∈ lw_all := lw_g (lw_at lw_m4 109 rfl) rfl
theorem q919 : (Jvm.Cond.code ({ cls := "java/lang/StringLatin1", name := "compareToUTF16", desc := "([B[BII)I" } : Jvm.MethodName) prog_34_method_17_code (4 : Nat) (Option.some Jvm.ClassFile.FieldType.int)) ∈ lw_all := lw_g (lw_at lw_m4 110 rfl) rfl
theorem q920 : (Jvm.Cond.methodLink "java/lang/StringLatin1" (62 : Nat) ({ cls := "java/lang/String", name := "checkOffset", desc := "(II)V" } : Jvm.MethodName)) ∈ lw_all := lw_g (lw_at lw_m4 111 rfl) rfl
theorem q982 : (Jvm.Cond.static ({ cls := "java/lang/StringLatin1", name := "equals", desc := "([B[B)Z" } : Jvm.MethodName)) ∈ lw_all := lw_g (lw_at lw_m4 173 rfl) rfl
theorem q983 : (Jvm.Cond.code ({ cls := "java/lang/StringLatin1", name := "equals", desc := "([B[B)Z" } : Jvm.MethodName) prog_34_method_13_code (3 : Nat) (Option.some Jvm.ClassFile.FieldType.boolean)) ∈ lw_all := lw_g (lw_at lw_m4 174 rfl) rfl
theorem q1746 : (Jvm.Cond.static ({ cls := "java/lang/StringLatin1", name := "canEncode", desc := "(C)Z" } : Jvm.MethodName)) ∈ lw_all := lw_g (lw_at lw_m7 217 rfl) rfl
theorem q1747 : (Jvm.Cond.code ({ cls := "java/lang/StringLatin1", name := "canEncode", desc := "(C)Z" } : Jvm.MethodName) prog_34_method_3_code (1 : Nat) (Option.some Jvm.ClassFile.FieldType.boolean)) ∈ lw_all := lw_g (lw_at lw_m7 218 rfl) rfl
theorem q1753 : (Jvm.Cond.static ({ cls := "java/lang/StringLatin1", name := "inflate", desc := "([BI[BII)V" } : Jvm.MethodName)) ∈ lw_all := lw_g (lw_at lw_m7 224 rfl) rfl
theorem q1754 : (Jvm.Cond.code ({ cls := "java/lang/StringLatin1", name := "inflate", desc := "([BI[BII)V" } : Jvm.MethodName) prog_34_method_50_code (5 : Nat) (Option.none : Option Jvm.ClassFile.FieldType)) ∈ lw_all := lw_g (lw_at lw_m7 225 rfl) rfl
theorem q1755 : (Jvm.Cond.methodLink "java/lang/StringLatin1" (240 : Nat) ({ cls := "java/lang/StringUTF16", name := "inflate", desc := "([BI[BII)V" } : Jvm.MethodName)) ∈ lw_all := lw_g (lw_at lw_m7 226 rfl) rfl

/-! java/util/HashMap$Node -/
set_option maxRecDepth 100000
def RJ16 : String := "java/util/HashMap$Node"
abbrev cJ16_init : ByteArray := prog_53_method_1_code
def yJ16_init : MethodName := ⟨RJ16, "<init>", "(ILjava/lang/Object;Ljava/lang/Object;Ljava/util/HashMap$Node;)V"⟩
def dkwJ16_init_1 : List UInt8 := [181, 0, 20, 177]
abbrev dktJ16_init_1 : List UInt8 := dkwJ16_init_1 ++ []
def dkwJ16_init_0 : List UInt8 := [42, 183, 0, 1, 42, 27, 181, 0, 7, 42, 44, 181, 0, 13, 42, 45, 181, 0, 17, 42, 25, 4]
abbrev dktJ16_init_0 : List UInt8 := dkwJ16_init_0 ++ dktJ16_init_1
theorem dksJ16_init_0 : cJ16_init.data.toList.drop 0 = dktJ16_init_0 := by decide +kernel
theorem dksJ16_init_1 : cJ16_init.data.toList.drop 22 = dktJ16_init_1 := dk_seg dksJ16_init_0 22 rfl rfl
theorem dJ16_init_0 : decode cJ16_init 0 = .ok (.aload_n 0, 1) := dk_42 (dk_at dksJ16_init_0 0 rfl rfl)
theorem dJ16_init_1 : decode cJ16_init 1 = .ok (.invokespecial 1, 3) := dk_183 0 1 (dk_at dksJ16_init_0 1 rfl rfl)
theorem dJ16_init_4 : decode cJ16_init 4 = .ok (.aload_n 0, 1) := dk_42 (dk_at dksJ16_init_0 4 rfl rfl)
theorem dJ16_init_5 : decode cJ16_init 5 = .ok (.iload_n 1, 1) := dk_27 (dk_at dksJ16_init_0 5 rfl rfl)
theorem dJ16_init_6 : decode cJ16_init 6 = .ok (.putfield 7, 3) := dk_181 0 7 (dk_at dksJ16_init_0 6 rfl rfl)
theorem dJ16_init_9 : decode cJ16_init 9 = .ok (.aload_n 0, 1) := dk_42 (dk_at dksJ16_init_0 9 rfl rfl)
theorem dJ16_init_10 : decode cJ16_init 10 = .ok (.aload_n 2, 1) := dk_44 (dk_at dksJ16_init_0 10 rfl rfl)
theorem dJ16_init_11 : decode cJ16_init 11 = .ok (.putfield 13, 3) := dk_181 0 13 (dk_at dksJ16_init_0 11 rfl rfl)
theorem dJ16_init_14 : decode cJ16_init 14 = .ok (.aload_n 0, 1) := dk_42 (dk_at dksJ16_init_0 14 rfl rfl)
theorem dJ16_init_15 : decode cJ16_init 15 = .ok (.aload_n 3, 1) := dk_45 (dk_at dksJ16_init_0 15 rfl rfl)
theorem dJ16_init_16 : decode cJ16_init 16 = .ok (.putfield 17, 3) := dk_181 0 17 (dk_at dksJ16_init_0 16 rfl rfl)
theorem dJ16_init_19 : decode cJ16_init 19 = .ok (.aload_n 0, 1) := dk_42 (dk_at dksJ16_init_0 19 rfl rfl)
theorem dJ16_init_20 : decode cJ16_init 20 = .ok (.aload 4, 2) := dk_25 4 (dk_at dksJ16_init_0 20 rfl rfl)
theorem dJ16_init_22 : decode cJ16_init 22 = .ok (.putfield 20, 3) := dk_181 0 20 (dk_at dksJ16_init_1 0 rfl rfl)
theorem dJ16_init_25 : decode cJ16_init 25 = .ok (.return_, 1) := dk_177 (dk_at dksJ16_init_1 3 rfl rfl)
abbrev cJ16_getKey : ByteArray := prog_53_method_2_code
def yJ16_getKey : MethodName := ⟨RJ16, "getKey", "()Ljava/lang/Object;"⟩
theorem dJ16_getKey_0 : decode cJ16_getKey 0 = .ok (.aload_n 0, 1) := by decide +kernel
theorem dJ16_getKey_1 : decode cJ16_getKey 1 = .ok (.getfield 13, 3) := by decide +kernel
theorem dJ16_getKey_4 : decode cJ16_getKey 4 = .ok (.areturn, 1) := by decide +kernel
theorem q113 : (Jvm.Cond.initialized "java/util/HashMap$Node") ∈ lw_all := lw_g (lw_at lw_m1 24 rfl) rfl
theorem q381 : (Jvm.Cond.selects "java/util/HashMap$Node" ({ cls := "java/lang/Object", name := "getClass", desc := "()Ljava/lang/Class;" } : Jvm.MethodName) ({ cls := "java/lang/Object", name := "getClass", desc := "()Ljava/lang/Class;" } : Jvm.MethodName)) ∈ lw_all := lw_g (lw_at lw_m2 52 rfl) rfl
theorem q649 : (Jvm.Cond.instanceMethod ({ cls := "java/util/HashMap$Node", name := "<init>", desc := "(ILjava/lang/Object;Ljava/lang/Object;Ljava/util/HashMap$Node;)V" } : Jvm.MethodName)) ∈ lw_all := lw_g (lw_at lw_m3 80 rfl) rfl
theorem q650 : (Jvm.Cond.code ({ cls := "java/util/HashMap$Node", name := "<init>", desc := "(ILjava/lang/Object;Ljava/lang/Object;Ljava/util/HashMap$Node;)V" } : Jvm.MethodName) prog_53_method_1_code (5 : Nat) (Option.none : Option Jvm.ClassFile.FieldType)) ∈ lw_all := lw_g (lw_at lw_m3 81 rfl) rfl
theorem q651 : (Jvm.Cond.methodLink "java/util/HashMap$Node" (1 : Nat) ({ cls := "java/lang/Object", name := "<init>", desc := "()V" } : Jvm.MethodName)) ∈ lw_all := lw_g (lw_at lw_m3 82 rfl) rfl
theorem q656 : (Jvm.Cond.fieldLink "java/util/HashMap$Node" (7 : Nat) "java/util/HashMap$Node" "hash" "I") ∈ lw_all := lw_g (lw_at lw_m3 87 rfl) rfl
theorem q662 : (Jvm.Cond.fieldLink "java/util/HashMap$Node" (13 : Nat) "java/util/HashMap$Node" "key" "Ljava/lang/Object;") ∈ lw_all := lw_g (lw_at lw_m3 93 rfl) rfl
theorem q669 : (Jvm.Cond.fieldLink "java/util/HashMap$Node" (17 : Nat) "java/util/HashMap$Node" "value" "Ljava/lang/Object;") ∈ lw_all := lw_g (lw_at lw_m3 100 rfl) rfl
theorem q674 : (Jvm.Cond.fieldLink "java/util/HashMap$Node" (20 : Nat) "java/util/HashMap$Node" "next" "Ljava/util/HashMap$Node;") ∈ lw_all := lw_g (lw_at lw_m3 105 rfl) rfl
theorem q686 : (Jvm.Cond.soleField "java/util/HashMap$Node" "hash") ∈ lw_all := lw_g (lw_at lw_m3 117 rfl) rfl
theorem q688 : (Jvm.Cond.soleField "java/util/HashMap$Node" "key") ∈ lw_all := lw_g (lw_at lw_m3 119 rfl) rfl
theorem q690 : (Jvm.Cond.soleField "java/util/HashMap$Node" "value") ∈ lw_all := lw_g (lw_at lw_m3 121 rfl) rfl
theorem q692 : (Jvm.Cond.soleField "java/util/HashMap$Node" "next") ∈ lw_all := lw_g (lw_at lw_m3 123 rfl) rfl
theorem q1334 : (Jvm.Cond.declares ({ cls := "java/util/HashMap$Node", name := "getKey", desc := "()Ljava/lang/Object;" } : Jvm.MethodName)) ∈ lw_tbl := lw_at lw_m6 45 rfl
theorem q1337 : (Jvm.Cond.instanceMethod ({ cls := "java/util/HashMap$Node", name := "getKey", desc := "()Ljava/lang/Object;" } : Jvm.MethodName)) ∈ lw_all := lw_g (lw_at lw_m6 48 rfl) rfl
theorem q1338 : (Jvm.Cond.code ({ cls := "java/util/HashMap$Node", name := "getKey", desc := "()Ljava/lang/Object;" } : Jvm.MethodName) prog_53_method_2_code (1 : Nat) (Option.some (Jvm.ClassFile.FieldType.object "java/lang/Object"))) ∈ lw_all := lw_g (lw_at lw_m6 49 rfl) rfl
theorem q2455 : (Jvm.Cond.castable "java/util/HashMap$Node" "java/lang/Object") ∈ lw_tbl := lw_at lw_m10 206 rfl

/-! java/util/LinkedHashMap$Entry -/
set_option maxRecDepth 100000
def RJ17 : String := "java/util/LinkedHashMap$Entry"
def TJ17 : u_T := fun k => match k with
  | 0 => ("java/util/HashMap$Node", "hash", "I", true)
  | 1 => ("java/util/HashMap$Node", "key", "Ljava/lang/Object;", true)
  | 2 => ("java/util/HashMap$Node", "value", "Ljava/lang/Object;", false)
  | 3 => ("java/util/HashMap$Node", "next", "Ljava/util/HashMap$Node;", false)
  | 4 => ("java/util/LinkedHashMap$Entry", "before", "Ljava/util/LinkedHashMap$Entry;", false)
  | _ => ("java/util/LinkedHashMap$Entry", "after", "Ljava/util/LinkedHashMap$Entry;", false)
def tyJ17 : Nat → FieldType := fun k => match k with
  | 0 => .int
  | 1 => .object "java/lang/Object"
  | 2 => .object "java/lang/Object"
  | 3 => .object "java/util/HashMap$Node"
  | 4 => .object "java/util/LinkedHashMap$Entry"
  | _ => .object "java/util/LinkedHashMap$Entry"
abbrev wsJ170 : List Cond := u_ws RJ17 TJ17 6
theorem nmJ17 : ∀ a, a < 6 → ∀ b, b < 6 → a ≠ b → (TJ17 a).2.1 ≠ (TJ17 b).2.1 := by decide +kernel
theorem tyJ17_ok : ∀ k, k < 6 → parseFieldDescriptor (TJ17 k).2.2.1 = some (tyJ17 k) := by decide +kernel
abbrev cJ17_init : ByteArray := prog_58_method_1_code
def yJ17_init : MethodName := ⟨RJ17, "<init>", "(ILjava/lang/Object;Ljava/lang/Object;Ljava/util/HashMap$Node;)V"⟩
def dkwJ17_init_0 : List UInt8 := [42, 27, 44, 45, 25, 4, 183, 0, 1, 177]
abbrev dktJ17_init_0 : List UInt8 := dkwJ17_init_0 ++ []
theorem dksJ17_init_0 : cJ17_init.data.toList.drop 0 = dktJ17_init_0 := by decide +kernel
theorem dJ17_init_0 : decode cJ17_init 0 = .ok (.aload_n 0, 1) := dk_42 (dk_at dksJ17_init_0 0 rfl rfl)
theorem dJ17_init_1 : decode cJ17_init 1 = .ok (.iload_n 1, 1) := dk_27 (dk_at dksJ17_init_0 1 rfl rfl)
theorem dJ17_init_2 : decode cJ17_init 2 = .ok (.aload_n 2, 1) := dk_44 (dk_at dksJ17_init_0 2 rfl rfl)
theorem dJ17_init_3 : decode cJ17_init 3 = .ok (.aload_n 3, 1) := dk_45 (dk_at dksJ17_init_0 3 rfl rfl)
theorem dJ17_init_4 : decode cJ17_init 4 = .ok (.aload 4, 2) := dk_25 4 (dk_at dksJ17_init_0 4 rfl rfl)
theorem dJ17_init_6 : decode cJ17_init 6 = .ok (.invokespecial 1, 3) := dk_183 0 1 (dk_at dksJ17_init_0 6 rfl rfl)
theorem dJ17_init_9 : decode cJ17_init 9 = .ok (.return_, 1) := dk_177 (dk_at dksJ17_init_0 9 rfl rfl)
theorem q114 : (Jvm.Cond.initialized "java/util/LinkedHashMap$Entry") ∈ lw_all := lw_g (lw_at lw_m1 25 rfl) rfl
theorem q384 : (Jvm.Cond.selects "java/util/LinkedHashMap$Entry" ({ cls := "java/lang/Object", name := "getClass", desc := "()Ljava/lang/Class;" } : Jvm.MethodName) ({ cls := "java/lang/Object", name := "getClass", desc := "()Ljava/lang/Class;" } : Jvm.MethodName)) ∈ lw_all := lw_g (lw_at lw_m2 55 rfl) rfl
theorem q644 : (Jvm.Cond.instantiable "java/util/LinkedHashMap$Entry" (6 : Nat)) ∈ lw_all := lw_g (lw_at lw_m3 75 rfl) rfl
theorem q646 : (Jvm.Cond.instanceMethod ({ cls := "java/util/LinkedHashMap$Entry", name := "<init>", desc := "(ILjava/lang/Object;Ljava/lang/Object;Ljava/util/HashMap$Node;)V" } : Jvm.MethodName)) ∈ lw_all := lw_g (lw_at lw_m3 77 rfl) rfl
theorem q647 : (Jvm.Cond.code ({ cls := "java/util/LinkedHashMap$Entry", name := "<init>", desc := "(ILjava/lang/Object;Ljava/lang/Object;Ljava/util/HashMap$Node;)V" } : Jvm.MethodName) prog_58_method_1_code (5 : Nat) (Option.none : Option Jvm.ClassFile.FieldType)) ∈ lw_all := lw_g (lw_at lw_m3 78 rfl) rfl
theorem q648 : (Jvm.Cond.methodLink "java/util/LinkedHashMap$Entry" (1 : Nat) ({ cls := "java/util/HashMap$Node", name := "<init>", desc := "(ILjava/lang/Object;Ljava/lang/Object;Ljava/util/HashMap$Node;)V" } : Jvm.MethodName)) ∈ lw_all := lw_g (lw_at lw_m3 79 rfl) rfl
theorem q660 : (Jvm.Cond.sameField "java/util/LinkedHashMap$Entry" "java/util/HashMap$Node" "hash" "I") ∈ lw_all := lw_g (lw_at lw_m3 91 rfl) rfl
theorem q667 : (Jvm.Cond.sameField "java/util/LinkedHashMap$Entry" "java/util/HashMap$Node" "key" "Ljava/lang/Object;") ∈ lw_all := lw_g (lw_at lw_m3 98 rfl) rfl
theorem q671 : (Jvm.Cond.sameField "java/util/LinkedHashMap$Entry" "java/util/HashMap$Node" "value" "Ljava/lang/Object;") ∈ lw_all := lw_g (lw_at lw_m3 102 rfl) rfl
theorem q681 : (Jvm.Cond.lays "java/util/LinkedHashMap$Entry" "java/util/LinkedHashMap$Entry" "before" "Ljava/util/LinkedHashMap$Entry;") ∈ lw_all := lw_g (lw_at lw_m3 112 rfl) rfl
theorem q682 : (Jvm.Cond.soleField "java/util/LinkedHashMap$Entry" "before") ∈ lw_all := lw_g (lw_at lw_m3 113 rfl) rfl
theorem q683 : (Jvm.Cond.lays "java/util/LinkedHashMap$Entry" "java/util/LinkedHashMap$Entry" "after" "Ljava/util/LinkedHashMap$Entry;") ∈ lw_all := lw_g (lw_at lw_m3 114 rfl) rfl
theorem q684 : (Jvm.Cond.soleField "java/util/LinkedHashMap$Entry" "after") ∈ lw_all := lw_g (lw_at lw_m3 115 rfl) rfl
theorem q685 : (Jvm.Cond.laysFinal "java/util/LinkedHashMap$Entry" "java/util/HashMap$Node" "hash" "I") ∈ lw_all := lw_g (lw_at lw_m3 116 rfl) rfl
theorem q687 : (Jvm.Cond.laysFinal "java/util/LinkedHashMap$Entry" "java/util/HashMap$Node" "key" "Ljava/lang/Object;") ∈ lw_all := lw_g (lw_at lw_m3 118 rfl) rfl
theorem q689 : (Jvm.Cond.lays "java/util/LinkedHashMap$Entry" "java/util/HashMap$Node" "value" "Ljava/lang/Object;") ∈ lw_all := lw_g (lw_at lw_m3 120 rfl) rfl
theorem q691 : (Jvm.Cond.lays "java/util/LinkedHashMap$Entry" "java/util/HashMap$Node" "next" "Ljava/util/HashMap$Node;") ∈ lw_all := lw_g (lw_at lw_m3 122 rfl) rfl
theorem q693 : (Jvm.Cond.superclass "java/util/LinkedHashMap$Entry" "java/util/HashMap$Node") ∈ lw_all := lw_g (lw_at lw_m3 124 rfl) rfl
theorem q1333 : (Jvm.Cond.sameMethod "java/util/LinkedHashMap$Entry" "java/util/HashMap$Node" "getKey" "()Ljava/lang/Object;") ∈ lw_all := lw_g (lw_at lw_m6 44 rfl) rfl
theorem q1336 : (Jvm.Cond.selects "java/util/LinkedHashMap$Entry" ({ cls := "java/util/LinkedHashMap$Entry", name := "getKey", desc := "()Ljava/lang/Object;" } : Jvm.MethodName) ({ cls := "java/util/HashMap$Node", name := "getKey", desc := "()Ljava/lang/Object;" } : Jvm.MethodName)) ∈ lw_all := lw_g (lw_at lw_m6 47 rfl) rfl
theorem q2463 : (Jvm.Cond.castable "java/util/LinkedHashMap$Entry" "java/lang/Object") ∈ lw_tbl := lw_at lw_m10 214 rfl
theorem q2485 : (Jvm.Cond.castable "java/util/LinkedHashMap$Entry" "java/util/HashMap$Node") ∈ lw_tbl := lw_at lw_m10 236 rfl
theorem in_J17 : ∀ w ∈ wsJ170, w ∈ lw_all := lw_in wsJ170 [685, 687, 689, 691, 681, 683] (by decide +kernel) (by decide +kernel)

/-! java/util/AbstractSet -/
set_option maxRecDepth 100000
def RJ21 : String := "java/util/AbstractSet"
abbrev cJ21_init : ByteArray := prog_44_method_1_code
def yJ21_init : MethodName := ⟨RJ21, "<init>", "()V"⟩
theorem dJ21_init_0 : decode cJ21_init 0 = .ok (.aload_n 0, 1) := by decide +kernel
theorem dJ21_init_1 : decode cJ21_init 1 = .ok (.invokespecial 1, 3) := by decide +kernel
theorem dJ21_init_4 : decode cJ21_init 4 = .ok (.return_, 1) := by decide +kernel
theorem q119 : (Jvm.Cond.initialized "java/util/AbstractSet") ∈ lw_all := lw_g (lw_at lw_m1 30 rfl) rfl
theorem q1122 : (Jvm.Cond.instanceMethod ({ cls := "java/util/AbstractSet", name := "<init>", desc := "()V" } : Jvm.MethodName)) ∈ lw_all := lw_g (lw_at lw_m5 73 rfl) rfl
theorem q1123 : (Jvm.Cond.code ({ cls := "java/util/AbstractSet", name := "<init>", desc := "()V" } : Jvm.MethodName) prog_44_method_1_code (1 : Nat) (Option.none : Option Jvm.ClassFile.FieldType)) ∈ lw_all := lw_g (lw_at lw_m5 74 rfl) rfl
theorem q1124 : (Jvm.Cond.methodLink "java/util/AbstractSet" (1 : Nat) ({ cls := "java/util/AbstractCollection", name := "<init>", desc := "()V" } : Jvm.MethodName)) ∈ lw_all := lw_g (lw_at lw_m5 75 rfl) rfl

/-! java/util/HashSet -/
set_option maxRecDepth 100000
def RJ22 : String := "java/util/HashSet"
abbrev cJ22_init : ByteArray := prog_55_method_5_code
def yJ22_init : MethodName := ⟨RJ22, "<init>", "(IFZ)V"⟩
def dkwJ22_init_0 : List UInt8 := [42, 183, 0, 1, 42, 187, 0, 42, 89, 27, 36, 183, 0, 44, 181, 0, 10, 177]
abbrev dktJ22_init_0 : List UInt8 := dkwJ22_init_0 ++ []
theorem dksJ22_init_0 : cJ22_init.data.toList.drop 0 = dktJ22_init_0 := by decide +kernel
theorem dJ22_init_0 : decode cJ22_init 0 = .ok (.aload_n 0, 1) := dk_42 (dk_at dksJ22_init_0 0 rfl rfl)
theorem dJ22_init_1 : decode cJ22_init 1 = .ok (.invokespecial 1, 3) := dk_183 0 1 (dk_at dksJ22_init_0 1 rfl rfl)
theorem dJ22_init_4 : decode cJ22_init 4 = .ok (.aload_n 0, 1) := dk_42 (dk_at dksJ22_init_0 4 rfl rfl)
theorem dJ22_init_5 : decode cJ22_init 5 = .ok (.new 42, 3) := dk_187 0 42 (dk_at dksJ22_init_0 5 rfl rfl)
theorem dJ22_init_8 : decode cJ22_init 8 = .ok (.dup, 1) := dk_89 (dk_at dksJ22_init_0 8 rfl rfl)
theorem dJ22_init_9 : decode cJ22_init 9 = .ok (.iload_n 1, 1) := dk_27 (dk_at dksJ22_init_0 9 rfl rfl)
theorem dJ22_init_10 : decode cJ22_init 10 = .ok (.fload_n 2, 1) := dk_36 (dk_at dksJ22_init_0 10 rfl rfl)
theorem dJ22_init_11 : decode cJ22_init 11 = .ok (.invokespecial 44, 3) := dk_183 0 44 (dk_at dksJ22_init_0 11 rfl rfl)
theorem dJ22_init_14 : decode cJ22_init 14 = .ok (.putfield 10, 3) := dk_181 0 10 (dk_at dksJ22_init_0 14 rfl rfl)
theorem dJ22_init_17 : decode cJ22_init 17 = .ok (.return_, 1) := dk_177 (dk_at dksJ22_init_0 17 rfl rfl)
abbrev cJ22_add : ByteArray := prog_55_method_10_code
def yJ22_add : MethodName := ⟨RJ22, "add", "(Ljava/lang/Object;)Z"⟩
def dkwJ22_add_0 : List UInt8 := [42, 180, 0, 10, 43, 178, 0, 64, 182, 0, 68, 199, 0, 7, 4, 167, 0, 4, 3, 172]
abbrev dktJ22_add_0 : List UInt8 := dkwJ22_add_0 ++ []
theorem dksJ22_add_0 : cJ22_add.data.toList.drop 0 = dktJ22_add_0 := by decide +kernel
theorem dJ22_add_0 : decode cJ22_add 0 = .ok (.aload_n 0, 1) := dk_42 (dk_at dksJ22_add_0 0 rfl rfl)
theorem dJ22_add_1 : decode cJ22_add 1 = .ok (.getfield 10, 3) := dk_180 0 10 (dk_at dksJ22_add_0 1 rfl rfl)
theorem dJ22_add_4 : decode cJ22_add 4 = .ok (.aload_n 1, 1) := dk_43 (dk_at dksJ22_add_0 4 rfl rfl)
theorem dJ22_add_5 : decode cJ22_add 5 = .ok (.getstatic 64, 3) := dk_178 0 64 (dk_at dksJ22_add_0 5 rfl rfl)
theorem dJ22_add_8 : decode cJ22_add 8 = .ok (.invokevirtual 68, 3) := dk_182 0 68 (dk_at dksJ22_add_0 8 rfl rfl)
theorem dJ22_add_11 : decode cJ22_add 11 = .ok (.ifnonnull 7, 3) := dk_199 0 7 (dk_at dksJ22_add_0 11 rfl rfl)
theorem dJ22_add_14 : decode cJ22_add 14 = .ok (.iconst 1, 1) := dk_4 (dk_at dksJ22_add_0 14 rfl rfl)
theorem dJ22_add_15 : decode cJ22_add 15 = .ok (.goto 4, 3) := dk_167 0 4 (dk_at dksJ22_add_0 15 rfl rfl)
theorem dJ22_add_18 : decode cJ22_add 18 = .ok (.iconst 0, 1) := dk_3 (dk_at dksJ22_add_0 18 rfl rfl)
theorem dJ22_add_19 : decode cJ22_add 19 = .ok (.ireturn, 1) := dk_172 (dk_at dksJ22_add_0 19 rfl rfl)
abbrev cJ22_isEmpty : ByteArray := prog_55_method_8_code
def yJ22_isEmpty : MethodName := ⟨RJ22, "isEmpty", "()Z"⟩
def dkwJ22_isEmpty_0 : List UInt8 := [42, 180, 0, 10, 182, 0, 56, 172]
abbrev dktJ22_isEmpty_0 : List UInt8 := dkwJ22_isEmpty_0 ++ []
theorem dksJ22_isEmpty_0 : cJ22_isEmpty.data.toList.drop 0 = dktJ22_isEmpty_0 := by decide +kernel
theorem dJ22_isEmpty_0 : decode cJ22_isEmpty 0 = .ok (.aload_n 0, 1) := dk_42 (dk_at dksJ22_isEmpty_0 0 rfl rfl)
theorem dJ22_isEmpty_1 : decode cJ22_isEmpty 1 = .ok (.getfield 10, 3) := dk_180 0 10 (dk_at dksJ22_isEmpty_0 1 rfl rfl)
theorem dJ22_isEmpty_4 : decode cJ22_isEmpty 4 = .ok (.invokevirtual 56, 3) := dk_182 0 56 (dk_at dksJ22_isEmpty_0 4 rfl rfl)
theorem dJ22_isEmpty_7 : decode cJ22_isEmpty 7 = .ok (.ireturn, 1) := dk_172 (dk_at dksJ22_isEmpty_0 7 rfl rfl)
abbrev cJ22_iterator : ByteArray := prog_55_method_6_code
def yJ22_iterator : MethodName := ⟨RJ22, "iterator", "()Ljava/util/Iterator;"⟩
def dkwJ22_iterator_0 : List UInt8 := [42, 180, 0, 10, 182, 0, 45, 185, 0, 49, 1, 0, 176]
abbrev dktJ22_iterator_0 : List UInt8 := dkwJ22_iterator_0 ++ []
theorem dksJ22_iterator_0 : cJ22_iterator.data.toList.drop 0 = dktJ22_iterator_0 := by decide +kernel
theorem dJ22_iterator_0 : decode cJ22_iterator 0 = .ok (.aload_n 0, 1) := dk_42 (dk_at dksJ22_iterator_0 0 rfl rfl)
theorem dJ22_iterator_1 : decode cJ22_iterator 1 = .ok (.getfield 10, 3) := dk_180 0 10 (dk_at dksJ22_iterator_0 1 rfl rfl)
theorem dJ22_iterator_4 : decode cJ22_iterator 4 = .ok (.invokevirtual 45, 3) := dk_182 0 45 (dk_at dksJ22_iterator_0 4 rfl rfl)
theorem dJ22_iterator_7 : decode cJ22_iterator 7 = .ok (.invokeinterface 49 1, 5) := by decide +kernel
theorem dJ22_iterator_12 : decode cJ22_iterator 12 = .ok (.areturn, 1) := dk_176 (dk_at dksJ22_iterator_0 12 rfl rfl)
abbrev cJ22_size : ByteArray := prog_55_method_7_code
def yJ22_size : MethodName := ⟨RJ22, "size", "()I"⟩
def dkwJ22_size_0 : List UInt8 := [42, 180, 0, 10, 182, 0, 55, 172]
abbrev dktJ22_size_0 : List UInt8 := dkwJ22_size_0 ++ []
theorem dksJ22_size_0 : cJ22_size.data.toList.drop 0 = dktJ22_size_0 := by decide +kernel
theorem dJ22_size_0 : decode cJ22_size 0 = .ok (.aload_n 0, 1) := dk_42 (dk_at dksJ22_size_0 0 rfl rfl)
theorem dJ22_size_1 : decode cJ22_size 1 = .ok (.getfield 10, 3) := dk_180 0 10 (dk_at dksJ22_size_0 1 rfl rfl)
theorem dJ22_size_4 : decode cJ22_size 4 = .ok (.invokevirtual 55, 3) := dk_182 0 55 (dk_at dksJ22_size_0 4 rfl rfl)
theorem dJ22_size_7 : decode cJ22_size 7 = .ok (.ireturn, 1) := dk_172 (dk_at dksJ22_size_0 7 rfl rfl)
theorem q120 : (Jvm.Cond.initialized "java/util/HashSet") ∈ lw_all := lw_g (lw_at lw_m1 31 rfl) rfl
theorem q1119 : (Jvm.Cond.instanceMethod ({ cls := "java/util/HashSet", name := "<init>", desc := "(IFZ)V" } : Jvm.MethodName)) ∈ lw_all := lw_g (lw_at lw_m5 70 rfl) rfl
theorem q1120 : (Jvm.Cond.code ({ cls := "java/util/HashSet", name := "<init>", desc := "(IFZ)V" } : Jvm.MethodName) prog_55_method_5_code (4 : Nat) (Option.none : Option Jvm.ClassFile.FieldType)) ∈ lw_all := lw_g (lw_at lw_m5 71 rfl) rfl
theorem q1121 : (Jvm.Cond.methodLink "java/util/HashSet" (1 : Nat) ({ cls := "java/util/AbstractSet", name := "<init>", desc := "()V" } : Jvm.MethodName)) ∈ lw_all := lw_g (lw_at lw_m5 72 rfl) rfl
theorem q1125 : (Jvm.Cond.classLink "java/util/HashSet" (42 : Nat) "java/util/LinkedHashMap") ∈ lw_all := lw_g (lw_at lw_m5 76 rfl) rfl
theorem q1126 : (Jvm.Cond.methodLink "java/util/HashSet" (44 : Nat) ({ cls := "java/util/LinkedHashMap", name := "<init>", desc := "(IF)V" } : Jvm.MethodName)) ∈ lw_all := lw_g (lw_at lw_m5 77 rfl) rfl
theorem q1139 : (Jvm.Cond.fieldLink "java/util/HashSet" (10 : Nat) "java/util/HashSet" "map" "Ljava/util/HashMap;") ∈ lw_all := lw_g (lw_at lw_m5 90 rfl) rfl
theorem q1141 : (Jvm.Cond.soleField "java/util/HashSet" "map") ∈ lw_all := lw_g (lw_at lw_m5 92 rfl) rfl
theorem q1181 : (Jvm.Cond.declares ({ cls := "java/util/HashSet", name := "add", desc := "(Ljava/lang/Object;)Z" } : Jvm.MethodName)) ∈ lw_tbl := lw_at lw_m5 132 rfl
theorem q1183 : (Jvm.Cond.instanceMethod ({ cls := "java/util/HashSet", name := "add", desc := "(Ljava/lang/Object;)Z" } : Jvm.MethodName)) ∈ lw_all := lw_g (lw_at lw_m5 134 rfl) rfl
theorem q1184 : (Jvm.Cond.code ({ cls := "java/util/HashSet", name := "add", desc := "(Ljava/lang/Object;)Z" } : Jvm.MethodName) prog_55_method_10_code (2 : Nat) (Option.some Jvm.ClassFile.FieldType.boolean)) ∈ lw_all := lw_g (lw_at lw_m5 135 rfl) rfl
theorem q1185 : (Jvm.Cond.fieldLink "java/util/HashSet" (64 : Nat) "java/util/HashSet" "PRESENT" "Ljava/lang/Object;") ∈ lw_all := lw_g (lw_at lw_m5 136 rfl) rfl
theorem q1186 : (Jvm.Cond.laysStatic "java/util/HashSet" "PRESENT" "Ljava/lang/Object;") ∈ lw_tbl := lw_at lw_m5 137 rfl
theorem q1187 : (Jvm.Cond.methodLink "java/util/HashSet" (68 : Nat) ({ cls := "java/util/HashMap", name := "put", desc := "(Ljava/lang/Object;Ljava/lang/Object;)Ljava/lang/Object;" } : Jvm.MethodName)) ∈ lw_all := lw_g (lw_at lw_m5 138 rfl) rfl
theorem q1190 : (Jvm.Cond.declares ({ cls := "java/util/HashSet", name := "isEmpty", desc := "()Z" } : Jvm.MethodName)) ∈ lw_tbl := lw_at lw_m5 141 rfl
theorem q1192 : (Jvm.Cond.instanceMethod ({ cls := "java/util/HashSet", name := "isEmpty", desc := "()Z" } : Jvm.MethodName)) ∈ lw_all := lw_g (lw_at lw_m5 143 rfl) rfl
theorem q1193 : (Jvm.Cond.code ({ cls := "java/util/HashSet", name := "isEmpty", desc := "()Z" } : Jvm.MethodName) prog_55_method_8_code (1 : Nat) (Option.some Jvm.ClassFile.FieldType.boolean)) ∈ lw_all := lw_g (lw_at lw_m5 144 rfl) rfl
theorem q1194 : (Jvm.Cond.methodLink "java/util/HashSet" (56 : Nat) ({ cls := "java/util/HashMap", name := "isEmpty", desc := "()Z" } : Jvm.MethodName)) ∈ lw_all := lw_g (lw_at lw_m5 145 rfl) rfl
theorem q1442 : (Jvm.Cond.instanceMethod ({ cls := "java/util/HashSet", name := "iterator", desc := "()Ljava/util/Iterator;" } : Jvm.MethodName)) ∈ lw_all := lw_g (lw_at lw_m6 153 rfl) rfl
theorem q1443 : (Jvm.Cond.publicMethod ({ cls := "java/util/HashSet", name := "iterator", desc := "()Ljava/util/Iterator;" } : Jvm.MethodName)) ∈ lw_tbl := lw_at lw_m6 154 rfl
theorem q1444 : (Jvm.Cond.code ({ cls := "java/util/HashSet", name := "iterator", desc := "()Ljava/util/Iterator;" } : Jvm.MethodName) prog_55_method_6_code (1 : Nat) (Option.some (Jvm.ClassFile.FieldType.object "java/util/Iterator"))) ∈ lw_all := lw_g (lw_at lw_m6 155 rfl) rfl
theorem q1445 : (Jvm.Cond.methodLink "java/util/HashSet" (45 : Nat) ({ cls := "java/util/HashMap", name := "keySet", desc := "()Ljava/util/Set;" } : Jvm.MethodName)) ∈ lw_all := lw_g (lw_at lw_m6 156 rfl) rfl
theorem q1450 : (Jvm.Cond.interfaceEntry "java/util/HashSet" (49 : Nat)) ∈ lw_tbl := lw_at lw_m6 161 rfl
theorem q1451 : (Jvm.Cond.methodLink "java/util/HashSet" (49 : Nat) ({ cls := "java/util/Set", name := "iterator", desc := "()Ljava/util/Iterator;" } : Jvm.MethodName)) ∈ lw_all := lw_g (lw_at lw_m6 162 rfl) rfl
theorem q1454 : (Jvm.Cond.declares ({ cls := "java/util/HashSet", name := "size", desc := "()I" } : Jvm.MethodName)) ∈ lw_tbl := lw_at lw_m6 165 rfl
theorem q1456 : (Jvm.Cond.instanceMethod ({ cls := "java/util/HashSet", name := "size", desc := "()I" } : Jvm.MethodName)) ∈ lw_all := lw_g (lw_at lw_m6 167 rfl) rfl
theorem q1457 : (Jvm.Cond.code ({ cls := "java/util/HashSet", name := "size", desc := "()I" } : Jvm.MethodName) prog_55_method_7_code (1 : Nat) (Option.some Jvm.ClassFile.FieldType.int)) ∈ lw_all := lw_g (lw_at lw_m6 168 rfl) rfl
theorem q1458 : (Jvm.Cond.methodLink "java/util/HashSet" (55 : Nat) ({ cls := "java/util/HashMap", name := "size", desc := "()I" } : Jvm.MethodName)) ∈ lw_all := lw_g (lw_at lw_m6 169 rfl) rfl
theorem q1481 : (Jvm.Cond.declares ({ cls := "java/util/HashSet", name := "iterator", desc := "()Ljava/util/Iterator;" } : Jvm.MethodName)) ∈ lw_tbl := lw_at lw_m6 192 rfl

/-! java/util/LinkedHashSet -/
set_option maxRecDepth 100000
def RJ23 : String := "java/util/LinkedHashSet"
def TJ23 : u_T := fun k => match k with
  | _ => ("java/util/HashSet", "map", "Ljava/util/HashMap;", false)
def tyJ23 : Nat → FieldType := fun k => match k with
  | _ => .object "java/util/HashMap"
abbrev wsJ230 : List Cond := u_ws RJ23 TJ23 1
theorem nmJ23 : ∀ a, a < 1 → ∀ b, b < 1 → a ≠ b → (TJ23 a).2.1 ≠ (TJ23 b).2.1 := by decide +kernel
theorem tyJ23_ok : ∀ k, k < 1 → parseFieldDescriptor (TJ23 k).2.2.1 = some (tyJ23 k) := by decide +kernel
abbrev cJ23_init : ByteArray := prog_62_method_3_code
def yJ23_init : MethodName := ⟨RJ23, "<init>", "()V"⟩
def dkwJ23_init_0 : List UInt8 := [42, 16, 16, 18, 7, 4, 183, 0, 1, 177]
abbrev dktJ23_init_0 : List UInt8 := dkwJ23_init_0 ++ []
theorem dksJ23_init_0 : cJ23_init.data.toList.drop 0 = dktJ23_init_0 := by decide +kernel
theorem dJ23_init_0 : decode cJ23_init 0 = .ok (.aload_n 0, 1) := dk_42 (dk_at dksJ23_init_0 0 rfl rfl)
theorem dJ23_init_1 : decode cJ23_init 1 = .ok (.bipush 16, 2) := dk_16 16 (dk_at dksJ23_init_0 1 rfl rfl)
theorem dJ23_init_3 : decode cJ23_init 3 = .ok (.ldc 7, 2) := dk_18 7 (dk_at dksJ23_init_0 3 rfl rfl)
theorem dJ23_init_5 : decode cJ23_init 5 = .ok (.iconst 1, 1) := dk_4 (dk_at dksJ23_init_0 5 rfl rfl)
theorem dJ23_init_6 : decode cJ23_init 6 = .ok (.invokespecial 1, 3) := dk_183 0 1 (dk_at dksJ23_init_0 6 rfl rfl)
theorem dJ23_init_9 : decode cJ23_init 9 = .ok (.return_, 1) := dk_177 (dk_at dksJ23_init_0 9 rfl rfl)
theorem q121 : (Jvm.Cond.initialized "java/util/LinkedHashSet") ∈ lw_all := lw_g (lw_at lw_m1 32 rfl) rfl
theorem q387 : (Jvm.Cond.selects "java/util/LinkedHashSet" ({ cls := "java/lang/Object", name := "getClass", desc := "()Ljava/lang/Class;" } : Jvm.MethodName) ({ cls := "java/lang/Object", name := "getClass", desc := "()Ljava/lang/Class;" } : Jvm.MethodName)) ∈ lw_all := lw_g (lw_at lw_m2 58 rfl) rfl
theorem q1113 : (Jvm.Cond.instantiable "java/util/LinkedHashSet" (1 : Nat)) ∈ lw_all := lw_g (lw_at lw_m5 64 rfl) rfl
theorem q1115 : (Jvm.Cond.instanceMethod ({ cls := "java/util/LinkedHashSet", name := "<init>", desc := "()V" } : Jvm.MethodName)) ∈ lw_all := lw_g (lw_at lw_m5 66 rfl) rfl
theorem q1116 : (Jvm.Cond.code ({ cls := "java/util/LinkedHashSet", name := "<init>", desc := "()V" } : Jvm.MethodName) prog_62_method_3_code (1 : Nat) (Option.none : Option Jvm.ClassFile.FieldType)) ∈ lw_all := lw_g (lw_at lw_m5 67 rfl) rfl
theorem q1117 : (Jvm.Cond.constantFloat "java/util/LinkedHashSet" (7 : Nat) (1061158912 : UInt32)) ∈ lw_all := lw_g (lw_at lw_m5 68 rfl) rfl
theorem q1118 : (Jvm.Cond.methodLink "java/util/LinkedHashSet" (1 : Nat) ({ cls := "java/util/HashSet", name := "<init>", desc := "(IFZ)V" } : Jvm.MethodName)) ∈ lw_all := lw_g (lw_at lw_m5 69 rfl) rfl
theorem q1140 : (Jvm.Cond.lays "java/util/LinkedHashSet" "java/util/HashSet" "map" "Ljava/util/HashMap;") ∈ lw_all := lw_g (lw_at lw_m5 91 rfl) rfl
theorem q1142 : (Jvm.Cond.superclass "java/util/LinkedHashSet" "java/util/HashSet") ∈ lw_all := lw_g (lw_at lw_m5 93 rfl) rfl
theorem q1180 : (Jvm.Cond.sameMethod "java/util/LinkedHashSet" "java/util/HashSet" "add" "(Ljava/lang/Object;)Z") ∈ lw_all := lw_g (lw_at lw_m5 131 rfl) rfl
theorem q1182 : (Jvm.Cond.selects "java/util/LinkedHashSet" ({ cls := "java/util/LinkedHashSet", name := "add", desc := "(Ljava/lang/Object;)Z" } : Jvm.MethodName) ({ cls := "java/util/HashSet", name := "add", desc := "(Ljava/lang/Object;)Z" } : Jvm.MethodName)) ∈ lw_all := lw_g (lw_at lw_m5 133 rfl) rfl
theorem q1189 : (Jvm.Cond.sameMethod "java/util/LinkedHashSet" "java/util/HashSet" "isEmpty" "()Z") ∈ lw_all := lw_g (lw_at lw_m5 140 rfl) rfl
theorem q1191 : (Jvm.Cond.selects "java/util/LinkedHashSet" ({ cls := "java/util/LinkedHashSet", name := "isEmpty", desc := "()Z" } : Jvm.MethodName) ({ cls := "java/util/HashSet", name := "isEmpty", desc := "()Z" } : Jvm.MethodName)) ∈ lw_all := lw_g (lw_at lw_m5 142 rfl) rfl
theorem q1439 : (Jvm.Cond.castable "java/util/LinkedHashSet" "java/util/Set") ∈ lw_tbl := lw_at lw_m6 150 rfl
theorem q1440 : (Jvm.Cond.selects "java/util/LinkedHashSet" ({ cls := "java/util/Set", name := "iterator", desc := "()Ljava/util/Iterator;" } : Jvm.MethodName) ({ cls := "java/util/HashSet", name := "iterator", desc := "()Ljava/util/Iterator;" } : Jvm.MethodName)) ∈ lw_all := lw_g (lw_at lw_m6 151 rfl) rfl
theorem q1441 : (Jvm.Cond.unhidden "java/util/LinkedHashSet" "iterator" "()Ljava/util/Iterator;") ∈ lw_tbl := lw_at lw_m6 152 rfl
theorem q1453 : (Jvm.Cond.sameMethod "java/util/LinkedHashSet" "java/util/HashSet" "size" "()I") ∈ lw_all := lw_g (lw_at lw_m6 164 rfl) rfl
theorem q1455 : (Jvm.Cond.selects "java/util/LinkedHashSet" ({ cls := "java/util/LinkedHashSet", name := "size", desc := "()I" } : Jvm.MethodName) ({ cls := "java/util/HashSet", name := "size", desc := "()I" } : Jvm.MethodName)) ∈ lw_all := lw_g (lw_at lw_m6 166 rfl) rfl
theorem q1480 : (Jvm.Cond.sameMethod "java/util/LinkedHashSet" "java/util/HashSet" "iterator" "()Ljava/util/Iterator;") ∈ lw_all := lw_g (lw_at lw_m6 191 rfl) rfl
theorem q1482 : (Jvm.Cond.selects "java/util/LinkedHashSet" ({ cls := "java/util/LinkedHashSet", name := "iterator", desc := "()Ljava/util/Iterator;" } : Jvm.MethodName) ({ cls := "java/util/HashSet", name := "iterator", desc := "()Ljava/util/Iterator;" } : Jvm.MethodName)) ∈ lw_all := lw_g (lw_at lw_m6 193 rfl) rfl
theorem q2452 : (Jvm.Cond.castable "java/util/LinkedHashSet" "java/util/SequencedSet") ∈ lw_tbl := lw_at lw_m10 203 rfl
theorem q2465 : (Jvm.Cond.castable "java/util/LinkedHashSet" "java/lang/Object") ∈ lw_tbl := lw_at lw_m10 216 rfl
theorem in_J23 : ∀ w ∈ wsJ230, w ∈ lw_all := lw_in wsJ230 [1140] (by decide +kernel) (by decide +kernel)

/-! java/util/ArrayList$Itr -/
set_option maxRecDepth 100000
def RJ25 : String := "java/util/ArrayList$Itr"
def TJ25 : u_T := fun k => match k with
  | 0 => ("java/util/ArrayList$Itr", "cursor", "I", false)
  | 1 => ("java/util/ArrayList$Itr", "lastRet", "I", false)
  | 2 => ("java/util/ArrayList$Itr", "expectedModCount", "I", false)
  | _ => ("java/util/ArrayList$Itr", "this$0", "Ljava/util/ArrayList;", true)
def tyJ25 : Nat → FieldType := fun k => match k with
  | 0 => .int
  | 1 => .int
  | 2 => .int
  | _ => .object "java/util/ArrayList"
abbrev wsJ250 : List Cond := u_ws RJ25 TJ25 4
theorem nmJ25 : ∀ a, a < 4 → ∀ b, b < 4 → a ≠ b → (TJ25 a).2.1 ≠ (TJ25 b).2.1 := by decide +kernel
theorem tyJ25_ok : ∀ k, k < 4 → parseFieldDescriptor (TJ25 k).2.2.1 = some (tyJ25 k) := by decide +kernel
abbrev cJ25_init : ByteArray := prog_46_method_1_code
def yJ25_init : MethodName := ⟨RJ25, "<init>", "(Ljava/util/ArrayList;)V"⟩
def dkwJ25_init_1 : List UInt8 := [181, 0, 22, 177]
abbrev dktJ25_init_1 : List UInt8 := dkwJ25_init_1 ++ []
def dkwJ25_init_0 : List UInt8 := [42, 43, 181, 0, 1, 42, 183, 0, 7, 42, 2, 181, 0, 13, 42, 42, 180, 0, 1, 180, 0, 17]
abbrev dktJ25_init_0 : List UInt8 := dkwJ25_init_0 ++ dktJ25_init_1
theorem dksJ25_init_0 : cJ25_init.data.toList.drop 0 = dktJ25_init_0 := by decide +kernel
theorem dksJ25_init_1 : cJ25_init.data.toList.drop 22 = dktJ25_init_1 := dk_seg dksJ25_init_0 22 rfl rfl
theorem dJ25_init_0 : decode cJ25_init 0 = .ok (.aload_n 0, 1) := dk_42 (dk_at dksJ25_init_0 0 rfl rfl)
theorem dJ25_init_1 : decode cJ25_init 1 = .ok (.aload_n 1, 1) := dk_43 (dk_at dksJ25_init_0 1 rfl rfl)
theorem dJ25_init_2 : decode cJ25_init 2 = .ok (.putfield 1, 3) := dk_181 0 1 (dk_at dksJ25_init_0 2 rfl rfl)
theorem dJ25_init_5 : decode cJ25_init 5 = .ok (.aload_n 0, 1) := dk_42 (dk_at dksJ25_init_0 5 rfl rfl)
theorem dJ25_init_6 : decode cJ25_init 6 = .ok (.invokespecial 7, 3) := dk_183 0 7 (dk_at dksJ25_init_0 6 rfl rfl)
theorem dJ25_init_9 : decode cJ25_init 9 = .ok (.aload_n 0, 1) := dk_42 (dk_at dksJ25_init_0 9 rfl rfl)
theorem dJ25_init_10 : decode cJ25_init 10 = .ok (.iconst (-1), 1) := dk_2 (dk_at dksJ25_init_0 10 rfl rfl)
theorem dJ25_init_11 : decode cJ25_init 11 = .ok (.putfield 13, 3) := dk_181 0 13 (dk_at dksJ25_init_0 11 rfl rfl)
theorem dJ25_init_14 : decode cJ25_init 14 = .ok (.aload_n 0, 1) := dk_42 (dk_at dksJ25_init_0 14 rfl rfl)
theorem dJ25_init_15 : decode cJ25_init 15 = .ok (.aload_n 0, 1) := dk_42 (dk_at dksJ25_init_0 15 rfl rfl)
theorem dJ25_init_16 : decode cJ25_init 16 = .ok (.getfield 1, 3) := dk_180 0 1 (dk_at dksJ25_init_0 16 rfl rfl)
theorem dJ25_init_19 : decode cJ25_init 19 = .ok (.getfield 17, 3) := dk_180 0 17 (dk_at dksJ25_init_0 19 rfl rfl)
theorem dJ25_init_22 : decode cJ25_init 22 = .ok (.putfield 22, 3) := dk_181 0 22 (dk_at dksJ25_init_1 0 rfl rfl)
theorem dJ25_init_25 : decode cJ25_init 25 = .ok (.return_, 1) := dk_177 (dk_at dksJ25_init_1 3 rfl rfl)
abbrev cJ25_hasNext : ByteArray := prog_46_method_2_code
def yJ25_hasNext : MethodName := ⟨RJ25, "hasNext", "()Z"⟩
def dkwJ25_hasNext_0 : List UInt8 := [42, 180, 0, 25, 42, 180, 0, 1, 180, 0, 28, 159, 0, 7, 4, 167, 0, 4, 3, 172]
abbrev dktJ25_hasNext_0 : List UInt8 := dkwJ25_hasNext_0 ++ []
theorem dksJ25_hasNext_0 : cJ25_hasNext.data.toList.drop 0 = dktJ25_hasNext_0 := by decide +kernel
theorem dJ25_hasNext_0 : decode cJ25_hasNext 0 = .ok (.aload_n 0, 1) := dk_42 (dk_at dksJ25_hasNext_0 0 rfl rfl)
theorem dJ25_hasNext_1 : decode cJ25_hasNext 1 = .ok (.getfield 25, 3) := dk_180 0 25 (dk_at dksJ25_hasNext_0 1 rfl rfl)
theorem dJ25_hasNext_4 : decode cJ25_hasNext 4 = .ok (.aload_n 0, 1) := dk_42 (dk_at dksJ25_hasNext_0 4 rfl rfl)
theorem dJ25_hasNext_5 : decode cJ25_hasNext 5 = .ok (.getfield 1, 3) := dk_180 0 1 (dk_at dksJ25_hasNext_0 5 rfl rfl)
theorem dJ25_hasNext_8 : decode cJ25_hasNext 8 = .ok (.getfield 28, 3) := dk_180 0 28 (dk_at dksJ25_hasNext_0 8 rfl rfl)
theorem dJ25_hasNext_11 : decode cJ25_hasNext 11 = .ok (.if_icmp .eq 7, 3) := dk_159 0 7 (dk_at dksJ25_hasNext_0 11 rfl rfl)
theorem dJ25_hasNext_14 : decode cJ25_hasNext 14 = .ok (.iconst 1, 1) := dk_4 (dk_at dksJ25_hasNext_0 14 rfl rfl)
theorem dJ25_hasNext_15 : decode cJ25_hasNext 15 = .ok (.goto 4, 3) := dk_167 0 4 (dk_at dksJ25_hasNext_0 15 rfl rfl)
theorem dJ25_hasNext_18 : decode cJ25_hasNext 18 = .ok (.iconst 0, 1) := dk_3 (dk_at dksJ25_hasNext_0 18 rfl rfl)
theorem dJ25_hasNext_19 : decode cJ25_hasNext 19 = .ok (.ireturn, 1) := dk_172 (dk_at dksJ25_hasNext_0 19 rfl rfl)
abbrev cJ25_next : ByteArray := prog_46_method_3_code
def yJ25_next : MethodName := ⟨RJ25, "next", "()Ljava/lang/Object;"⟩
def dkwJ25_next_2 : List UInt8 := [183, 0, 43, 191, 42, 27, 4, 96, 181, 0, 25, 44, 42, 27, 90, 181, 0, 13, 50, 176]
abbrev dktJ25_next_2 : List UInt8 := dkwJ25_next_2 ++ []
def dkwJ25_next_1 : List UInt8 := [183, 0, 36, 191, 42, 180, 0, 1, 180, 0, 37, 77, 27, 44, 190, 161, 0, 11, 187, 0, 41, 89]
abbrev dktJ25_next_1 : List UInt8 := dkwJ25_next_1 ++ dktJ25_next_2
def dkwJ25_next_0 : List UInt8 := [42, 182, 0, 31, 42, 180, 0, 25, 60, 27, 42, 180, 0, 1, 180, 0, 28, 161, 0, 11, 187, 0, 34, 89]
abbrev dktJ25_next_0 : List UInt8 := dkwJ25_next_0 ++ dktJ25_next_1
theorem dksJ25_next_0 : cJ25_next.data.toList.drop 0 = dktJ25_next_0 := by decide +kernel
theorem dksJ25_next_1 : cJ25_next.data.toList.drop 24 = dktJ25_next_1 := dk_seg dksJ25_next_0 24 rfl rfl
theorem dksJ25_next_2 : cJ25_next.data.toList.drop 46 = dktJ25_next_2 := dk_seg dksJ25_next_1 22 rfl rfl
theorem dJ25_next_0 : decode cJ25_next 0 = .ok (.aload_n 0, 1) := dk_42 (dk_at dksJ25_next_0 0 rfl rfl)
theorem dJ25_next_1 : decode cJ25_next 1 = .ok (.invokevirtual 31, 3) := dk_182 0 31 (dk_at dksJ25_next_0 1 rfl rfl)
theorem dJ25_next_4 : decode cJ25_next 4 = .ok (.aload_n 0, 1) := dk_42 (dk_at dksJ25_next_0 4 rfl rfl)
theorem dJ25_next_5 : decode cJ25_next 5 = .ok (.getfield 25, 3) := dk_180 0 25 (dk_at dksJ25_next_0 5 rfl rfl)
theorem dJ25_next_8 : decode cJ25_next 8 = .ok (.istore_n 1, 1) := dk_60 (dk_at dksJ25_next_0 8 rfl rfl)
theorem dJ25_next_9 : decode cJ25_next 9 = .ok (.iload_n 1, 1) := dk_27 (dk_at dksJ25_next_0 9 rfl rfl)
theorem dJ25_next_10 : decode cJ25_next 10 = .ok (.aload_n 0, 1) := dk_42 (dk_at dksJ25_next_0 10 rfl rfl)
theorem dJ25_next_11 : decode cJ25_next 11 = .ok (.getfield 1, 3) := dk_180 0 1 (dk_at dksJ25_next_0 11 rfl rfl)
theorem dJ25_next_14 : decode cJ25_next 14 = .ok (.getfield 28, 3) := dk_180 0 28 (dk_at dksJ25_next_0 14 rfl rfl)
theorem dJ25_next_17 : decode cJ25_next 17 = .ok (.if_icmp .lt 11, 3) := dk_161 0 11 (dk_at dksJ25_next_0 17 rfl rfl)
theorem dJ25_next_20 : decode cJ25_next 20 = .ok (.new 34, 3) := dk_187 0 34 (dk_at dksJ25_next_0 20 rfl rfl)
theorem dJ25_next_23 : decode cJ25_next 23 = .ok (.dup, 1) := dk_89 (dk_at dksJ25_next_0 23 rfl rfl)
theorem dJ25_next_24 : decode cJ25_next 24 = .ok (.invokespecial 36, 3) := dk_183 0 36 (dk_at dksJ25_next_1 0 rfl rfl)
theorem dJ25_next_27 : decode cJ25_next 27 = .ok (.athrow, 1) := dk_191 (dk_at dksJ25_next_1 3 rfl rfl)
theorem dJ25_next_28 : decode cJ25_next 28 = .ok (.aload_n 0, 1) := dk_42 (dk_at dksJ25_next_1 4 rfl rfl)
theorem dJ25_next_29 : decode cJ25_next 29 = .ok (.getfield 1, 3) := dk_180 0 1 (dk_at dksJ25_next_1 5 rfl rfl)
theorem dJ25_next_32 : decode cJ25_next 32 = .ok (.getfield 37, 3) := dk_180 0 37 (dk_at dksJ25_next_1 8 rfl rfl)
theorem dJ25_next_35 : decode cJ25_next 35 = .ok (.astore_n 2, 1) := dk_77 (dk_at dksJ25_next_1 11 rfl rfl)
theorem dJ25_next_36 : decode cJ25_next 36 = .ok (.iload_n 1, 1) := dk_27 (dk_at dksJ25_next_1 12 rfl rfl)
theorem dJ25_next_37 : decode cJ25_next 37 = .ok (.aload_n 2, 1) := dk_44 (dk_at dksJ25_next_1 13 rfl rfl)
theorem dJ25_next_38 : decode cJ25_next 38 = .ok (.arraylength, 1) := dk_190 (dk_at dksJ25_next_1 14 rfl rfl)
theorem dJ25_next_39 : decode cJ25_next 39 = .ok (.if_icmp .lt 11, 3) := dk_161 0 11 (dk_at dksJ25_next_1 15 rfl rfl)
theorem dJ25_next_42 : decode cJ25_next 42 = .ok (.new 41, 3) := dk_187 0 41 (dk_at dksJ25_next_1 18 rfl rfl)
theorem dJ25_next_45 : decode cJ25_next 45 = .ok (.dup, 1) := dk_89 (dk_at dksJ25_next_1 21 rfl rfl)
theorem dJ25_next_46 : decode cJ25_next 46 = .ok (.invokespecial 43, 3) := dk_183 0 43 (dk_at dksJ25_next_2 0 rfl rfl)
theorem dJ25_next_49 : decode cJ25_next 49 = .ok (.athrow, 1) := dk_191 (dk_at dksJ25_next_2 3 rfl rfl)
theorem dJ25_next_50 : decode cJ25_next 50 = .ok (.aload_n 0, 1) := dk_42 (dk_at dksJ25_next_2 4 rfl rfl)
theorem dJ25_next_51 : decode cJ25_next 51 = .ok (.iload_n 1, 1) := dk_27 (dk_at dksJ25_next_2 5 rfl rfl)
theorem dJ25_next_52 : decode cJ25_next 52 = .ok (.iconst 1, 1) := dk_4 (dk_at dksJ25_next_2 6 rfl rfl)
theorem dJ25_next_53 : decode cJ25_next 53 = .ok (.iadd, 1) := dk_96 (dk_at dksJ25_next_2 7 rfl rfl)
theorem dJ25_next_54 : decode cJ25_next 54 = .ok (.putfield 25, 3) := dk_181 0 25 (dk_at dksJ25_next_2 8 rfl rfl)
theorem dJ25_next_57 : decode cJ25_next 57 = .ok (.aload_n 2, 1) := dk_44 (dk_at dksJ25_next_2 11 rfl rfl)
theorem dJ25_next_58 : decode cJ25_next 58 = .ok (.aload_n 0, 1) := dk_42 (dk_at dksJ25_next_2 12 rfl rfl)
theorem dJ25_next_59 : decode cJ25_next 59 = .ok (.iload_n 1, 1) := dk_27 (dk_at dksJ25_next_2 13 rfl rfl)
theorem dJ25_next_60 : decode cJ25_next 60 = .ok (.dup_x1, 1) := dk_90 (dk_at dksJ25_next_2 14 rfl rfl)
theorem dJ25_next_61 : decode cJ25_next 61 = .ok (.putfield 13, 3) := dk_181 0 13 (dk_at dksJ25_next_2 15 rfl rfl)
theorem dJ25_next_64 : decode cJ25_next 64 = .ok (.aaload, 1) := dk_50 (dk_at dksJ25_next_2 18 rfl rfl)
theorem dJ25_next_65 : decode cJ25_next 65 = .ok (.areturn, 1) := dk_176 (dk_at dksJ25_next_2 19 rfl rfl)
abbrev cJ25_checkForComodification : ByteArray := prog_46_method_6_code
def yJ25_checkForComodification : MethodName := ⟨RJ25, "checkForComodification", "()V"⟩
def dkwJ25_checkForComodification_0 : List UInt8 := [42, 180, 0, 1, 180, 0, 17, 42, 180, 0, 22, 159, 0, 11, 187, 0, 41, 89, 183, 0, 43, 191, 177]
abbrev dktJ25_checkForComodification_0 : List UInt8 := dkwJ25_checkForComodification_0 ++ []
theorem dksJ25_checkForComodification_0 : cJ25_checkForComodification.data.toList.drop 0 = dktJ25_checkForComodification_0 := by decide +kernel
theorem dJ25_checkForComodification_0 : decode cJ25_checkForComodification 0 = .ok (.aload_n 0, 1) := dk_42 (dk_at dksJ25_checkForComodification_0 0 rfl rfl)
theorem dJ25_checkForComodification_1 : decode cJ25_checkForComodification 1 = .ok (.getfield 1, 3) := dk_180 0 1 (dk_at dksJ25_checkForComodification_0 1 rfl rfl)
theorem dJ25_checkForComodification_4 : decode cJ25_checkForComodification 4 = .ok (.getfield 17, 3) := dk_180 0 17 (dk_at dksJ25_checkForComodification_0 4 rfl rfl)
theorem dJ25_checkForComodification_7 : decode cJ25_checkForComodification 7 = .ok (.aload_n 0, 1) := dk_42 (dk_at dksJ25_checkForComodification_0 7 rfl rfl)
theorem dJ25_checkForComodification_8 : decode cJ25_checkForComodification 8 = .ok (.getfield 22, 3) := dk_180 0 22 (dk_at dksJ25_checkForComodification_0 8 rfl rfl)
theorem dJ25_checkForComodification_11 : decode cJ25_checkForComodification 11 = .ok (.if_icmp .eq 11, 3) := dk_159 0 11 (dk_at dksJ25_checkForComodification_0 11 rfl rfl)
theorem dJ25_checkForComodification_14 : decode cJ25_checkForComodification 14 = .ok (.new 41, 3) := dk_187 0 41 (dk_at dksJ25_checkForComodification_0 14 rfl rfl)
theorem dJ25_checkForComodification_17 : decode cJ25_checkForComodification 17 = .ok (.dup, 1) := dk_89 (dk_at dksJ25_checkForComodification_0 17 rfl rfl)
theorem dJ25_checkForComodification_18 : decode cJ25_checkForComodification 18 = .ok (.invokespecial 43, 3) := dk_183 0 43 (dk_at dksJ25_checkForComodification_0 18 rfl rfl)
theorem dJ25_checkForComodification_21 : decode cJ25_checkForComodification 21 = .ok (.athrow, 1) := dk_191 (dk_at dksJ25_checkForComodification_0 21 rfl rfl)
theorem dJ25_checkForComodification_22 : decode cJ25_checkForComodification 22 = .ok (.return_, 1) := dk_177 (dk_at dksJ25_checkForComodification_0 22 rfl rfl)
theorem q124 : (Jvm.Cond.initialized "java/util/ArrayList$Itr") ∈ lw_all := lw_g (lw_at lw_m1 35 rfl) rfl
theorem q167 : (Jvm.Cond.fieldLink "java/util/ArrayList$Itr" (37 : Nat) "java/util/ArrayList" "elementData" "[Ljava/lang/Object;") ∈ lw_all := lw_g (lw_at lw_m1 78 rfl) rfl
theorem q168 : (Jvm.Cond.fieldLinkNest "java/util/ArrayList$Itr" (28 : Nat) "java/util/ArrayList" "size" "I" "java/util/ArrayList") ∈ lw_tbl := lw_at lw_m1 79 rfl
theorem q171 : (Jvm.Cond.fieldLink "java/util/ArrayList$Itr" (17 : Nat) "java/util/ArrayList" "modCount" "I") ∈ lw_all := lw_g (lw_at lw_m1 82 rfl) rfl
theorem q378 : (Jvm.Cond.selects "java/util/ArrayList$Itr" ({ cls := "java/lang/Object", name := "getClass", desc := "()Ljava/lang/Class;" } : Jvm.MethodName) ({ cls := "java/lang/Object", name := "getClass", desc := "()Ljava/lang/Class;" } : Jvm.MethodName)) ∈ lw_all := lw_g (lw_at lw_m2 49 rfl) rfl
theorem q1257 : (Jvm.Cond.instantiable "java/util/ArrayList$Itr" (4 : Nat)) ∈ lw_all := lw_g (lw_at lw_m5 208 rfl) rfl
theorem q1259 : (Jvm.Cond.instanceMethod ({ cls := "java/util/ArrayList$Itr", name := "<init>", desc := "(Ljava/util/ArrayList;)V" } : Jvm.MethodName)) ∈ lw_all := lw_g (lw_at lw_m5 210 rfl) rfl
theorem q1260 : (Jvm.Cond.code ({ cls := "java/util/ArrayList$Itr", name := "<init>", desc := "(Ljava/util/ArrayList;)V" } : Jvm.MethodName) prog_46_method_1_code (2 : Nat) (Option.none : Option Jvm.ClassFile.FieldType)) ∈ lw_all := lw_g (lw_at lw_m5 211 rfl) rfl
theorem q1261 : (Jvm.Cond.methodLink "java/util/ArrayList$Itr" (7 : Nat) ({ cls := "java/lang/Object", name := "<init>", desc := "()V" } : Jvm.MethodName)) ∈ lw_all := lw_g (lw_at lw_m5 212 rfl) rfl
theorem q1262 : (Jvm.Cond.fieldLink "java/util/ArrayList$Itr" (25 : Nat) "java/util/ArrayList$Itr" "cursor" "I") ∈ lw_all := lw_g (lw_at lw_m5 213 rfl) rfl
theorem q1263 : (Jvm.Cond.fieldLink "java/util/ArrayList$Itr" (13 : Nat) "java/util/ArrayList$Itr" "lastRet" "I") ∈ lw_all := lw_g (lw_at lw_m5 214 rfl) rfl
theorem q1264 : (Jvm.Cond.fieldLink "java/util/ArrayList$Itr" (22 : Nat) "java/util/ArrayList$Itr" "expectedModCount" "I") ∈ lw_all := lw_g (lw_at lw_m5 215 rfl) rfl
theorem q1265 : (Jvm.Cond.fieldLink "java/util/ArrayList$Itr" (1 : Nat) "java/util/ArrayList$Itr" "this$0" "Ljava/util/ArrayList;") ∈ lw_all := lw_g (lw_at lw_m5 216 rfl) rfl
theorem q1266 : (Jvm.Cond.lays "java/util/ArrayList$Itr" "java/util/ArrayList$Itr" "cursor" "I") ∈ lw_all := lw_g (lw_at lw_m5 217 rfl) rfl
theorem q1267 : (Jvm.Cond.soleField "java/util/ArrayList$Itr" "cursor") ∈ lw_all := lw_g (lw_at lw_m5 218 rfl) rfl
theorem q1268 : (Jvm.Cond.lays "java/util/ArrayList$Itr" "java/util/ArrayList$Itr" "lastRet" "I") ∈ lw_all := lw_g (lw_at lw_m5 219 rfl) rfl
theorem q1269 : (Jvm.Cond.soleField "java/util/ArrayList$Itr" "lastRet") ∈ lw_all := lw_g (lw_at lw_m5 220 rfl) rfl
theorem q1270 : (Jvm.Cond.lays "java/util/ArrayList$Itr" "java/util/ArrayList$Itr" "expectedModCount" "I") ∈ lw_all := lw_g (lw_at lw_m5 221 rfl) rfl
theorem q1271 : (Jvm.Cond.soleField "java/util/ArrayList$Itr" "expectedModCount") ∈ lw_all := lw_g (lw_at lw_m5 222 rfl) rfl
theorem q1272 : (Jvm.Cond.laysFinal "java/util/ArrayList$Itr" "java/util/ArrayList$Itr" "this$0" "Ljava/util/ArrayList;") ∈ lw_all := lw_g (lw_at lw_m5 223 rfl) rfl
theorem q1273 : (Jvm.Cond.soleField "java/util/ArrayList$Itr" "this$0") ∈ lw_all := lw_g (lw_at lw_m5 224 rfl) rfl
theorem q1274 : (Jvm.Cond.superclass "java/util/ArrayList$Itr" "java/lang/Object") ∈ lw_all := lw_g (lw_at lw_m5 225 rfl) rfl
theorem q1279 : (Jvm.Cond.castable "java/util/ArrayList$Itr" "java/util/Iterator") ∈ lw_tbl := lw_at lw_m5 230 rfl
theorem q1280 : (Jvm.Cond.selects "java/util/ArrayList$Itr" ({ cls := "java/util/Iterator", name := "hasNext", desc := "()Z" } : Jvm.MethodName) ({ cls := "java/util/ArrayList$Itr", name := "hasNext", desc := "()Z" } : Jvm.MethodName)) ∈ lw_all := lw_g (lw_at lw_m5 231 rfl) rfl
theorem q1281 : (Jvm.Cond.unhidden "java/util/ArrayList$Itr" "hasNext" "()Z") ∈ lw_tbl := lw_at lw_m5 232 rfl
theorem q1282 : (Jvm.Cond.instanceMethod ({ cls := "java/util/ArrayList$Itr", name := "hasNext", desc := "()Z" } : Jvm.MethodName)) ∈ lw_all := lw_g (lw_at lw_m5 233 rfl) rfl
theorem q1283 : (Jvm.Cond.publicMethod ({ cls := "java/util/ArrayList$Itr", name := "hasNext", desc := "()Z" } : Jvm.MethodName)) ∈ lw_tbl := lw_at lw_m5 234 rfl
theorem q1284 : (Jvm.Cond.code ({ cls := "java/util/ArrayList$Itr", name := "hasNext", desc := "()Z" } : Jvm.MethodName) prog_46_method_2_code (1 : Nat) (Option.some Jvm.ClassFile.FieldType.boolean)) ∈ lw_all := lw_g (lw_at lw_m5 235 rfl) rfl
theorem q1301 : (Jvm.Cond.selects "java/util/ArrayList$Itr" ({ cls := "java/util/Iterator", name := "next", desc := "()Ljava/lang/Object;" } : Jvm.MethodName) ({ cls := "java/util/ArrayList$Itr", name := "next", desc := "()Ljava/lang/Object;" } : Jvm.MethodName)) ∈ lw_all := lw_g (lw_at lw_m6 12 rfl) rfl
theorem q1302 : (Jvm.Cond.unhidden "java/util/ArrayList$Itr" "next" "()Ljava/lang/Object;") ∈ lw_tbl := lw_at lw_m6 13 rfl
theorem q1303 : (Jvm.Cond.instanceMethod ({ cls := "java/util/ArrayList$Itr", name := "next", desc := "()Ljava/lang/Object;" } : Jvm.MethodName)) ∈ lw_all := lw_g (lw_at lw_m6 14 rfl) rfl
theorem q1304 : (Jvm.Cond.publicMethod ({ cls := "java/util/ArrayList$Itr", name := "next", desc := "()Ljava/lang/Object;" } : Jvm.MethodName)) ∈ lw_tbl := lw_at lw_m6 15 rfl
theorem q1305 : (Jvm.Cond.code ({ cls := "java/util/ArrayList$Itr", name := "next", desc := "()Ljava/lang/Object;" } : Jvm.MethodName) prog_46_method_3_code (3 : Nat) (Option.some (Jvm.ClassFile.FieldType.object "java/lang/Object"))) ∈ lw_all := lw_g (lw_at lw_m6 16 rfl) rfl
theorem q1306 : (Jvm.Cond.methodLink "java/util/ArrayList$Itr" (31 : Nat) ({ cls := "java/util/ArrayList$Itr", name := "checkForComodification", desc := "()V" } : Jvm.MethodName)) ∈ lw_all := lw_g (lw_at lw_m6 17 rfl) rfl
theorem q1307 : (Jvm.Cond.instanceMethod ({ cls := "java/util/ArrayList$Itr", name := "checkForComodification", desc := "()V" } : Jvm.MethodName)) ∈ lw_all := lw_g (lw_at lw_m6 18 rfl) rfl
theorem q1308 : (Jvm.Cond.selects "java/util/ArrayList$Itr" ({ cls := "java/util/ArrayList$Itr", name := "checkForComodification", desc := "()V" } : Jvm.MethodName) ({ cls := "java/util/ArrayList$Itr", name := "checkForComodification", desc := "()V" } : Jvm.MethodName)) ∈ lw_all := lw_g (lw_at lw_m6 19 rfl) rfl
theorem q1309 : (Jvm.Cond.code ({ cls := "java/util/ArrayList$Itr", name := "checkForComodification", desc := "()V" } : Jvm.MethodName) prog_46_method_6_code (1 : Nat) (Option.none : Option Jvm.ClassFile.FieldType)) ∈ lw_all := lw_g (lw_at lw_m6 20 rfl) rfl
theorem q2467 : (Jvm.Cond.castable "java/util/ArrayList$Itr" "java/lang/Object") ∈ lw_tbl := lw_at lw_m10 218 rfl
theorem in_J25 : ∀ w ∈ wsJ250, w ∈ lw_all := lw_in wsJ250 [1266, 1268, 1270, 1272] (by decide +kernel) (by decide +kernel)

/-! java/util/LinkedHashMap$LinkedKeySet -/
set_option maxRecDepth 100000
def RJ26 : String := "java/util/LinkedHashMap$LinkedKeySet"
def TJ26 : u_T := fun k => match k with
  | 0 => ("java/util/LinkedHashMap$LinkedKeySet", "reversed", "Z", true)
  | _ => ("java/util/LinkedHashMap$LinkedKeySet", "this$0", "Ljava/util/LinkedHashMap;", true)
def tyJ26 : Nat → FieldType := fun k => match k with
  | 0 => .boolean
  | _ => .object "java/util/LinkedHashMap"
abbrev wsJ260 : List Cond := u_ws RJ26 TJ26 2
theorem nmJ26 : ∀ a, a < 2 → ∀ b, b < 2 → a ≠ b → (TJ26 a).2.1 ≠ (TJ26 b).2.1 := by decide +kernel
theorem tyJ26_ok : ∀ k, k < 2 → parseFieldDescriptor (TJ26 k).2.2.1 = some (tyJ26 k) := by decide +kernel
abbrev cJ26_init : ByteArray := prog_61_method_1_code
def yJ26_init : MethodName := ⟨RJ26, "<init>", "(Ljava/util/LinkedHashMap;Z)V"⟩
def dkwJ26_init_0 : List UInt8 := [42, 43, 181, 0, 1, 42, 183, 0, 7, 42, 28, 181, 0, 13, 177]
abbrev dktJ26_init_0 : List UInt8 := dkwJ26_init_0 ++ []
theorem dksJ26_init_0 : cJ26_init.data.toList.drop 0 = dktJ26_init_0 := by decide +kernel
theorem dJ26_init_0 : decode cJ26_init 0 = .ok (.aload_n 0, 1) := dk_42 (dk_at dksJ26_init_0 0 rfl rfl)
theorem dJ26_init_1 : decode cJ26_init 1 = .ok (.aload_n 1, 1) := dk_43 (dk_at dksJ26_init_0 1 rfl rfl)
theorem dJ26_init_2 : decode cJ26_init 2 = .ok (.putfield 1, 3) := dk_181 0 1 (dk_at dksJ26_init_0 2 rfl rfl)
theorem dJ26_init_5 : decode cJ26_init 5 = .ok (.aload_n 0, 1) := dk_42 (dk_at dksJ26_init_0 5 rfl rfl)
theorem dJ26_init_6 : decode cJ26_init 6 = .ok (.invokespecial 7, 3) := dk_183 0 7 (dk_at dksJ26_init_0 6 rfl rfl)
theorem dJ26_init_9 : decode cJ26_init 9 = .ok (.aload_n 0, 1) := dk_42 (dk_at dksJ26_init_0 9 rfl rfl)
theorem dJ26_init_10 : decode cJ26_init 10 = .ok (.iload_n 2, 1) := dk_28 (dk_at dksJ26_init_0 10 rfl rfl)
theorem dJ26_init_11 : decode cJ26_init 11 = .ok (.putfield 13, 3) := dk_181 0 13 (dk_at dksJ26_init_0 11 rfl rfl)
theorem dJ26_init_14 : decode cJ26_init 14 = .ok (.return_, 1) := dk_177 (dk_at dksJ26_init_0 14 rfl rfl)
abbrev cJ26_iterator : ByteArray := prog_61_method_4_code
def yJ26_iterator : MethodName := ⟨RJ26, "iterator", "()Ljava/util/Iterator;"⟩
def dkwJ26_iterator_0 : List UInt8 := [187, 0, 26, 89, 42, 180, 0, 1, 42, 180, 0, 13, 183, 0, 28, 176]
abbrev dktJ26_iterator_0 : List UInt8 := dkwJ26_iterator_0 ++ []
theorem dksJ26_iterator_0 : cJ26_iterator.data.toList.drop 0 = dktJ26_iterator_0 := by decide +kernel
theorem dJ26_iterator_0 : decode cJ26_iterator 0 = .ok (.new 26, 3) := dk_187 0 26 (dk_at dksJ26_iterator_0 0 rfl rfl)
theorem dJ26_iterator_3 : decode cJ26_iterator 3 = .ok (.dup, 1) := dk_89 (dk_at dksJ26_iterator_0 3 rfl rfl)
theorem dJ26_iterator_4 : decode cJ26_iterator 4 = .ok (.aload_n 0, 1) := dk_42 (dk_at dksJ26_iterator_0 4 rfl rfl)
theorem dJ26_iterator_5 : decode cJ26_iterator 5 = .ok (.getfield 1, 3) := dk_180 0 1 (dk_at dksJ26_iterator_0 5 rfl rfl)
theorem dJ26_iterator_8 : decode cJ26_iterator 8 = .ok (.aload_n 0, 1) := dk_42 (dk_at dksJ26_iterator_0 8 rfl rfl)
theorem dJ26_iterator_9 : decode cJ26_iterator 9 = .ok (.getfield 13, 3) := dk_180 0 13 (dk_at dksJ26_iterator_0 9 rfl rfl)
theorem dJ26_iterator_12 : decode cJ26_iterator 12 = .ok (.invokespecial 28, 3) := dk_183 0 28 (dk_at dksJ26_iterator_0 12 rfl rfl)
theorem dJ26_iterator_15 : decode cJ26_iterator 15 = .ok (.areturn, 1) := dk_176 (dk_at dksJ26_iterator_0 15 rfl rfl)
theorem q125 : (Jvm.Cond.initialized "java/util/LinkedHashMap$LinkedKeySet") ∈ lw_all := lw_g (lw_at lw_m1 36 rfl) rfl
theorem q386 : (Jvm.Cond.selects "java/util/LinkedHashMap$LinkedKeySet" ({ cls := "java/lang/Object", name := "getClass", desc := "()Ljava/lang/Class;" } : Jvm.MethodName) ({ cls := "java/lang/Object", name := "getClass", desc := "()Ljava/lang/Class;" } : Jvm.MethodName)) ∈ lw_all := lw_g (lw_at lw_m2 57 rfl) rfl
theorem q1360 : (Jvm.Cond.instantiable "java/util/LinkedHashMap$LinkedKeySet" (2 : Nat)) ∈ lw_all := lw_g (lw_at lw_m6 71 rfl) rfl
theorem q1362 : (Jvm.Cond.instanceMethod ({ cls := "java/util/LinkedHashMap$LinkedKeySet", name := "<init>", desc := "(Ljava/util/LinkedHashMap;Z)V" } : Jvm.MethodName)) ∈ lw_all := lw_g (lw_at lw_m6 73 rfl) rfl
theorem q1363 : (Jvm.Cond.code ({ cls := "java/util/LinkedHashMap$LinkedKeySet", name := "<init>", desc := "(Ljava/util/LinkedHashMap;Z)V" } : Jvm.MethodName) prog_61_method_1_code (3 : Nat) (Option.none : Option Jvm.ClassFile.FieldType)) ∈ lw_all := lw_g (lw_at lw_m6 74 rfl) rfl
theorem q1364 : (Jvm.Cond.methodLink "java/util/LinkedHashMap$LinkedKeySet" (7 : Nat) ({ cls := "java/util/AbstractSet", name := "<init>", desc := "()V" } : Jvm.MethodName)) ∈ lw_all := lw_g (lw_at lw_m6 75 rfl) rfl
theorem q1365 : (Jvm.Cond.fieldLink "java/util/LinkedHashMap$LinkedKeySet" (13 : Nat) "java/util/LinkedHashMap$LinkedKeySet" "reversed" "Z") ∈ lw_all := lw_g (lw_at lw_m6 76 rfl) rfl
theorem q1366 : (Jvm.Cond.fieldLink "java/util/LinkedHashMap$LinkedKeySet" (1 : Nat) "java/util/LinkedHashMap$LinkedKeySet" "this$0" "Ljava/util/LinkedHashMap;") ∈ lw_all := lw_g (lw_at lw_m6 77 rfl) rfl
theorem q1367 : (Jvm.Cond.laysFinal "java/util/LinkedHashMap$LinkedKeySet" "java/util/LinkedHashMap$LinkedKeySet" "reversed" "Z") ∈ lw_all := lw_g (lw_at lw_m6 78 rfl) rfl
theorem q1368 : (Jvm.Cond.soleField "java/util/LinkedHashMap$LinkedKeySet" "reversed") ∈ lw_all := lw_g (lw_at lw_m6 79 rfl) rfl
theorem q1369 : (Jvm.Cond.laysFinal "java/util/LinkedHashMap$LinkedKeySet" "java/util/LinkedHashMap$LinkedKeySet" "this$0" "Ljava/util/LinkedHashMap;") ∈ lw_all := lw_g (lw_at lw_m6 80 rfl) rfl
theorem q1370 : (Jvm.Cond.soleField "java/util/LinkedHashMap$LinkedKeySet" "this$0") ∈ lw_all := lw_g (lw_at lw_m6 81 rfl) rfl
theorem q1371 : (Jvm.Cond.superclass "java/util/LinkedHashMap$LinkedKeySet" "java/util/AbstractSet") ∈ lw_all := lw_g (lw_at lw_m6 82 rfl) rfl
theorem q1408 : (Jvm.Cond.castable "java/util/LinkedHashMap$LinkedKeySet" "java/util/Set") ∈ lw_tbl := lw_at lw_m6 119 rfl
theorem q1409 : (Jvm.Cond.selects "java/util/LinkedHashMap$LinkedKeySet" ({ cls := "java/util/Set", name := "iterator", desc := "()Ljava/util/Iterator;" } : Jvm.MethodName) ({ cls := "java/util/LinkedHashMap$LinkedKeySet", name := "iterator", desc := "()Ljava/util/Iterator;" } : Jvm.MethodName)) ∈ lw_all := lw_g (lw_at lw_m6 120 rfl) rfl
theorem q1410 : (Jvm.Cond.unhidden "java/util/LinkedHashMap$LinkedKeySet" "iterator" "()Ljava/util/Iterator;") ∈ lw_tbl := lw_at lw_m6 121 rfl
theorem q1411 : (Jvm.Cond.instanceMethod ({ cls := "java/util/LinkedHashMap$LinkedKeySet", name := "iterator", desc := "()Ljava/util/Iterator;" } : Jvm.MethodName)) ∈ lw_all := lw_g (lw_at lw_m6 122 rfl) rfl
theorem q1412 : (Jvm.Cond.publicMethod ({ cls := "java/util/LinkedHashMap$LinkedKeySet", name := "iterator", desc := "()Ljava/util/Iterator;" } : Jvm.MethodName)) ∈ lw_tbl := lw_at lw_m6 123 rfl
theorem q1413 : (Jvm.Cond.code ({ cls := "java/util/LinkedHashMap$LinkedKeySet", name := "iterator", desc := "()Ljava/util/Iterator;" } : Jvm.MethodName) prog_61_method_4_code (1 : Nat) (Option.some (Jvm.ClassFile.FieldType.object "java/util/Iterator"))) ∈ lw_all := lw_g (lw_at lw_m6 124 rfl) rfl
theorem q1414 : (Jvm.Cond.classLink "java/util/LinkedHashMap$LinkedKeySet" (26 : Nat) "java/util/LinkedHashMap$LinkedKeyIterator") ∈ lw_all := lw_g (lw_at lw_m6 125 rfl) rfl
theorem q1416 : (Jvm.Cond.methodLink "java/util/LinkedHashMap$LinkedKeySet" (28 : Nat) ({ cls := "java/util/LinkedHashMap$LinkedKeyIterator", name := "<init>", desc := "(Ljava/util/LinkedHashMap;Z)V" } : Jvm.MethodName)) ∈ lw_all := lw_g (lw_at lw_m6 127 rfl) rfl
theorem q2451 : (Jvm.Cond.castable "java/util/LinkedHashMap$LinkedKeySet" "java/util/SequencedSet") ∈ lw_tbl := lw_at lw_m10 202 rfl
theorem q2468 : (Jvm.Cond.castable "java/util/LinkedHashMap$LinkedKeySet" "java/lang/Object") ∈ lw_tbl := lw_at lw_m10 219 rfl
theorem in_J26 : ∀ w ∈ wsJ260, w ∈ lw_all := lw_in wsJ260 [1367, 1369] (by decide +kernel) (by decide +kernel)

/-! java/util/HashMap$HashIterator -/
set_option maxRecDepth 100000
def RJ27 : String := "java/util/HashMap$HashIterator"
abbrev cJ27_hasNext : ByteArray := prog_50_method_2_code
def yJ27_hasNext : MethodName := ⟨RJ27, "hasNext", "()Z"⟩
def dkwJ27_hasNext_0 : List UInt8 := [42, 180, 0, 26, 198, 0, 7, 4, 167, 0, 4, 3, 172]
abbrev dktJ27_hasNext_0 : List UInt8 := dkwJ27_hasNext_0 ++ []
theorem dksJ27_hasNext_0 : cJ27_hasNext.data.toList.drop 0 = dktJ27_hasNext_0 := by decide +kernel
theorem dJ27_hasNext_0 : decode cJ27_hasNext 0 = .ok (.aload_n 0, 1) := dk_42 (dk_at dksJ27_hasNext_0 0 rfl rfl)
theorem dJ27_hasNext_1 : decode cJ27_hasNext 1 = .ok (.getfield 26, 3) := dk_180 0 26 (dk_at dksJ27_hasNext_0 1 rfl rfl)
theorem dJ27_hasNext_4 : decode cJ27_hasNext 4 = .ok (.ifnull 7, 3) := dk_198 0 7 (dk_at dksJ27_hasNext_0 4 rfl rfl)
theorem dJ27_hasNext_7 : decode cJ27_hasNext 7 = .ok (.iconst 1, 1) := dk_4 (dk_at dksJ27_hasNext_0 7 rfl rfl)
theorem dJ27_hasNext_8 : decode cJ27_hasNext 8 = .ok (.goto 4, 3) := dk_167 0 4 (dk_at dksJ27_hasNext_0 8 rfl rfl)
theorem dJ27_hasNext_11 : decode cJ27_hasNext 11 = .ok (.iconst 0, 1) := dk_3 (dk_at dksJ27_hasNext_0 11 rfl rfl)
theorem dJ27_hasNext_12 : decode cJ27_hasNext 12 = .ok (.ireturn, 1) := dk_172 (dk_at dksJ27_hasNext_0 12 rfl rfl)
abbrev cJ27_nextNode : ByteArray := prog_50_method_3_code
def yJ27_nextNode : MethodName := ⟨RJ27, "nextNode", "()Ljava/util/HashMap$Node;"⟩
def dkwJ27_nextNode_4 : List UInt8 := [181, 0, 26, 198, 255, 229, 44, 176]
abbrev dktJ27_nextNode_4 : List UInt8 := dkwJ27_nextNode_4 ++ []
def dkwJ27_nextNode_3 : List UInt8 := [180, 0, 33, 43, 190, 162, 0, 24, 42, 43, 42, 89, 180, 0, 33, 90, 4, 96, 181, 0, 33, 50, 90]
abbrev dktJ27_nextNode_3 : List UInt8 := dkwJ27_nextNode_3 ++ dktJ27_nextNode_4
def dkwJ27_nextNode_2 : List UInt8 := [180, 0, 45, 90, 181, 0, 26, 199, 0, 45, 42, 180, 0, 1, 180, 0, 22, 89, 76, 198, 0, 33, 42]
abbrev dktJ27_nextNode_2 : List UInt8 := dkwJ27_nextNode_2 ++ dktJ27_nextNode_3
def dkwJ27_nextNode_1 : List UInt8 := [183, 0, 41, 191, 44, 199, 0, 11, 187, 0, 42, 89, 183, 0, 44, 191, 42, 42, 44, 90, 181, 0, 30]
abbrev dktJ27_nextNode_1 : List UInt8 := dkwJ27_nextNode_1 ++ dktJ27_nextNode_2
def dkwJ27_nextNode_0 : List UInt8 := [42, 180, 0, 26, 77, 42, 180, 0, 1, 180, 0, 13, 42, 180, 0, 19, 159, 0, 11, 187, 0, 39, 89]
abbrev dktJ27_nextNode_0 : List UInt8 := dkwJ27_nextNode_0 ++ dktJ27_nextNode_1
theorem dksJ27_nextNode_0 : cJ27_nextNode.data.toList.drop 0 = dktJ27_nextNode_0 := by decide +kernel
theorem dksJ27_nextNode_1 : cJ27_nextNode.data.toList.drop 23 = dktJ27_nextNode_1 := dk_seg dksJ27_nextNode_0 23 rfl rfl
theorem dksJ27_nextNode_2 : cJ27_nextNode.data.toList.drop 46 = dktJ27_nextNode_2 := dk_seg dksJ27_nextNode_1 23 rfl rfl
theorem dksJ27_nextNode_3 : cJ27_nextNode.data.toList.drop 69 = dktJ27_nextNode_3 := dk_seg dksJ27_nextNode_2 23 rfl rfl
theorem dksJ27_nextNode_4 : cJ27_nextNode.data.toList.drop 92 = dktJ27_nextNode_4 := dk_seg dksJ27_nextNode_3 23 rfl rfl
theorem dJ27_nextNode_0 : decode cJ27_nextNode 0 = .ok (.aload_n 0, 1) := dk_42 (dk_at dksJ27_nextNode_0 0 rfl rfl)
theorem dJ27_nextNode_1 : decode cJ27_nextNode 1 = .ok (.getfield 26, 3) := dk_180 0 26 (dk_at dksJ27_nextNode_0 1 rfl rfl)
theorem dJ27_nextNode_4 : decode cJ27_nextNode 4 = .ok (.astore_n 2, 1) := dk_77 (dk_at dksJ27_nextNode_0 4 rfl rfl)
theorem dJ27_nextNode_5 : decode cJ27_nextNode 5 = .ok (.aload_n 0, 1) := dk_42 (dk_at dksJ27_nextNode_0 5 rfl rfl)
theorem dJ27_nextNode_6 : decode cJ27_nextNode 6 = .ok (.getfield 1, 3) := dk_180 0 1 (dk_at dksJ27_nextNode_0 6 rfl rfl)
theorem dJ27_nextNode_9 : decode cJ27_nextNode 9 = .ok (.getfield 13, 3) := dk_180 0 13 (dk_at dksJ27_nextNode_0 9 rfl rfl)
theorem dJ27_nextNode_12 : decode cJ27_nextNode 12 = .ok (.aload_n 0, 1) := dk_42 (dk_at dksJ27_nextNode_0 12 rfl rfl)
theorem dJ27_nextNode_13 : decode cJ27_nextNode 13 = .ok (.getfield 19, 3) := dk_180 0 19 (dk_at dksJ27_nextNode_0 13 rfl rfl)
theorem dJ27_nextNode_16 : decode cJ27_nextNode 16 = .ok (.if_icmp .eq 11, 3) := dk_159 0 11 (dk_at dksJ27_nextNode_0 16 rfl rfl)
theorem dJ27_nextNode_19 : decode cJ27_nextNode 19 = .ok (.new 39, 3) := dk_187 0 39 (dk_at dksJ27_nextNode_0 19 rfl rfl)
theorem dJ27_nextNode_22 : decode cJ27_nextNode 22 = .ok (.dup, 1) := dk_89 (dk_at dksJ27_nextNode_0 22 rfl rfl)
theorem dJ27_nextNode_23 : decode cJ27_nextNode 23 = .ok (.invokespecial 41, 3) := dk_183 0 41 (dk_at dksJ27_nextNode_1 0 rfl rfl)
theorem dJ27_nextNode_26 : decode cJ27_nextNode 26 = .ok (.athrow, 1) := dk_191 (dk_at dksJ27_nextNode_1 3 rfl rfl)
theorem dJ27_nextNode_27 : decode cJ27_nextNode 27 = .ok (.aload_n 2, 1) := dk_44 (dk_at dksJ27_nextNode_1 4 rfl rfl)
theorem dJ27_nextNode_28 : decode cJ27_nextNode 28 = .ok (.ifnonnull 11, 3) := dk_199 0 11 (dk_at dksJ27_nextNode_1 5 rfl rfl)
theorem dJ27_nextNode_31 : decode cJ27_nextNode 31 = .ok (.new 42, 3) := dk_187 0 42 (dk_at dksJ27_nextNode_1 8 rfl rfl)
theorem dJ27_nextNode_34 : decode cJ27_nextNode 34 = .ok (.dup, 1) := dk_89 (dk_at dksJ27_nextNode_1 11 rfl rfl)
theorem dJ27_nextNode_35 : decode cJ27_nextNode 35 = .ok (.invokespecial 44, 3) := dk_183 0 44 (dk_at dksJ27_nextNode_1 12 rfl rfl)
theorem dJ27_nextNode_38 : decode cJ27_nextNode 38 = .ok (.athrow, 1) := dk_191 (dk_at dksJ27_nextNode_1 15 rfl rfl)
theorem dJ27_nextNode_39 : decode cJ27_nextNode 39 = .ok (.aload_n 0, 1) := dk_42 (dk_at dksJ27_nextNode_1 16 rfl rfl)
theorem dJ27_nextNode_40 : decode cJ27_nextNode 40 = .ok (.aload_n 0, 1) := dk_42 (dk_at dksJ27_nextNode_1 17 rfl rfl)
theorem dJ27_nextNode_41 : decode cJ27_nextNode 41 = .ok (.aload_n 2, 1) := dk_44 (dk_at dksJ27_nextNode_1 18 rfl rfl)
theorem dJ27_nextNode_42 : decode cJ27_nextNode 42 = .ok (.dup_x1, 1) := dk_90 (dk_at dksJ27_nextNode_1 19 rfl rfl)
theorem dJ27_nextNode_43 : decode cJ27_nextNode 43 = .ok (.putfield 30, 3) := dk_181 0 30 (dk_at dksJ27_nextNode_1 20 rfl rfl)
theorem dJ27_nextNode_46 : decode cJ27_nextNode 46 = .ok (.getfield 45, 3) := dk_180 0 45 (dk_at dksJ27_nextNode_2 0 rfl rfl)
theorem dJ27_nextNode_49 : decode cJ27_nextNode 49 = .ok (.dup_x1, 1) := dk_90 (dk_at dksJ27_nextNode_2 3 rfl rfl)
theorem dJ27_nextNode_50 : decode cJ27_nextNode 50 = .ok (.putfield 26, 3) := dk_181 0 26 (dk_at dksJ27_nextNode_2 4 rfl rfl)
theorem dJ27_nextNode_53 : decode cJ27_nextNode 53 = .ok (.ifnonnull 45, 3) := dk_199 0 45 (dk_at dksJ27_nextNode_2 7 rfl rfl)
theorem dJ27_nextNode_56 : decode cJ27_nextNode 56 = .ok (.aload_n 0, 1) := dk_42 (dk_at dksJ27_nextNode_2 10 rfl rfl)
theorem dJ27_nextNode_57 : decode cJ27_nextNode 57 = .ok (.getfield 1, 3) := dk_180 0 1 (dk_at dksJ27_nextNode_2 11 rfl rfl)
theorem dJ27_nextNode_60 : decode cJ27_nextNode 60 = .ok (.getfield 22, 3) := dk_180 0 22 (dk_at dksJ27_nextNode_2 14 rfl rfl)
theorem dJ27_nextNode_63 : decode cJ27_nextNode 63 = .ok (.dup, 1) := dk_89 (dk_at dksJ27_nextNode_2 17 rfl rfl)
theorem dJ27_nextNode_64 : decode cJ27_nextNode 64 = .ok (.astore_n 1, 1) := dk_76 (dk_at dksJ27_nextNode_2 18 rfl rfl)
theorem dJ27_nextNode_65 : decode cJ27_nextNode 65 = .ok (.ifnull 33, 3) := dk_198 0 33 (dk_at dksJ27_nextNode_2 19 rfl rfl)
theorem dJ27_nextNode_68 : decode cJ27_nextNode 68 = .ok (.aload_n 0, 1) := dk_42 (dk_at dksJ27_nextNode_2 22 rfl rfl)
theorem dJ27_nextNode_69 : decode cJ27_nextNode 69 = .ok (.getfield 33, 3) := dk_180 0 33 (dk_at dksJ27_nextNode_3 0 rfl rfl)
theorem dJ27_nextNode_72 : decode cJ27_nextNode 72 = .ok (.aload_n 1, 1) := dk_43 (dk_at dksJ27_nextNode_3 3 rfl rfl)
theorem dJ27_nextNode_73 : decode cJ27_nextNode 73 = .ok (.arraylength, 1) := dk_190 (dk_at dksJ27_nextNode_3 4 rfl rfl)
theorem dJ27_nextNode_74 : decode cJ27_nextNode 74 = .ok (.if_icmp .ge 24, 3) := dk_162 0 24 (dk_at dksJ27_nextNode_3 5 rfl rfl)
theorem dJ27_nextNode_77 : decode cJ27_nextNode 77 = .ok (.aload_n 0, 1) := dk_42 (dk_at dksJ27_nextNode_3 8 rfl rfl)
theorem dJ27_nextNode_78 : decode cJ27_nextNode 78 = .ok (.aload_n 1, 1) := dk_43 (dk_at dksJ27_nextNode_3 9 rfl rfl)
theorem dJ27_nextNode_79 : decode cJ27_nextNode 79 = .ok (.aload_n 0, 1) := dk_42 (dk_at dksJ27_nextNode_3 10 rfl rfl)
theorem dJ27_nextNode_80 : decode cJ27_nextNode 80 = .ok (.dup, 1) := dk_89 (dk_at dksJ27_nextNode_3 11 rfl rfl)
theorem dJ27_nextNode_81 : decode cJ27_nextNode 81 = .ok (.getfield 33, 3) := dk_180 0 33 (dk_at dksJ27_nextNode_3 12 rfl rfl)
theorem dJ27_nextNode_84 : decode cJ27_nextNode 84 = .ok (.dup_x1, 1) := dk_90 (dk_at dksJ27_nextNode_3 15 rfl rfl)
theorem dJ27_nextNode_85 : decode cJ27_nextNode 85 = .ok (.iconst 1, 1) := dk_4 (dk_at dksJ27_nextNode_3 16 rfl rfl)
theorem dJ27_nextNode_86 : decode cJ27_nextNode 86 = .ok (.iadd, 1) := dk_96 (dk_at dksJ27_nextNode_3 17 rfl rfl)
theorem dJ27_nextNode_87 : decode cJ27_nextNode 87 = .ok (.putfield 33, 3) := dk_181 0 33 (dk_at dksJ27_nextNode_3 18 rfl rfl)
theorem dJ27_nextNode_90 : decode cJ27_nextNode 90 = .ok (.aaload, 1) := dk_50 (dk_at dksJ27_nextNode_3 21 rfl rfl)
theorem dJ27_nextNode_91 : decode cJ27_nextNode 91 = .ok (.dup_x1, 1) := dk_90 (dk_at dksJ27_nextNode_3 22 rfl rfl)
theorem dJ27_nextNode_92 : decode cJ27_nextNode 92 = .ok (.putfield 26, 3) := dk_181 0 26 (dk_at dksJ27_nextNode_4 0 rfl rfl)
theorem dJ27_nextNode_95 : decode cJ27_nextNode 95 = .ok (.ifnull (-27), 3) := dk_198 255 229 (dk_at dksJ27_nextNode_4 3 rfl rfl)
theorem dJ27_nextNode_98 : decode cJ27_nextNode 98 = .ok (.aload_n 2, 1) := dk_44 (dk_at dksJ27_nextNode_4 6 rfl rfl)
theorem dJ27_nextNode_99 : decode cJ27_nextNode 99 = .ok (.areturn, 1) := dk_176 (dk_at dksJ27_nextNode_4 7 rfl rfl)
abbrev cJ27_init : ByteArray := prog_50_method_1_code
def yJ27_init : MethodName := ⟨RJ27, "<init>", "(Ljava/util/HashMap;)V"⟩
def dkwJ27_init_3 : List UInt8 := [181, 0, 26, 198, 255, 229, 177]
abbrev dktJ27_init_3 : List UInt8 := dkwJ27_init_3 ++ []
def dkwJ27_init_2 : List UInt8 := [42, 180, 0, 33, 44, 190, 162, 0, 24, 42, 44, 42, 89, 180, 0, 33, 90, 4, 96, 181, 0, 33, 50, 90]
abbrev dktJ27_init_2 : List UInt8 := dkwJ27_init_2 ++ dktJ27_init_3
def dkwJ27_init_1 : List UInt8 := [1, 90, 181, 0, 26, 181, 0, 30, 42, 3, 181, 0, 33, 44, 198, 0, 40, 43, 180, 0, 36, 158, 0, 33]
abbrev dktJ27_init_1 : List UInt8 := dkwJ27_init_1 ++ dktJ27_init_2
def dkwJ27_init_0 : List UInt8 := [42, 43, 181, 0, 1, 42, 183, 0, 7, 42, 43, 180, 0, 13, 181, 0, 19, 43, 180, 0, 22, 77, 42, 42]
abbrev dktJ27_init_0 : List UInt8 := dkwJ27_init_0 ++ dktJ27_init_1
theorem dksJ27_init_0 : cJ27_init.data.toList.drop 0 = dktJ27_init_0 := by decide +kernel
theorem dksJ27_init_1 : cJ27_init.data.toList.drop 24 = dktJ27_init_1 := dk_seg dksJ27_init_0 24 rfl rfl
theorem dksJ27_init_2 : cJ27_init.data.toList.drop 48 = dktJ27_init_2 := dk_seg dksJ27_init_1 24 rfl rfl
theorem dksJ27_init_3 : cJ27_init.data.toList.drop 72 = dktJ27_init_3 := dk_seg dksJ27_init_2 24 rfl rfl
theorem dJ27_init_0 : decode cJ27_init 0 = .ok (.aload_n 0, 1) := dk_42 (dk_at dksJ27_init_0 0 rfl rfl)
theorem dJ27_init_1 : decode cJ27_init 1 = .ok (.aload_n 1, 1) := dk_43 (dk_at dksJ27_init_0 1 rfl rfl)
theorem dJ27_init_2 : decode cJ27_init 2 = .ok (.putfield 1, 3) := dk_181 0 1 (dk_at dksJ27_init_0 2 rfl rfl)
theorem dJ27_init_5 : decode cJ27_init 5 = .ok (.aload_n 0, 1) := dk_42 (dk_at dksJ27_init_0 5 rfl rfl)
theorem dJ27_init_6 : decode cJ27_init 6 = .ok (.invokespecial 7, 3) := dk_183 0 7 (dk_at dksJ27_init_0 6 rfl rfl)
theorem dJ27_init_9 : decode cJ27_init 9 = .ok (.aload_n 0, 1) := dk_42 (dk_at dksJ27_init_0 9 rfl rfl)
theorem dJ27_init_10 : decode cJ27_init 10 = .ok (.aload_n 1, 1) := dk_43 (dk_at dksJ27_init_0 10 rfl rfl)
theorem dJ27_init_11 : decode cJ27_init 11 = .ok (.getfield 13, 3) := dk_180 0 13 (dk_at dksJ27_init_0 11 rfl rfl)
theorem dJ27_init_14 : decode cJ27_init 14 = .ok (.putfield 19, 3) := dk_181 0 19 (dk_at dksJ27_init_0 14 rfl rfl)
theorem dJ27_init_17 : decode cJ27_init 17 = .ok (.aload_n 1, 1) := dk_43 (dk_at dksJ27_init_0 17 rfl rfl)
theorem dJ27_init_18 : decode cJ27_init 18 = .ok (.getfield 22, 3) := dk_180 0 22 (dk_at dksJ27_init_0 18 rfl rfl)
theorem dJ27_init_21 : decode cJ27_init 21 = .ok (.astore_n 2, 1) := dk_77 (dk_at dksJ27_init_0 21 rfl rfl)
theorem dJ27_init_22 : decode cJ27_init 22 = .ok (.aload_n 0, 1) := dk_42 (dk_at dksJ27_init_0 22 rfl rfl)
theorem dJ27_init_23 : decode cJ27_init 23 = .ok (.aload_n 0, 1) := dk_42 (dk_at dksJ27_init_0 23 rfl rfl)
theorem dJ27_init_24 : decode cJ27_init 24 = .ok (.aconst_null, 1) := dk_1 (dk_at dksJ27_init_1 0 rfl rfl)
theorem dJ27_init_25 : decode cJ27_init 25 = .ok (.dup_x1, 1) := dk_90 (dk_at dksJ27_init_1 1 rfl rfl)
theorem dJ27_init_26 : decode cJ27_init 26 = .ok (.putfield 26, 3) := dk_181 0 26 (dk_at dksJ27_init_1 2 rfl rfl)
theorem dJ27_init_29 : decode cJ27_init 29 = .ok (.putfield 30, 3) := dk_181 0 30 (dk_at dksJ27_init_1 5 rfl rfl)
theorem dJ27_init_32 : decode cJ27_init 32 = .ok (.aload_n 0, 1) := dk_42 (dk_at dksJ27_init_1 8 rfl rfl)
theorem dJ27_init_33 : decode cJ27_init 33 = .ok (.iconst 0, 1) := dk_3 (dk_at dksJ27_init_1 9 rfl rfl)
theorem dJ27_init_34 : decode cJ27_init 34 = .ok (.putfield 33, 3) := dk_181 0 33 (dk_at dksJ27_init_1 10 rfl rfl)
theorem dJ27_init_37 : decode cJ27_init 37 = .ok (.aload_n 2, 1) := dk_44 (dk_at dksJ27_init_1 13 rfl rfl)
theorem dJ27_init_38 : decode cJ27_init 38 = .ok (.ifnull 40, 3) := dk_198 0 40 (dk_at dksJ27_init_1 14 rfl rfl)
theorem dJ27_init_41 : decode cJ27_init 41 = .ok (.aload_n 1, 1) := dk_43 (dk_at dksJ27_init_1 17 rfl rfl)
theorem dJ27_init_42 : decode cJ27_init 42 = .ok (.getfield 36, 3) := dk_180 0 36 (dk_at dksJ27_init_1 18 rfl rfl)
theorem dJ27_init_45 : decode cJ27_init 45 = .ok (.ifCond .le 33, 3) := dk_158 0 33 (dk_at dksJ27_init_1 21 rfl rfl)
theorem dJ27_init_48 : decode cJ27_init 48 = .ok (.aload_n 0, 1) := dk_42 (dk_at dksJ27_init_2 0 rfl rfl)
theorem dJ27_init_49 : decode cJ27_init 49 = .ok (.getfield 33, 3) := dk_180 0 33 (dk_at dksJ27_init_2 1 rfl rfl)
theorem dJ27_init_52 : decode cJ27_init 52 = .ok (.aload_n 2, 1) := dk_44 (dk_at dksJ27_init_2 4 rfl rfl)
theorem dJ27_init_53 : decode cJ27_init 53 = .ok (.arraylength, 1) := dk_190 (dk_at dksJ27_init_2 5 rfl rfl)
theorem dJ27_init_54 : decode cJ27_init 54 = .ok (.if_icmp .ge 24, 3) := dk_162 0 24 (dk_at dksJ27_init_2 6 rfl rfl)
theorem dJ27_init_57 : decode cJ27_init 57 = .ok (.aload_n 0, 1) := dk_42 (dk_at dksJ27_init_2 9 rfl rfl)
theorem dJ27_init_58 : decode cJ27_init 58 = .ok (.aload_n 2, 1) := dk_44 (dk_at dksJ27_init_2 10 rfl rfl)
theorem dJ27_init_59 : decode cJ27_init 59 = .ok (.aload_n 0, 1) := dk_42 (dk_at dksJ27_init_2 11 rfl rfl)
theorem dJ27_init_60 : decode cJ27_init 60 = .ok (.dup, 1) := dk_89 (dk_at dksJ27_init_2 12 rfl rfl)
theorem dJ27_init_61 : decode cJ27_init 61 = .ok (.getfield 33, 3) := dk_180 0 33 (dk_at dksJ27_init_2 13 rfl rfl)
theorem dJ27_init_64 : decode cJ27_init 64 = .ok (.dup_x1, 1) := dk_90 (dk_at dksJ27_init_2 16 rfl rfl)
theorem dJ27_init_65 : decode cJ27_init 65 = .ok (.iconst 1, 1) := dk_4 (dk_at dksJ27_init_2 17 rfl rfl)
theorem dJ27_init_66 : decode cJ27_init 66 = .ok (.iadd, 1) := dk_96 (dk_at dksJ27_init_2 18 rfl rfl)
theorem dJ27_init_67 : decode cJ27_init 67 = .ok (.putfield 33, 3) := dk_181 0 33 (dk_at dksJ27_init_2 19 rfl rfl)
theorem dJ27_init_70 : decode cJ27_init 70 = .ok (.aaload, 1) := dk_50 (dk_at dksJ27_init_2 22 rfl rfl)
theorem dJ27_init_71 : decode cJ27_init 71 = .ok (.dup_x1, 1) := dk_90 (dk_at dksJ27_init_2 23 rfl rfl)
theorem dJ27_init_72 : decode cJ27_init 72 = .ok (.putfield 26, 3) := dk_181 0 26 (dk_at dksJ27_init_3 0 rfl rfl)
theorem dJ27_init_75 : decode cJ27_init 75 = .ok (.ifnull (-27), 3) := dk_198 255 229 (dk_at dksJ27_init_3 3 rfl rfl)
theorem dJ27_init_78 : decode cJ27_init 78 = .ok (.return_, 1) := dk_177 (dk_at dksJ27_init_3 6 rfl rfl)
theorem q126 : (Jvm.Cond.initialized "java/util/HashMap$HashIterator") ∈ lw_all := lw_g (lw_at lw_m1 37 rfl) rfl
theorem q439 : (Jvm.Cond.fieldLink "java/util/HashMap$HashIterator" (22 : Nat) "java/util/HashMap" "table" "[Ljava/util/HashMap$Node;") ∈ lw_all := lw_g (lw_at lw_m2 110 rfl) rfl
theorem q441 : (Jvm.Cond.fieldLink "java/util/HashMap$HashIterator" (36 : Nat) "java/util/HashMap" "size" "I") ∈ lw_all := lw_g (lw_at lw_m2 112 rfl) rfl
theorem q443 : (Jvm.Cond.fieldLink "java/util/HashMap$HashIterator" (13 : Nat) "java/util/HashMap" "modCount" "I") ∈ lw_all := lw_g (lw_at lw_m2 114 rfl) rfl
theorem q675 : (Jvm.Cond.fieldLink "java/util/HashMap$HashIterator" (45 : Nat) "java/util/HashMap$Node" "next" "Ljava/util/HashMap$Node;") ∈ lw_all := lw_g (lw_at lw_m3 106 rfl) rfl
theorem q1288 : (Jvm.Cond.instanceMethod ({ cls := "java/util/HashMap$HashIterator", name := "hasNext", desc := "()Z" } : Jvm.MethodName)) ∈ lw_all := lw_g (lw_at lw_m5 239 rfl) rfl
theorem q1289 : (Jvm.Cond.publicMethod ({ cls := "java/util/HashMap$HashIterator", name := "hasNext", desc := "()Z" } : Jvm.MethodName)) ∈ lw_tbl := lw_at lw_m6 0 rfl
theorem q1290 : (Jvm.Cond.code ({ cls := "java/util/HashMap$HashIterator", name := "hasNext", desc := "()Z" } : Jvm.MethodName) prog_50_method_2_code (1 : Nat) (Option.some Jvm.ClassFile.FieldType.boolean)) ∈ lw_all := lw_g (lw_at lw_m6 1 rfl) rfl
theorem q1317 : (Jvm.Cond.declares ({ cls := "java/util/HashMap$HashIterator", name := "nextNode", desc := "()Ljava/util/HashMap$Node;" } : Jvm.MethodName)) ∈ lw_tbl := lw_at lw_m6 28 rfl
theorem q1319 : (Jvm.Cond.instanceMethod ({ cls := "java/util/HashMap$HashIterator", name := "nextNode", desc := "()Ljava/util/HashMap$Node;" } : Jvm.MethodName)) ∈ lw_all := lw_g (lw_at lw_m6 30 rfl) rfl
theorem q1320 : (Jvm.Cond.code ({ cls := "java/util/HashMap$HashIterator", name := "nextNode", desc := "()Ljava/util/HashMap$Node;" } : Jvm.MethodName) prog_50_method_3_code (3 : Nat) (Option.some (Jvm.ClassFile.FieldType.object "java/util/HashMap$Node"))) ∈ lw_all := lw_g (lw_at lw_m6 31 rfl) rfl
theorem q1389 : (Jvm.Cond.instanceMethod ({ cls := "java/util/HashMap$HashIterator", name := "<init>", desc := "(Ljava/util/HashMap;)V" } : Jvm.MethodName)) ∈ lw_all := lw_g (lw_at lw_m6 100 rfl) rfl
theorem q1390 : (Jvm.Cond.code ({ cls := "java/util/HashMap$HashIterator", name := "<init>", desc := "(Ljava/util/HashMap;)V" } : Jvm.MethodName) prog_50_method_1_code (3 : Nat) (Option.none : Option Jvm.ClassFile.FieldType)) ∈ lw_all := lw_g (lw_at lw_m6 101 rfl) rfl
theorem q1391 : (Jvm.Cond.methodLink "java/util/HashMap$HashIterator" (7 : Nat) ({ cls := "java/lang/Object", name := "<init>", desc := "()V" } : Jvm.MethodName)) ∈ lw_all := lw_g (lw_at lw_m6 102 rfl) rfl
theorem q1392 : (Jvm.Cond.fieldLink "java/util/HashMap$HashIterator" (26 : Nat) "java/util/HashMap$HashIterator" "next" "Ljava/util/HashMap$Node;") ∈ lw_all := lw_g (lw_at lw_m6 103 rfl) rfl
theorem q1393 : (Jvm.Cond.fieldLink "java/util/HashMap$HashIterator" (30 : Nat) "java/util/HashMap$HashIterator" "current" "Ljava/util/HashMap$Node;") ∈ lw_all := lw_g (lw_at lw_m6 104 rfl) rfl
theorem q1394 : (Jvm.Cond.fieldLink "java/util/HashMap$HashIterator" (19 : Nat) "java/util/HashMap$HashIterator" "expectedModCount" "I") ∈ lw_all := lw_g (lw_at lw_m6 105 rfl) rfl
theorem q1395 : (Jvm.Cond.fieldLink "java/util/HashMap$HashIterator" (33 : Nat) "java/util/HashMap$HashIterator" "index" "I") ∈ lw_all := lw_g (lw_at lw_m6 106 rfl) rfl
theorem q1396 : (Jvm.Cond.fieldLink "java/util/HashMap$HashIterator" (1 : Nat) "java/util/HashMap$HashIterator" "this$0" "Ljava/util/HashMap;") ∈ lw_all := lw_g (lw_at lw_m6 107 rfl) rfl
theorem q1398 : (Jvm.Cond.soleField "java/util/HashMap$HashIterator" "next") ∈ lw_all := lw_g (lw_at lw_m6 109 rfl) rfl
theorem q1400 : (Jvm.Cond.soleField "java/util/HashMap$HashIterator" "current") ∈ lw_all := lw_g (lw_at lw_m6 111 rfl) rfl
theorem q1402 : (Jvm.Cond.soleField "java/util/HashMap$HashIterator" "expectedModCount") ∈ lw_all := lw_g (lw_at lw_m6 113 rfl) rfl
theorem q1404 : (Jvm.Cond.soleField "java/util/HashMap$HashIterator" "index") ∈ lw_all := lw_g (lw_at lw_m6 115 rfl) rfl
theorem q1406 : (Jvm.Cond.soleField "java/util/HashMap$HashIterator" "this$0") ∈ lw_all := lw_g (lw_at lw_m6 117 rfl) rfl

/-! java/util/LinkedHashMap$LinkedHashIterator -/
set_option maxRecDepth 100000
def RJ29 : String := "java/util/LinkedHashMap$LinkedHashIterator"
abbrev cJ29_hasNext : ByteArray := prog_59_method_2_code
def yJ29_hasNext : MethodName := ⟨RJ29, "hasNext", "()Z"⟩
def dkwJ29_hasNext_0 : List UInt8 := [42, 180, 0, 26, 198, 0, 7, 4, 167, 0, 4, 3, 172]
abbrev dktJ29_hasNext_0 : List UInt8 := dkwJ29_hasNext_0 ++ []
theorem dksJ29_hasNext_0 : cJ29_hasNext.data.toList.drop 0 = dktJ29_hasNext_0 := by decide +kernel
theorem dJ29_hasNext_0 : decode cJ29_hasNext 0 = .ok (.aload_n 0, 1) := dk_42 (dk_at dksJ29_hasNext_0 0 rfl rfl)
theorem dJ29_hasNext_1 : decode cJ29_hasNext 1 = .ok (.getfield 26, 3) := dk_180 0 26 (dk_at dksJ29_hasNext_0 1 rfl rfl)
theorem dJ29_hasNext_4 : decode cJ29_hasNext 4 = .ok (.ifnull 7, 3) := dk_198 0 7 (dk_at dksJ29_hasNext_0 4 rfl rfl)
theorem dJ29_hasNext_7 : decode cJ29_hasNext 7 = .ok (.iconst 1, 1) := dk_4 (dk_at dksJ29_hasNext_0 7 rfl rfl)
theorem dJ29_hasNext_8 : decode cJ29_hasNext 8 = .ok (.goto 4, 3) := dk_167 0 4 (dk_at dksJ29_hasNext_0 8 rfl rfl)
theorem dJ29_hasNext_11 : decode cJ29_hasNext 11 = .ok (.iconst 0, 1) := dk_3 (dk_at dksJ29_hasNext_0 11 rfl rfl)
theorem dJ29_hasNext_12 : decode cJ29_hasNext 12 = .ok (.ireturn, 1) := dk_172 (dk_at dksJ29_hasNext_0 12 rfl rfl)
abbrev cJ29_nextNode : ByteArray := prog_59_method_3_code
def yJ29_nextNode : MethodName := ⟨RJ29, "nextNode", "()Ljava/util/LinkedHashMap$Entry;"⟩
def dkwJ29_nextNode_2 : List UInt8 := [180, 0, 13, 153, 0, 10, 43, 180, 0, 45, 167, 0, 7, 43, 180, 0, 50, 181, 0, 26, 43, 176]
abbrev dktJ29_nextNode_2 : List UInt8 := dkwJ29_nextNode_2 ++ []
def dkwJ29_nextNode_1 : List UInt8 := [183, 0, 41, 191, 43, 199, 0, 11, 187, 0, 42, 89, 183, 0, 44, 191, 42, 43, 181, 0, 36, 42, 42]
abbrev dktJ29_nextNode_1 : List UInt8 := dkwJ29_nextNode_1 ++ dktJ29_nextNode_2
def dkwJ29_nextNode_0 : List UInt8 := [42, 180, 0, 26, 76, 42, 180, 0, 1, 180, 0, 29, 42, 180, 0, 33, 159, 0, 11, 187, 0, 39, 89]
abbrev dktJ29_nextNode_0 : List UInt8 := dkwJ29_nextNode_0 ++ dktJ29_nextNode_1
theorem dksJ29_nextNode_0 : cJ29_nextNode.data.toList.drop 0 = dktJ29_nextNode_0 := by decide +kernel
theorem dksJ29_nextNode_1 : cJ29_nextNode.data.toList.drop 23 = dktJ29_nextNode_1 := dk_seg dksJ29_nextNode_0 23 rfl rfl
theorem dksJ29_nextNode_2 : cJ29_nextNode.data.toList.drop 46 = dktJ29_nextNode_2 := dk_seg dksJ29_nextNode_1 23 rfl rfl
theorem dJ29_nextNode_0 : decode cJ29_nextNode 0 = .ok (.aload_n 0, 1) := dk_42 (dk_at dksJ29_nextNode_0 0 rfl rfl)
theorem dJ29_nextNode_1 : decode cJ29_nextNode 1 = .ok (.getfield 26, 3) := dk_180 0 26 (dk_at dksJ29_nextNode_0 1 rfl rfl)
theorem dJ29_nextNode_4 : decode cJ29_nextNode 4 = .ok (.astore_n 1, 1) := dk_76 (dk_at dksJ29_nextNode_0 4 rfl rfl)
theorem dJ29_nextNode_5 : decode cJ29_nextNode 5 = .ok (.aload_n 0, 1) := dk_42 (dk_at dksJ29_nextNode_0 5 rfl rfl)
theorem dJ29_nextNode_6 : decode cJ29_nextNode 6 = .ok (.getfield 1, 3) := dk_180 0 1 (dk_at dksJ29_nextNode_0 6 rfl rfl)
theorem dJ29_nextNode_9 : decode cJ29_nextNode 9 = .ok (.getfield 29, 3) := dk_180 0 29 (dk_at dksJ29_nextNode_0 9 rfl rfl)
theorem dJ29_nextNode_12 : decode cJ29_nextNode 12 = .ok (.aload_n 0, 1) := dk_42 (dk_at dksJ29_nextNode_0 12 rfl rfl)
theorem dJ29_nextNode_13 : decode cJ29_nextNode 13 = .ok (.getfield 33, 3) := dk_180 0 33 (dk_at dksJ29_nextNode_0 13 rfl rfl)
theorem dJ29_nextNode_16 : decode cJ29_nextNode 16 = .ok (.if_icmp .eq 11, 3) := dk_159 0 11 (dk_at dksJ29_nextNode_0 16 rfl rfl)
theorem dJ29_nextNode_19 : decode cJ29_nextNode 19 = .ok (.new 39, 3) := dk_187 0 39 (dk_at dksJ29_nextNode_0 19 rfl rfl)
theorem dJ29_nextNode_22 : decode cJ29_nextNode 22 = .ok (.dup, 1) := dk_89 (dk_at dksJ29_nextNode_0 22 rfl rfl)
theorem dJ29_nextNode_23 : decode cJ29_nextNode 23 = .ok (.invokespecial 41, 3) := dk_183 0 41 (dk_at dksJ29_nextNode_1 0 rfl rfl)
theorem dJ29_nextNode_26 : decode cJ29_nextNode 26 = .ok (.athrow, 1) := dk_191 (dk_at dksJ29_nextNode_1 3 rfl rfl)
theorem dJ29_nextNode_27 : decode cJ29_nextNode 27 = .ok (.aload_n 1, 1) := dk_43 (dk_at dksJ29_nextNode_1 4 rfl rfl)
theorem dJ29_nextNode_28 : decode cJ29_nextNode 28 = .ok (.ifnonnull 11, 3) := dk_199 0 11 (dk_at dksJ29_nextNode_1 5 rfl rfl)
theorem dJ29_nextNode_31 : decode cJ29_nextNode 31 = .ok (.new 42, 3) := dk_187 0 42 (dk_at dksJ29_nextNode_1 8 rfl rfl)
theorem dJ29_nextNode_34 : decode cJ29_nextNode 34 = .ok (.dup, 1) := dk_89 (dk_at dksJ29_nextNode_1 11 rfl rfl)
theorem dJ29_nextNode_35 : decode cJ29_nextNode 35 = .ok (.invokespecial 44, 3) := dk_183 0 44 (dk_at dksJ29_nextNode_1 12 rfl rfl)
theorem dJ29_nextNode_38 : decode cJ29_nextNode 38 = .ok (.athrow, 1) := dk_191 (dk_at dksJ29_nextNode_1 15 rfl rfl)
theorem dJ29_nextNode_39 : decode cJ29_nextNode 39 = .ok (.aload_n 0, 1) := dk_42 (dk_at dksJ29_nextNode_1 16 rfl rfl)
theorem dJ29_nextNode_40 : decode cJ29_nextNode 40 = .ok (.aload_n 1, 1) := dk_43 (dk_at dksJ29_nextNode_1 17 rfl rfl)
theorem dJ29_nextNode_41 : decode cJ29_nextNode 41 = .ok (.putfield 36, 3) := dk_181 0 36 (dk_at dksJ29_nextNode_1 18 rfl rfl)
theorem dJ29_nextNode_44 : decode cJ29_nextNode 44 = .ok (.aload_n 0, 1) := dk_42 (dk_at dksJ29_nextNode_1 21 rfl rfl)
theorem dJ29_nextNode_45 : decode cJ29_nextNode 45 = .ok (.aload_n 0, 1) := dk_42 (dk_at dksJ29_nextNode_1 22 rfl rfl)
theorem dJ29_nextNode_46 : decode cJ29_nextNode 46 = .ok (.getfield 13, 3) := dk_180 0 13 (dk_at dksJ29_nextNode_2 0 rfl rfl)
theorem dJ29_nextNode_49 : decode cJ29_nextNode 49 = .ok (.ifCond .eq 10, 3) := dk_153 0 10 (dk_at dksJ29_nextNode_2 3 rfl rfl)
theorem dJ29_nextNode_52 : decode cJ29_nextNode 52 = .ok (.aload_n 1, 1) := dk_43 (dk_at dksJ29_nextNode_2 6 rfl rfl)
theorem dJ29_nextNode_53 : decode cJ29_nextNode 53 = .ok (.getfield 45, 3) := dk_180 0 45 (dk_at dksJ29_nextNode_2 7 rfl rfl)
theorem dJ29_nextNode_56 : decode cJ29_nextNode 56 = .ok (.goto 7, 3) := dk_167 0 7 (dk_at dksJ29_nextNode_2 10 rfl rfl)
theorem dJ29_nextNode_59 : decode cJ29_nextNode 59 = .ok (.aload_n 1, 1) := dk_43 (dk_at dksJ29_nextNode_2 13 rfl rfl)
theorem dJ29_nextNode_60 : decode cJ29_nextNode 60 = .ok (.getfield 50, 3) := dk_180 0 50 (dk_at dksJ29_nextNode_2 14 rfl rfl)
theorem dJ29_nextNode_63 : decode cJ29_nextNode 63 = .ok (.putfield 26, 3) := dk_181 0 26 (dk_at dksJ29_nextNode_2 17 rfl rfl)
theorem dJ29_nextNode_66 : decode cJ29_nextNode 66 = .ok (.aload_n 1, 1) := dk_43 (dk_at dksJ29_nextNode_2 20 rfl rfl)
theorem dJ29_nextNode_67 : decode cJ29_nextNode 67 = .ok (.areturn, 1) := dk_176 (dk_at dksJ29_nextNode_2 21 rfl rfl)
abbrev cJ29_init : ByteArray := prog_59_method_1_code
def yJ29_init : MethodName := ⟨RJ29, "<init>", "(Ljava/util/LinkedHashMap;Z)V"⟩
def dkwJ29_init_1 : List UInt8 := [167, 0, 7, 43, 180, 0, 23, 181, 0, 26, 42, 43, 180, 0, 29, 181, 0, 33, 42, 1, 181, 0, 36, 177]
abbrev dktJ29_init_1 : List UInt8 := dkwJ29_init_1 ++ []
def dkwJ29_init_0 : List UInt8 := [42, 43, 181, 0, 1, 42, 183, 0, 7, 42, 28, 181, 0, 13, 42, 28, 153, 0, 10, 43, 180, 0, 17]
abbrev dktJ29_init_0 : List UInt8 := dkwJ29_init_0 ++ dktJ29_init_1
theorem dksJ29_init_0 : cJ29_init.data.toList.drop 0 = dktJ29_init_0 := by decide +kernel
theorem dksJ29_init_1 : cJ29_init.data.toList.drop 23 = dktJ29_init_1 := dk_seg dksJ29_init_0 23 rfl rfl
theorem dJ29_init_0 : decode cJ29_init 0 = .ok (.aload_n 0, 1) := dk_42 (dk_at dksJ29_init_0 0 rfl rfl)
theorem dJ29_init_1 : decode cJ29_init 1 = .ok (.aload_n 1, 1) := dk_43 (dk_at dksJ29_init_0 1 rfl rfl)
theorem dJ29_init_2 : decode cJ29_init 2 = .ok (.putfield 1, 3) := dk_181 0 1 (dk_at dksJ29_init_0 2 rfl rfl)
theorem dJ29_init_5 : decode cJ29_init 5 = .ok (.aload_n 0, 1) := dk_42 (dk_at dksJ29_init_0 5 rfl rfl)
theorem dJ29_init_6 : decode cJ29_init 6 = .ok (.invokespecial 7, 3) := dk_183 0 7 (dk_at dksJ29_init_0 6 rfl rfl)
theorem dJ29_init_9 : decode cJ29_init 9 = .ok (.aload_n 0, 1) := dk_42 (dk_at dksJ29_init_0 9 rfl rfl)
theorem dJ29_init_10 : decode cJ29_init 10 = .ok (.iload_n 2, 1) := dk_28 (dk_at dksJ29_init_0 10 rfl rfl)
theorem dJ29_init_11 : decode cJ29_init 11 = .ok (.putfield 13, 3) := dk_181 0 13 (dk_at dksJ29_init_0 11 rfl rfl)
theorem dJ29_init_14 : decode cJ29_init 14 = .ok (.aload_n 0, 1) := dk_42 (dk_at dksJ29_init_0 14 rfl rfl)
theorem dJ29_init_15 : decode cJ29_init 15 = .ok (.iload_n 2, 1) := dk_28 (dk_at dksJ29_init_0 15 rfl rfl)
theorem dJ29_init_16 : decode cJ29_init 16 = .ok (.ifCond .eq 10, 3) := dk_153 0 10 (dk_at dksJ29_init_0 16 rfl rfl)
theorem dJ29_init_19 : decode cJ29_init 19 = .ok (.aload_n 1, 1) := dk_43 (dk_at dksJ29_init_0 19 rfl rfl)
theorem dJ29_init_20 : decode cJ29_init 20 = .ok (.getfield 17, 3) := dk_180 0 17 (dk_at dksJ29_init_0 20 rfl rfl)
theorem dJ29_init_23 : decode cJ29_init 23 = .ok (.goto 7, 3) := dk_167 0 7 (dk_at dksJ29_init_1 0 rfl rfl)
theorem dJ29_init_26 : decode cJ29_init 26 = .ok (.aload_n 1, 1) := dk_43 (dk_at dksJ29_init_1 3 rfl rfl)
theorem dJ29_init_27 : decode cJ29_init 27 = .ok (.getfield 23, 3) := dk_180 0 23 (dk_at dksJ29_init_1 4 rfl rfl)
theorem dJ29_init_30 : decode cJ29_init 30 = .ok (.putfield 26, 3) := dk_181 0 26 (dk_at dksJ29_init_1 7 rfl rfl)
theorem dJ29_init_33 : decode cJ29_init 33 = .ok (.aload_n 0, 1) := dk_42 (dk_at dksJ29_init_1 10 rfl rfl)
theorem dJ29_init_34 : decode cJ29_init 34 = .ok (.aload_n 1, 1) := dk_43 (dk_at dksJ29_init_1 11 rfl rfl)
theorem dJ29_init_35 : decode cJ29_init 35 = .ok (.getfield 29, 3) := dk_180 0 29 (dk_at dksJ29_init_1 12 rfl rfl)
theorem dJ29_init_38 : decode cJ29_init 38 = .ok (.putfield 33, 3) := dk_181 0 33 (dk_at dksJ29_init_1 15 rfl rfl)
theorem dJ29_init_41 : decode cJ29_init 41 = .ok (.aload_n 0, 1) := dk_42 (dk_at dksJ29_init_1 18 rfl rfl)
theorem dJ29_init_42 : decode cJ29_init 42 = .ok (.aconst_null, 1) := dk_1 (dk_at dksJ29_init_1 19 rfl rfl)
theorem dJ29_init_43 : decode cJ29_init 43 = .ok (.putfield 36, 3) := dk_181 0 36 (dk_at dksJ29_init_1 20 rfl rfl)
theorem dJ29_init_46 : decode cJ29_init 46 = .ok (.return_, 1) := dk_177 (dk_at dksJ29_init_1 23 rfl rfl)
theorem q128 : (Jvm.Cond.initialized "java/util/LinkedHashMap$LinkedHashIterator") ∈ lw_all := lw_g (lw_at lw_m1 39 rfl) rfl
theorem q434 : (Jvm.Cond.fieldLink "java/util/LinkedHashMap$LinkedHashIterator" (23 : Nat) "java/util/LinkedHashMap" "head" "Ljava/util/LinkedHashMap$Entry;") ∈ lw_all := lw_g (lw_at lw_m2 105 rfl) rfl
theorem q435 : (Jvm.Cond.fieldLink "java/util/LinkedHashMap$LinkedHashIterator" (17 : Nat) "java/util/LinkedHashMap" "tail" "Ljava/util/LinkedHashMap$Entry;") ∈ lw_all := lw_g (lw_at lw_m2 106 rfl) rfl
theorem q444 : (Jvm.Cond.fieldLink "java/util/LinkedHashMap$LinkedHashIterator" (29 : Nat) "java/util/LinkedHashMap" "modCount" "I") ∈ lw_all := lw_g (lw_at lw_m2 115 rfl) rfl
theorem q653 : (Jvm.Cond.fieldLink "java/util/LinkedHashMap$LinkedHashIterator" (45 : Nat) "java/util/LinkedHashMap$Entry" "before" "Ljava/util/LinkedHashMap$Entry;") ∈ lw_all := lw_g (lw_at lw_m3 84 rfl) rfl
theorem q655 : (Jvm.Cond.fieldLink "java/util/LinkedHashMap$LinkedHashIterator" (50 : Nat) "java/util/LinkedHashMap$Entry" "after" "Ljava/util/LinkedHashMap$Entry;") ∈ lw_all := lw_g (lw_at lw_m3 86 rfl) rfl
theorem q1294 : (Jvm.Cond.instanceMethod ({ cls := "java/util/LinkedHashMap$LinkedHashIterator", name := "hasNext", desc := "()Z" } : Jvm.MethodName)) ∈ lw_all := lw_g (lw_at lw_m6 5 rfl) rfl
theorem q1295 : (Jvm.Cond.publicMethod ({ cls := "java/util/LinkedHashMap$LinkedHashIterator", name := "hasNext", desc := "()Z" } : Jvm.MethodName)) ∈ lw_tbl := lw_at lw_m6 6 rfl
theorem q1296 : (Jvm.Cond.code ({ cls := "java/util/LinkedHashMap$LinkedHashIterator", name := "hasNext", desc := "()Z" } : Jvm.MethodName) prog_59_method_2_code (1 : Nat) (Option.some Jvm.ClassFile.FieldType.boolean)) ∈ lw_all := lw_g (lw_at lw_m6 7 rfl) rfl
theorem q1328 : (Jvm.Cond.declares ({ cls := "java/util/LinkedHashMap$LinkedHashIterator", name := "nextNode", desc := "()Ljava/util/LinkedHashMap$Entry;" } : Jvm.MethodName)) ∈ lw_tbl := lw_at lw_m6 39 rfl
theorem q1330 : (Jvm.Cond.instanceMethod ({ cls := "java/util/LinkedHashMap$LinkedHashIterator", name := "nextNode", desc := "()Ljava/util/LinkedHashMap$Entry;" } : Jvm.MethodName)) ∈ lw_all := lw_g (lw_at lw_m6 41 rfl) rfl
theorem q1331 : (Jvm.Cond.code ({ cls := "java/util/LinkedHashMap$LinkedHashIterator", name := "nextNode", desc := "()Ljava/util/LinkedHashMap$Entry;" } : Jvm.MethodName) prog_59_method_3_code (2 : Nat) (Option.some (Jvm.ClassFile.FieldType.object "java/util/LinkedHashMap$Entry"))) ∈ lw_all := lw_g (lw_at lw_m6 42 rfl) rfl
theorem q1420 : (Jvm.Cond.instanceMethod ({ cls := "java/util/LinkedHashMap$LinkedHashIterator", name := "<init>", desc := "(Ljava/util/LinkedHashMap;Z)V" } : Jvm.MethodName)) ∈ lw_all := lw_g (lw_at lw_m6 131 rfl) rfl
theorem q1421 : (Jvm.Cond.code ({ cls := "java/util/LinkedHashMap$LinkedHashIterator", name := "<init>", desc := "(Ljava/util/LinkedHashMap;Z)V" } : Jvm.MethodName) prog_59_method_1_code (3 : Nat) (Option.none : Option Jvm.ClassFile.FieldType)) ∈ lw_all := lw_g (lw_at lw_m6 132 rfl) rfl
theorem q1422 : (Jvm.Cond.methodLink "java/util/LinkedHashMap$LinkedHashIterator" (7 : Nat) ({ cls := "java/lang/Object", name := "<init>", desc := "()V" } : Jvm.MethodName)) ∈ lw_all := lw_g (lw_at lw_m6 133 rfl) rfl
theorem q1423 : (Jvm.Cond.fieldLink "java/util/LinkedHashMap$LinkedHashIterator" (26 : Nat) "java/util/LinkedHashMap$LinkedHashIterator" "next" "Ljava/util/LinkedHashMap$Entry;") ∈ lw_all := lw_g (lw_at lw_m6 134 rfl) rfl
theorem q1424 : (Jvm.Cond.fieldLink "java/util/LinkedHashMap$LinkedHashIterator" (36 : Nat) "java/util/LinkedHashMap$LinkedHashIterator" "current" "Ljava/util/LinkedHashMap$Entry;") ∈ lw_all := lw_g (lw_at lw_m6 135 rfl) rfl
theorem q1425 : (Jvm.Cond.fieldLink "java/util/LinkedHashMap$LinkedHashIterator" (33 : Nat) "java/util/LinkedHashMap$LinkedHashIterator" "expectedModCount" "I") ∈ lw_all := lw_g (lw_at lw_m6 136 rfl) rfl
theorem q1426 : (Jvm.Cond.fieldLink "java/util/LinkedHashMap$LinkedHashIterator" (13 : Nat) "java/util/LinkedHashMap$LinkedHashIterator" "reversed" "Z") ∈ lw_all := lw_g (lw_at lw_m6 137 rfl) rfl
theorem q1427 : (Jvm.Cond.fieldLink "java/util/LinkedHashMap$LinkedHashIterator" (1 : Nat) "java/util/LinkedHashMap$LinkedHashIterator" "this$0" "Ljava/util/LinkedHashMap;") ∈ lw_all := lw_g (lw_at lw_m6 138 rfl) rfl
theorem q1429 : (Jvm.Cond.soleField "java/util/LinkedHashMap$LinkedHashIterator" "next") ∈ lw_all := lw_g (lw_at lw_m6 140 rfl) rfl
theorem q1431 : (Jvm.Cond.soleField "java/util/LinkedHashMap$LinkedHashIterator" "current") ∈ lw_all := lw_g (lw_at lw_m6 142 rfl) rfl
theorem q1433 : (Jvm.Cond.soleField "java/util/LinkedHashMap$LinkedHashIterator" "expectedModCount") ∈ lw_all := lw_g (lw_at lw_m6 144 rfl) rfl
theorem q1435 : (Jvm.Cond.soleField "java/util/LinkedHashMap$LinkedHashIterator" "reversed") ∈ lw_all := lw_g (lw_at lw_m6 146 rfl) rfl
theorem q1437 : (Jvm.Cond.soleField "java/util/LinkedHashMap$LinkedHashIterator" "this$0") ∈ lw_all := lw_g (lw_at lw_m6 148 rfl) rfl

/-! java/util/LinkedHashMap$LinkedKeyIterator -/
set_option maxRecDepth 100000
def RJ30 : String := "java/util/LinkedHashMap$LinkedKeyIterator"
def TJ30 : u_T := fun k => match k with
  | 0 => ("java/util/LinkedHashMap$LinkedHashIterator", "next", "Ljava/util/LinkedHashMap$Entry;", false)
  | 1 => ("java/util/LinkedHashMap$LinkedHashIterator", "current", "Ljava/util/LinkedHashMap$Entry;", false)
  | 2 => ("java/util/LinkedHashMap$LinkedHashIterator", "expectedModCount", "I", false)
  | 3 => ("java/util/LinkedHashMap$LinkedHashIterator", "reversed", "Z", false)
  | _ => ("java/util/LinkedHashMap$LinkedHashIterator", "this$0", "Ljava/util/LinkedHashMap;", true)
def tyJ30 : Nat → FieldType := fun k => match k with
  | 0 => .object "java/util/LinkedHashMap$Entry"
  | 1 => .object "java/util/LinkedHashMap$Entry"
  | 2 => .int
  | 3 => .boolean
  | _ => .object "java/util/LinkedHashMap"
abbrev wsJ300 : List Cond := u_ws RJ30 TJ30 5
theorem nmJ30 : ∀ a, a < 5 → ∀ b, b < 5 → a ≠ b → (TJ30 a).2.1 ≠ (TJ30 b).2.1 := by decide +kernel
theorem tyJ30_ok : ∀ k, k < 5 → parseFieldDescriptor (TJ30 k).2.2.1 = some (tyJ30 k) := by decide +kernel
abbrev cJ30_next : ByteArray := prog_60_method_2_code
def yJ30_next : MethodName := ⟨RJ30, "next", "()Ljava/lang/Object;"⟩
def dkwJ30_next_0 : List UInt8 := [42, 182, 0, 7, 182, 0, 13, 176]
abbrev dktJ30_next_0 : List UInt8 := dkwJ30_next_0 ++ []
theorem dksJ30_next_0 : cJ30_next.data.toList.drop 0 = dktJ30_next_0 := by decide +kernel
theorem dJ30_next_0 : decode cJ30_next 0 = .ok (.aload_n 0, 1) := dk_42 (dk_at dksJ30_next_0 0 rfl rfl)
theorem dJ30_next_1 : decode cJ30_next 1 = .ok (.invokevirtual 7, 3) := dk_182 0 7 (dk_at dksJ30_next_0 1 rfl rfl)
theorem dJ30_next_4 : decode cJ30_next 4 = .ok (.invokevirtual 13, 3) := dk_182 0 13 (dk_at dksJ30_next_0 4 rfl rfl)
theorem dJ30_next_7 : decode cJ30_next 7 = .ok (.areturn, 1) := dk_176 (dk_at dksJ30_next_0 7 rfl rfl)
abbrev cJ30_init : ByteArray := prog_60_method_1_code
def yJ30_init : MethodName := ⟨RJ30, "<init>", "(Ljava/util/LinkedHashMap;Z)V"⟩
def dkwJ30_init_0 : List UInt8 := [42, 43, 28, 183, 0, 1, 177]
abbrev dktJ30_init_0 : List UInt8 := dkwJ30_init_0 ++ []
theorem dksJ30_init_0 : cJ30_init.data.toList.drop 0 = dktJ30_init_0 := by decide +kernel
theorem dJ30_init_0 : decode cJ30_init 0 = .ok (.aload_n 0, 1) := dk_42 (dk_at dksJ30_init_0 0 rfl rfl)
theorem dJ30_init_1 : decode cJ30_init 1 = .ok (.aload_n 1, 1) := dk_43 (dk_at dksJ30_init_0 1 rfl rfl)
theorem dJ30_init_2 : decode cJ30_init 2 = .ok (.iload_n 2, 1) := dk_28 (dk_at dksJ30_init_0 2 rfl rfl)
theorem dJ30_init_3 : decode cJ30_init 3 = .ok (.invokespecial 1, 3) := dk_183 0 1 (dk_at dksJ30_init_0 3 rfl rfl)
theorem dJ30_init_6 : decode cJ30_init 6 = .ok (.return_, 1) := dk_177 (dk_at dksJ30_init_0 6 rfl rfl)
theorem q129 : (Jvm.Cond.initialized "java/util/LinkedHashMap$LinkedKeyIterator") ∈ lw_all := lw_g (lw_at lw_m1 40 rfl) rfl
theorem q385 : (Jvm.Cond.selects "java/util/LinkedHashMap$LinkedKeyIterator" ({ cls := "java/lang/Object", name := "getClass", desc := "()Ljava/lang/Class;" } : Jvm.MethodName) ({ cls := "java/lang/Object", name := "getClass", desc := "()Ljava/lang/Class;" } : Jvm.MethodName)) ∈ lw_all := lw_g (lw_at lw_m2 56 rfl) rfl
theorem q1291 : (Jvm.Cond.castable "java/util/LinkedHashMap$LinkedKeyIterator" "java/util/Iterator") ∈ lw_tbl := lw_at lw_m6 2 rfl
theorem q1292 : (Jvm.Cond.selects "java/util/LinkedHashMap$LinkedKeyIterator" ({ cls := "java/util/Iterator", name := "hasNext", desc := "()Z" } : Jvm.MethodName) ({ cls := "java/util/LinkedHashMap$LinkedHashIterator", name := "hasNext", desc := "()Z" } : Jvm.MethodName)) ∈ lw_all := lw_g (lw_at lw_m6 3 rfl) rfl
theorem q1293 : (Jvm.Cond.unhidden "java/util/LinkedHashMap$LinkedKeyIterator" "hasNext" "()Z") ∈ lw_tbl := lw_at lw_m6 4 rfl
theorem q1321 : (Jvm.Cond.selects "java/util/LinkedHashMap$LinkedKeyIterator" ({ cls := "java/util/Iterator", name := "next", desc := "()Ljava/lang/Object;" } : Jvm.MethodName) ({ cls := "java/util/LinkedHashMap$LinkedKeyIterator", name := "next", desc := "()Ljava/lang/Object;" } : Jvm.MethodName)) ∈ lw_all := lw_g (lw_at lw_m6 32 rfl) rfl
theorem q1322 : (Jvm.Cond.unhidden "java/util/LinkedHashMap$LinkedKeyIterator" "next" "()Ljava/lang/Object;") ∈ lw_tbl := lw_at lw_m6 33 rfl
theorem q1323 : (Jvm.Cond.instanceMethod ({ cls := "java/util/LinkedHashMap$LinkedKeyIterator", name := "next", desc := "()Ljava/lang/Object;" } : Jvm.MethodName)) ∈ lw_all := lw_g (lw_at lw_m6 34 rfl) rfl
theorem q1324 : (Jvm.Cond.publicMethod ({ cls := "java/util/LinkedHashMap$LinkedKeyIterator", name := "next", desc := "()Ljava/lang/Object;" } : Jvm.MethodName)) ∈ lw_tbl := lw_at lw_m6 35 rfl
theorem q1325 : (Jvm.Cond.code ({ cls := "java/util/LinkedHashMap$LinkedKeyIterator", name := "next", desc := "()Ljava/lang/Object;" } : Jvm.MethodName) prog_60_method_2_code (1 : Nat) (Option.some (Jvm.ClassFile.FieldType.object "java/lang/Object"))) ∈ lw_all := lw_g (lw_at lw_m6 36 rfl) rfl
theorem q1326 : (Jvm.Cond.methodLink "java/util/LinkedHashMap$LinkedKeyIterator" (7 : Nat) ({ cls := "java/util/LinkedHashMap$LinkedKeyIterator", name := "nextNode", desc := "()Ljava/util/LinkedHashMap$Entry;" } : Jvm.MethodName)) ∈ lw_all := lw_g (lw_at lw_m6 37 rfl) rfl
theorem q1327 : (Jvm.Cond.sameMethod "java/util/LinkedHashMap$LinkedKeyIterator" "java/util/LinkedHashMap$LinkedHashIterator" "nextNode" "()Ljava/util/LinkedHashMap$Entry;") ∈ lw_all := lw_g (lw_at lw_m6 38 rfl) rfl
theorem q1329 : (Jvm.Cond.selects "java/util/LinkedHashMap$LinkedKeyIterator" ({ cls := "java/util/LinkedHashMap$LinkedKeyIterator", name := "nextNode", desc := "()Ljava/util/LinkedHashMap$Entry;" } : Jvm.MethodName) ({ cls := "java/util/LinkedHashMap$LinkedHashIterator", name := "nextNode", desc := "()Ljava/util/LinkedHashMap$Entry;" } : Jvm.MethodName)) ∈ lw_all := lw_g (lw_at lw_m6 40 rfl) rfl
theorem q1332 : (Jvm.Cond.methodLink "java/util/LinkedHashMap$LinkedKeyIterator" (13 : Nat) ({ cls := "java/util/LinkedHashMap$Entry", name := "getKey", desc := "()Ljava/lang/Object;" } : Jvm.MethodName)) ∈ lw_all := lw_g (lw_at lw_m6 43 rfl) rfl
theorem q1415 : (Jvm.Cond.instantiable "java/util/LinkedHashMap$LinkedKeyIterator" (5 : Nat)) ∈ lw_all := lw_g (lw_at lw_m6 126 rfl) rfl
theorem q1417 : (Jvm.Cond.instanceMethod ({ cls := "java/util/LinkedHashMap$LinkedKeyIterator", name := "<init>", desc := "(Ljava/util/LinkedHashMap;Z)V" } : Jvm.MethodName)) ∈ lw_all := lw_g (lw_at lw_m6 128 rfl) rfl
theorem q1418 : (Jvm.Cond.code ({ cls := "java/util/LinkedHashMap$LinkedKeyIterator", name := "<init>", desc := "(Ljava/util/LinkedHashMap;Z)V" } : Jvm.MethodName) prog_60_method_1_code (3 : Nat) (Option.none : Option Jvm.ClassFile.FieldType)) ∈ lw_all := lw_g (lw_at lw_m6 129 rfl) rfl
theorem q1419 : (Jvm.Cond.methodLink "java/util/LinkedHashMap$LinkedKeyIterator" (1 : Nat) ({ cls := "java/util/LinkedHashMap$LinkedHashIterator", name := "<init>", desc := "(Ljava/util/LinkedHashMap;Z)V" } : Jvm.MethodName)) ∈ lw_all := lw_g (lw_at lw_m6 130 rfl) rfl
theorem q1428 : (Jvm.Cond.lays "java/util/LinkedHashMap$LinkedKeyIterator" "java/util/LinkedHashMap$LinkedHashIterator" "next" "Ljava/util/LinkedHashMap$Entry;") ∈ lw_all := lw_g (lw_at lw_m6 139 rfl) rfl
theorem q1430 : (Jvm.Cond.lays "java/util/LinkedHashMap$LinkedKeyIterator" "java/util/LinkedHashMap$LinkedHashIterator" "current" "Ljava/util/LinkedHashMap$Entry;") ∈ lw_all := lw_g (lw_at lw_m6 141 rfl) rfl
theorem q1432 : (Jvm.Cond.lays "java/util/LinkedHashMap$LinkedKeyIterator" "java/util/LinkedHashMap$LinkedHashIterator" "expectedModCount" "I") ∈ lw_all := lw_g (lw_at lw_m6 143 rfl) rfl
theorem q1434 : (Jvm.Cond.lays "java/util/LinkedHashMap$LinkedKeyIterator" "java/util/LinkedHashMap$LinkedHashIterator" "reversed" "Z") ∈ lw_all := lw_g (lw_at lw_m6 145 rfl) rfl
theorem q1436 : (Jvm.Cond.laysFinal "java/util/LinkedHashMap$LinkedKeyIterator" "java/util/LinkedHashMap$LinkedHashIterator" "this$0" "Ljava/util/LinkedHashMap;") ∈ lw_all := lw_g (lw_at lw_m6 147 rfl) rfl
theorem q1438 : (Jvm.Cond.superclass "java/util/LinkedHashMap$LinkedKeyIterator" "java/util/LinkedHashMap$LinkedHashIterator") ∈ lw_all := lw_g (lw_at lw_m6 149 rfl) rfl
theorem q2469 : (Jvm.Cond.castable "java/util/LinkedHashMap$LinkedKeyIterator" "java/lang/Object") ∈ lw_tbl := lw_at lw_m10 220 rfl
theorem in_J30 : ∀ w ∈ wsJ300, w ∈ lw_all := lw_in wsJ300 [1428, 1430, 1432, 1434, 1436] (by decide +kernel) (by decide +kernel)

/-! java/lang/AbstractStringBuilder -/
set_option maxRecDepth 100000
def RJ32 : String := "java/lang/AbstractStringBuilder"
abbrev cJ32_compareTo : ByteArray := prog_19_method_5_code
def yJ32_compareTo : MethodName := ⟨RJ32, "compareTo", "(Ljava/lang/AbstractStringBuilder;)I"⟩
def dkwJ32_compareTo_4 : List UInt8 := [184, 0, 97, 172]
abbrev dktJ32_compareTo_4 : List UInt8 := dkwJ32_compareTo_4 ++ []
def dkwJ32_compareTo_3 : List UInt8 := [182, 0, 83, 153, 0, 15, 44, 45, 21, 4, 21, 5, 184, 0, 94, 167, 0, 12, 44, 45, 21, 4, 21, 5]
abbrev dktJ32_compareTo_3 : List UInt8 := dkwJ32_compareTo_3 ++ dktJ32_compareTo_4
def dkwJ32_compareTo_2 : List UInt8 := [45, 21, 4, 21, 5, 184, 0, 87, 167, 0, 12, 44, 45, 21, 4, 21, 5, 184, 0, 93, 172, 42]
abbrev dktJ32_compareTo_2 : List UInt8 := dkwJ32_compareTo_2 ++ dktJ32_compareTo_3
def dkwJ32_compareTo_1 : List UInt8 := [180, 0, 79, 54, 5, 42, 180, 0, 22, 43, 180, 0, 22, 160, 0, 32, 42, 182, 0, 83, 153, 0, 15, 44]
abbrev dktJ32_compareTo_1 : List UInt8 := dkwJ32_compareTo_1 ++ dktJ32_compareTo_2
def dkwJ32_compareTo_0 : List UInt8 := [42, 43, 166, 0, 5, 3, 172, 42, 180, 0, 15, 77, 43, 180, 0, 15, 78, 42, 180, 0, 79, 54, 4, 43]
abbrev dktJ32_compareTo_0 : List UInt8 := dkwJ32_compareTo_0 ++ dktJ32_compareTo_1
theorem dksJ32_compareTo_0 : cJ32_compareTo.data.toList.drop 0 = dktJ32_compareTo_0 := by decide +kernel
theorem dksJ32_compareTo_1 : cJ32_compareTo.data.toList.drop 24 = dktJ32_compareTo_1 := dk_seg dksJ32_compareTo_0 24 rfl rfl
theorem dksJ32_compareTo_2 : cJ32_compareTo.data.toList.drop 48 = dktJ32_compareTo_2 := dk_seg dksJ32_compareTo_1 24 rfl rfl
theorem dksJ32_compareTo_3 : cJ32_compareTo.data.toList.drop 70 = dktJ32_compareTo_3 := dk_seg dksJ32_compareTo_2 22 rfl rfl
theorem dksJ32_compareTo_4 : cJ32_compareTo.data.toList.drop 94 = dktJ32_compareTo_4 := dk_seg dksJ32_compareTo_3 24 rfl rfl
theorem dJ32_compareTo_0 : decode cJ32_compareTo 0 = .ok (.aload_n 0, 1) := dk_42 (dk_at dksJ32_compareTo_0 0 rfl rfl)
theorem dJ32_compareTo_1 : decode cJ32_compareTo 1 = .ok (.aload_n 1, 1) := dk_43 (dk_at dksJ32_compareTo_0 1 rfl rfl)
theorem dJ32_compareTo_2 : decode cJ32_compareTo 2 = .ok (.if_acmp .ne 5, 3) := dk_166 0 5 (dk_at dksJ32_compareTo_0 2 rfl rfl)
theorem dJ32_compareTo_5 : decode cJ32_compareTo 5 = .ok (.iconst 0, 1) := dk_3 (dk_at dksJ32_compareTo_0 5 rfl rfl)
theorem dJ32_compareTo_6 : decode cJ32_compareTo 6 = .ok (.ireturn, 1) := dk_172 (dk_at dksJ32_compareTo_0 6 rfl rfl)
theorem dJ32_compareTo_7 : decode cJ32_compareTo 7 = .ok (.aload_n 0, 1) := dk_42 (dk_at dksJ32_compareTo_0 7 rfl rfl)
theorem dJ32_compareTo_8 : decode cJ32_compareTo 8 = .ok (.getfield 15, 3) := dk_180 0 15 (dk_at dksJ32_compareTo_0 8 rfl rfl)
theorem dJ32_compareTo_11 : decode cJ32_compareTo 11 = .ok (.astore_n 2, 1) := dk_77 (dk_at dksJ32_compareTo_0 11 rfl rfl)
theorem dJ32_compareTo_12 : decode cJ32_compareTo 12 = .ok (.aload_n 1, 1) := dk_43 (dk_at dksJ32_compareTo_0 12 rfl rfl)
theorem dJ32_compareTo_13 : decode cJ32_compareTo 13 = .ok (.getfield 15, 3) := dk_180 0 15 (dk_at dksJ32_compareTo_0 13 rfl rfl)
theorem dJ32_compareTo_16 : decode cJ32_compareTo 16 = .ok (.astore_n 3, 1) := dk_78 (dk_at dksJ32_compareTo_0 16 rfl rfl)
theorem dJ32_compareTo_17 : decode cJ32_compareTo 17 = .ok (.aload_n 0, 1) := dk_42 (dk_at dksJ32_compareTo_0 17 rfl rfl)
theorem dJ32_compareTo_18 : decode cJ32_compareTo 18 = .ok (.getfield 79, 3) := dk_180 0 79 (dk_at dksJ32_compareTo_0 18 rfl rfl)
theorem dJ32_compareTo_21 : decode cJ32_compareTo 21 = .ok (.istore 4, 2) := dk_54 4 (dk_at dksJ32_compareTo_0 21 rfl rfl)
theorem dJ32_compareTo_23 : decode cJ32_compareTo 23 = .ok (.aload_n 1, 1) := dk_43 (dk_at dksJ32_compareTo_0 23 rfl rfl)
theorem dJ32_compareTo_24 : decode cJ32_compareTo 24 = .ok (.getfield 79, 3) := dk_180 0 79 (dk_at dksJ32_compareTo_1 0 rfl rfl)
theorem dJ32_compareTo_27 : decode cJ32_compareTo 27 = .ok (.istore 5, 2) := dk_54 5 (dk_at dksJ32_compareTo_1 3 rfl rfl)
theorem dJ32_compareTo_29 : decode cJ32_compareTo 29 = .ok (.aload_n 0, 1) := dk_42 (dk_at dksJ32_compareTo_1 5 rfl rfl)
theorem dJ32_compareTo_30 : decode cJ32_compareTo 30 = .ok (.getfield 22, 3) := dk_180 0 22 (dk_at dksJ32_compareTo_1 6 rfl rfl)
theorem dJ32_compareTo_33 : decode cJ32_compareTo 33 = .ok (.aload_n 1, 1) := dk_43 (dk_at dksJ32_compareTo_1 9 rfl rfl)
theorem dJ32_compareTo_34 : decode cJ32_compareTo 34 = .ok (.getfield 22, 3) := dk_180 0 22 (dk_at dksJ32_compareTo_1 10 rfl rfl)
theorem dJ32_compareTo_37 : decode cJ32_compareTo 37 = .ok (.if_icmp .ne 32, 3) := dk_160 0 32 (dk_at dksJ32_compareTo_1 13 rfl rfl)
theorem dJ32_compareTo_40 : decode cJ32_compareTo 40 = .ok (.aload_n 0, 1) := dk_42 (dk_at dksJ32_compareTo_1 16 rfl rfl)
theorem dJ32_compareTo_41 : decode cJ32_compareTo 41 = .ok (.invokevirtual 83, 3) := dk_182 0 83 (dk_at dksJ32_compareTo_1 17 rfl rfl)
theorem dJ32_compareTo_44 : decode cJ32_compareTo 44 = .ok (.ifCond .eq 15, 3) := dk_153 0 15 (dk_at dksJ32_compareTo_1 20 rfl rfl)
theorem dJ32_compareTo_47 : decode cJ32_compareTo 47 = .ok (.aload_n 2, 1) := dk_44 (dk_at dksJ32_compareTo_1 23 rfl rfl)
theorem dJ32_compareTo_48 : decode cJ32_compareTo 48 = .ok (.aload_n 3, 1) := dk_45 (dk_at dksJ32_compareTo_2 0 rfl rfl)
theorem dJ32_compareTo_49 : decode cJ32_compareTo 49 = .ok (.iload 4, 2) := dk_21 4 (dk_at dksJ32_compareTo_2 1 rfl rfl)
theorem dJ32_compareTo_51 : decode cJ32_compareTo 51 = .ok (.iload 5, 2) := dk_21 5 (dk_at dksJ32_compareTo_2 3 rfl rfl)
theorem dJ32_compareTo_53 : decode cJ32_compareTo 53 = .ok (.invokestatic 87, 3) := dk_184 0 87 (dk_at dksJ32_compareTo_2 5 rfl rfl)
theorem dJ32_compareTo_56 : decode cJ32_compareTo 56 = .ok (.goto 12, 3) := dk_167 0 12 (dk_at dksJ32_compareTo_2 8 rfl rfl)
theorem dJ32_compareTo_59 : decode cJ32_compareTo 59 = .ok (.aload_n 2, 1) := dk_44 (dk_at dksJ32_compareTo_2 11 rfl rfl)
theorem dJ32_compareTo_60 : decode cJ32_compareTo 60 = .ok (.aload_n 3, 1) := dk_45 (dk_at dksJ32_compareTo_2 12 rfl rfl)
theorem dJ32_compareTo_61 : decode cJ32_compareTo 61 = .ok (.iload 4, 2) := dk_21 4 (dk_at dksJ32_compareTo_2 13 rfl rfl)
theorem dJ32_compareTo_63 : decode cJ32_compareTo 63 = .ok (.iload 5, 2) := dk_21 5 (dk_at dksJ32_compareTo_2 15 rfl rfl)
theorem dJ32_compareTo_65 : decode cJ32_compareTo 65 = .ok (.invokestatic 93, 3) := dk_184 0 93 (dk_at dksJ32_compareTo_2 17 rfl rfl)
theorem dJ32_compareTo_68 : decode cJ32_compareTo 68 = .ok (.ireturn, 1) := dk_172 (dk_at dksJ32_compareTo_2 20 rfl rfl)
theorem dJ32_compareTo_69 : decode cJ32_compareTo 69 = .ok (.aload_n 0, 1) := dk_42 (dk_at dksJ32_compareTo_2 21 rfl rfl)
theorem dJ32_compareTo_70 : decode cJ32_compareTo 70 = .ok (.invokevirtual 83, 3) := dk_182 0 83 (dk_at dksJ32_compareTo_3 0 rfl rfl)
theorem dJ32_compareTo_73 : decode cJ32_compareTo 73 = .ok (.ifCond .eq 15, 3) := dk_153 0 15 (dk_at dksJ32_compareTo_3 3 rfl rfl)
theorem dJ32_compareTo_76 : decode cJ32_compareTo 76 = .ok (.aload_n 2, 1) := dk_44 (dk_at dksJ32_compareTo_3 6 rfl rfl)
theorem dJ32_compareTo_77 : decode cJ32_compareTo 77 = .ok (.aload_n 3, 1) := dk_45 (dk_at dksJ32_compareTo_3 7 rfl rfl)
theorem dJ32_compareTo_78 : decode cJ32_compareTo 78 = .ok (.iload 4, 2) := dk_21 4 (dk_at dksJ32_compareTo_3 8 rfl rfl)
theorem dJ32_compareTo_80 : decode cJ32_compareTo 80 = .ok (.iload 5, 2) := dk_21 5 (dk_at dksJ32_compareTo_3 10 rfl rfl)
theorem dJ32_compareTo_82 : decode cJ32_compareTo 82 = .ok (.invokestatic 94, 3) := dk_184 0 94 (dk_at dksJ32_compareTo_3 12 rfl rfl)
theorem dJ32_compareTo_85 : decode cJ32_compareTo 85 = .ok (.goto 12, 3) := dk_167 0 12 (dk_at dksJ32_compareTo_3 15 rfl rfl)
theorem dJ32_compareTo_88 : decode cJ32_compareTo 88 = .ok (.aload_n 2, 1) := dk_44 (dk_at dksJ32_compareTo_3 18 rfl rfl)
theorem dJ32_compareTo_89 : decode cJ32_compareTo 89 = .ok (.aload_n 3, 1) := dk_45 (dk_at dksJ32_compareTo_3 19 rfl rfl)
theorem dJ32_compareTo_90 : decode cJ32_compareTo 90 = .ok (.iload 4, 2) := dk_21 4 (dk_at dksJ32_compareTo_3 20 rfl rfl)
theorem dJ32_compareTo_92 : decode cJ32_compareTo 92 = .ok (.iload 5, 2) := dk_21 5 (dk_at dksJ32_compareTo_3 22 rfl rfl)
theorem dJ32_compareTo_94 : decode cJ32_compareTo 94 = .ok (.invokestatic 97, 3) := dk_184 0 97 (dk_at dksJ32_compareTo_4 0 rfl rfl)
theorem dJ32_compareTo_97 : decode cJ32_compareTo 97 = .ok (.ireturn, 1) := dk_172 (dk_at dksJ32_compareTo_4 3 rfl rfl)
abbrev cJ32_isLatin1 : ByteArray := prog_19_method_68_code
def yJ32_isLatin1 : MethodName := ⟨RJ32, "isLatin1", "()Z"⟩
def dkwJ32_isLatin1_0 : List UInt8 := [178, 0, 18, 153, 0, 14, 42, 180, 0, 22, 154, 0, 7, 4, 167, 0, 4, 3, 172]
abbrev dktJ32_isLatin1_0 : List UInt8 := dkwJ32_isLatin1_0 ++ []
theorem dksJ32_isLatin1_0 : cJ32_isLatin1.data.toList.drop 0 = dktJ32_isLatin1_0 := by decide +kernel
theorem dJ32_isLatin1_0 : decode cJ32_isLatin1 0 = .ok (.getstatic 18, 3) := dk_178 0 18 (dk_at dksJ32_isLatin1_0 0 rfl rfl)
theorem dJ32_isLatin1_3 : decode cJ32_isLatin1 3 = .ok (.ifCond .eq 14, 3) := dk_153 0 14 (dk_at dksJ32_isLatin1_0 3 rfl rfl)
theorem dJ32_isLatin1_6 : decode cJ32_isLatin1 6 = .ok (.aload_n 0, 1) := dk_42 (dk_at dksJ32_isLatin1_0 6 rfl rfl)
theorem dJ32_isLatin1_7 : decode cJ32_isLatin1 7 = .ok (.getfield 22, 3) := dk_180 0 22 (dk_at dksJ32_isLatin1_0 7 rfl rfl)
theorem dJ32_isLatin1_10 : decode cJ32_isLatin1 10 = .ok (.ifCond .ne 7, 3) := dk_154 0 7 (dk_at dksJ32_isLatin1_0 10 rfl rfl)
theorem dJ32_isLatin1_13 : decode cJ32_isLatin1 13 = .ok (.iconst 1, 1) := dk_4 (dk_at dksJ32_isLatin1_0 13 rfl rfl)
theorem dJ32_isLatin1_14 : decode cJ32_isLatin1 14 = .ok (.goto 4, 3) := dk_167 0 4 (dk_at dksJ32_isLatin1_0 14 rfl rfl)
theorem dJ32_isLatin1_17 : decode cJ32_isLatin1 17 = .ok (.iconst 0, 1) := dk_3 (dk_at dksJ32_isLatin1_0 17 rfl rfl)
theorem dJ32_isLatin1_18 : decode cJ32_isLatin1 18 = .ok (.ireturn, 1) := dk_172 (dk_at dksJ32_isLatin1_0 18 rfl rfl)
abbrev cJ32_init : ByteArray := prog_19_method_2_code
def yJ32_init : MethodName := ⟨RJ32, "<init>", "(I)V"⟩
def dkwJ32_init_1 : List UInt8 := [167, 0, 16, 42, 27, 184, 0, 26, 181, 0, 15, 42, 4, 181, 0, 22, 177]
abbrev dktJ32_init_1 : List UInt8 := dkwJ32_init_1 ++ []
def dkwJ32_init_0 : List UInt8 := [42, 183, 0, 3, 178, 0, 18, 153, 0, 18, 42, 27, 188, 8, 181, 0, 15, 42, 3, 181, 0, 22]
abbrev dktJ32_init_0 : List UInt8 := dkwJ32_init_0 ++ dktJ32_init_1
theorem dksJ32_init_0 : cJ32_init.data.toList.drop 0 = dktJ32_init_0 := by decide +kernel
theorem dksJ32_init_1 : cJ32_init.data.toList.drop 22 = dktJ32_init_1 := dk_seg dksJ32_init_0 22 rfl rfl
theorem dJ32_init_0 : decode cJ32_init 0 = .ok (.aload_n 0, 1) := dk_42 (dk_at dksJ32_init_0 0 rfl rfl)
theorem dJ32_init_1 : decode cJ32_init 1 = .ok (.invokespecial 3, 3) := dk_183 0 3 (dk_at dksJ32_init_0 1 rfl rfl)
theorem dJ32_init_4 : decode cJ32_init 4 = .ok (.getstatic 18, 3) := dk_178 0 18 (dk_at dksJ32_init_0 4 rfl rfl)
theorem dJ32_init_7 : decode cJ32_init 7 = .ok (.ifCond .eq 18, 3) := dk_153 0 18 (dk_at dksJ32_init_0 7 rfl rfl)
theorem dJ32_init_10 : decode cJ32_init 10 = .ok (.aload_n 0, 1) := dk_42 (dk_at dksJ32_init_0 10 rfl rfl)
theorem dJ32_init_11 : decode cJ32_init 11 = .ok (.iload_n 1, 1) := dk_27 (dk_at dksJ32_init_0 11 rfl rfl)
theorem dJ32_init_12 : decode cJ32_init 12 = .ok (.newarray .byte, 2) := dk_188_8 (dk_at dksJ32_init_0 12 rfl rfl)
theorem dJ32_init_14 : decode cJ32_init 14 = .ok (.putfield 15, 3) := dk_181 0 15 (dk_at dksJ32_init_0 14 rfl rfl)
theorem dJ32_init_17 : decode cJ32_init 17 = .ok (.aload_n 0, 1) := dk_42 (dk_at dksJ32_init_0 17 rfl rfl)
theorem dJ32_init_18 : decode cJ32_init 18 = .ok (.iconst 0, 1) := dk_3 (dk_at dksJ32_init_0 18 rfl rfl)
theorem dJ32_init_19 : decode cJ32_init 19 = .ok (.putfield 22, 3) := dk_181 0 22 (dk_at dksJ32_init_0 19 rfl rfl)
theorem dJ32_init_22 : decode cJ32_init 22 = .ok (.goto 16, 3) := dk_167 0 16 (dk_at dksJ32_init_1 0 rfl rfl)
theorem dJ32_init_25 : decode cJ32_init 25 = .ok (.aload_n 0, 1) := dk_42 (dk_at dksJ32_init_1 3 rfl rfl)
theorem dJ32_init_26 : decode cJ32_init 26 = .ok (.iload_n 1, 1) := dk_27 (dk_at dksJ32_init_1 4 rfl rfl)
theorem dJ32_init_27 : decode cJ32_init 27 = .ok (.invokestatic 26, 3) := dk_184 0 26 (dk_at dksJ32_init_1 5 rfl rfl)
theorem dJ32_init_30 : decode cJ32_init 30 = .ok (.putfield 15, 3) := dk_181 0 15 (dk_at dksJ32_init_1 8 rfl rfl)
theorem dJ32_init_33 : decode cJ32_init 33 = .ok (.aload_n 0, 1) := dk_42 (dk_at dksJ32_init_1 11 rfl rfl)
theorem dJ32_init_34 : decode cJ32_init 34 = .ok (.iconst 1, 1) := dk_4 (dk_at dksJ32_init_1 12 rfl rfl)
theorem dJ32_init_35 : decode cJ32_init 35 = .ok (.putfield 22, 3) := dk_181 0 22 (dk_at dksJ32_init_1 13 rfl rfl)
theorem dJ32_init_38 : decode cJ32_init 38 = .ok (.return_, 1) := dk_177 (dk_at dksJ32_init_1 16 rfl rfl)
abbrev cJ32_append : ByteArray := prog_19_method_31_code
def yJ32_append : MethodName := ⟨RJ32, "append", "(C)Ljava/lang/AbstractStringBuilder;"⟩
def dkwJ32_append_3 : List UInt8 := [181, 0, 79, 27, 184, 0, 197, 42, 176]
abbrev dktJ32_append_3 : List UInt8 := dkwJ32_append_3 ++ []
def dkwJ32_append_2 : List UInt8 := [182, 0, 83, 153, 0, 7, 42, 182, 0, 195, 42, 180, 0, 15, 42, 89, 180, 0, 79, 90, 4, 96]
abbrev dktJ32_append_2 : List UInt8 := dkwJ32_append_2 ++ dktJ32_append_3
def dkwJ32_append_1 : List UInt8 := [42, 180, 0, 15, 42, 89, 180, 0, 79, 90, 4, 96, 181, 0, 79, 27, 145, 84, 167, 0, 33, 42]
abbrev dktJ32_append_1 : List UInt8 := dkwJ32_append_1 ++ dktJ32_append_2
def dkwJ32_append_0 : List UInt8 := [42, 42, 180, 0, 79, 4, 96, 182, 0, 100, 42, 182, 0, 83, 153, 0, 31, 27, 184, 0, 191, 153, 0, 24]
abbrev dktJ32_append_0 : List UInt8 := dkwJ32_append_0 ++ dktJ32_append_1
theorem dksJ32_append_0 : cJ32_append.data.toList.drop 0 = dktJ32_append_0 := by decide +kernel
theorem dksJ32_append_1 : cJ32_append.data.toList.drop 24 = dktJ32_append_1 := dk_seg dksJ32_append_0 24 rfl rfl
theorem dksJ32_append_2 : cJ32_append.data.toList.drop 46 = dktJ32_append_2 := dk_seg dksJ32_append_1 22 rfl rfl
theorem dksJ32_append_3 : cJ32_append.data.toList.drop 68 = dktJ32_append_3 := dk_seg dksJ32_append_2 22 rfl rfl
theorem dJ32_append_0 : decode cJ32_append 0 = .ok (.aload_n 0, 1) := dk_42 (dk_at dksJ32_append_0 0 rfl rfl)
theorem dJ32_append_1 : decode cJ32_append 1 = .ok (.aload_n 0, 1) := dk_42 (dk_at dksJ32_append_0 1 rfl rfl)
theorem dJ32_append_2 : decode cJ32_append 2 = .ok (.getfield 79, 3) := dk_180 0 79 (dk_at dksJ32_append_0 2 rfl rfl)
theorem dJ32_append_5 : decode cJ32_append 5 = .ok (.iconst 1, 1) := dk_4 (dk_at dksJ32_append_0 5 rfl rfl)
theorem dJ32_append_6 : decode cJ32_append 6 = .ok (.iadd, 1) := dk_96 (dk_at dksJ32_append_0 6 rfl rfl)
theorem dJ32_append_7 : decode cJ32_append 7 = .ok (.invokevirtual 100, 3) := dk_182 0 100 (dk_at dksJ32_append_0 7 rfl rfl)
theorem dJ32_append_10 : decode cJ32_append 10 = .ok (.aload_n 0, 1) := dk_42 (dk_at dksJ32_append_0 10 rfl rfl)
theorem dJ32_append_11 : decode cJ32_append 11 = .ok (.invokevirtual 83, 3) := dk_182 0 83 (dk_at dksJ32_append_0 11 rfl rfl)
theorem dJ32_append_14 : decode cJ32_append 14 = .ok (.ifCond .eq 31, 3) := dk_153 0 31 (dk_at dksJ32_append_0 14 rfl rfl)
theorem dJ32_append_17 : decode cJ32_append 17 = .ok (.iload_n 1, 1) := dk_27 (dk_at dksJ32_append_0 17 rfl rfl)
theorem dJ32_append_18 : decode cJ32_append 18 = .ok (.invokestatic 191, 3) := dk_184 0 191 (dk_at dksJ32_append_0 18 rfl rfl)
theorem dJ32_append_21 : decode cJ32_append 21 = .ok (.ifCond .eq 24, 3) := dk_153 0 24 (dk_at dksJ32_append_0 21 rfl rfl)
theorem dJ32_append_24 : decode cJ32_append 24 = .ok (.aload_n 0, 1) := dk_42 (dk_at dksJ32_append_1 0 rfl rfl)
theorem dJ32_append_25 : decode cJ32_append 25 = .ok (.getfield 15, 3) := dk_180 0 15 (dk_at dksJ32_append_1 1 rfl rfl)
theorem dJ32_append_28 : decode cJ32_append 28 = .ok (.aload_n 0, 1) := dk_42 (dk_at dksJ32_append_1 4 rfl rfl)
theorem dJ32_append_29 : decode cJ32_append 29 = .ok (.dup, 1) := dk_89 (dk_at dksJ32_append_1 5 rfl rfl)
theorem dJ32_append_30 : decode cJ32_append 30 = .ok (.getfield 79, 3) := dk_180 0 79 (dk_at dksJ32_append_1 6 rfl rfl)
theorem dJ32_append_33 : decode cJ32_append 33 = .ok (.dup_x1, 1) := dk_90 (dk_at dksJ32_append_1 9 rfl rfl)
theorem dJ32_append_34 : decode cJ32_append 34 = .ok (.iconst 1, 1) := dk_4 (dk_at dksJ32_append_1 10 rfl rfl)
theorem dJ32_append_35 : decode cJ32_append 35 = .ok (.iadd, 1) := dk_96 (dk_at dksJ32_append_1 11 rfl rfl)
theorem dJ32_append_36 : decode cJ32_append 36 = .ok (.putfield 79, 3) := dk_181 0 79 (dk_at dksJ32_append_1 12 rfl rfl)
theorem dJ32_append_39 : decode cJ32_append 39 = .ok (.iload_n 1, 1) := dk_27 (dk_at dksJ32_append_1 15 rfl rfl)
theorem dJ32_append_40 : decode cJ32_append 40 = .ok (.i2b, 1) := dk_145 (dk_at dksJ32_append_1 16 rfl rfl)
theorem dJ32_append_41 : decode cJ32_append 41 = .ok (.bastore, 1) := dk_84 (dk_at dksJ32_append_1 17 rfl rfl)
theorem dJ32_append_42 : decode cJ32_append 42 = .ok (.goto 33, 3) := dk_167 0 33 (dk_at dksJ32_append_1 18 rfl rfl)
theorem dJ32_append_45 : decode cJ32_append 45 = .ok (.aload_n 0, 1) := dk_42 (dk_at dksJ32_append_1 21 rfl rfl)
theorem dJ32_append_46 : decode cJ32_append 46 = .ok (.invokevirtual 83, 3) := dk_182 0 83 (dk_at dksJ32_append_2 0 rfl rfl)
theorem dJ32_append_49 : decode cJ32_append 49 = .ok (.ifCond .eq 7, 3) := dk_153 0 7 (dk_at dksJ32_append_2 3 rfl rfl)
theorem dJ32_append_52 : decode cJ32_append 52 = .ok (.aload_n 0, 1) := dk_42 (dk_at dksJ32_append_2 6 rfl rfl)
theorem dJ32_append_53 : decode cJ32_append 53 = .ok (.invokevirtual 195, 3) := dk_182 0 195 (dk_at dksJ32_append_2 7 rfl rfl)
theorem dJ32_append_56 : decode cJ32_append 56 = .ok (.aload_n 0, 1) := dk_42 (dk_at dksJ32_append_2 10 rfl rfl)
theorem dJ32_append_57 : decode cJ32_append 57 = .ok (.getfield 15, 3) := dk_180 0 15 (dk_at dksJ32_append_2 11 rfl rfl)
theorem dJ32_append_60 : decode cJ32_append 60 = .ok (.aload_n 0, 1) := dk_42 (dk_at dksJ32_append_2 14 rfl rfl)
theorem dJ32_append_61 : decode cJ32_append 61 = .ok (.dup, 1) := dk_89 (dk_at dksJ32_append_2 15 rfl rfl)
theorem dJ32_append_62 : decode cJ32_append 62 = .ok (.getfield 79, 3) := dk_180 0 79 (dk_at dksJ32_append_2 16 rfl rfl)
theorem dJ32_append_65 : decode cJ32_append 65 = .ok (.dup_x1, 1) := dk_90 (dk_at dksJ32_append_2 19 rfl rfl)
theorem dJ32_append_66 : decode cJ32_append 66 = .ok (.iconst 1, 1) := dk_4 (dk_at dksJ32_append_2 20 rfl rfl)
theorem dJ32_append_67 : decode cJ32_append 67 = .ok (.iadd, 1) := dk_96 (dk_at dksJ32_append_2 21 rfl rfl)
theorem dJ32_append_68 : decode cJ32_append 68 = .ok (.putfield 79, 3) := dk_181 0 79 (dk_at dksJ32_append_3 0 rfl rfl)
theorem dJ32_append_71 : decode cJ32_append 71 = .ok (.iload_n 1, 1) := dk_27 (dk_at dksJ32_append_3 3 rfl rfl)
theorem dJ32_append_72 : decode cJ32_append 72 = .ok (.invokestatic 197, 3) := dk_184 0 197 (dk_at dksJ32_append_3 4 rfl rfl)
theorem dJ32_append_75 : decode cJ32_append 75 = .ok (.aload_n 0, 1) := dk_42 (dk_at dksJ32_append_3 7 rfl rfl)
theorem dJ32_append_76 : decode cJ32_append 76 = .ok (.areturn, 1) := dk_176 (dk_at dksJ32_append_3 8 rfl rfl)
abbrev cJ32_ensureCapacityInternal : ByteArray := prog_19_method_9_code
def yJ32_ensureCapacityInternal : MethodName := ⟨RJ32, "ensureCapacityInternal", "(I)V"⟩
def dkwJ32_ensureCapacityInternal_1 : List UInt8 := [182, 0, 104, 42, 180, 0, 22, 120, 184, 0, 108, 181, 0, 15, 177]
abbrev dktJ32_ensureCapacityInternal_1 : List UInt8 := dkwJ32_ensureCapacityInternal_1 ++ []
def dkwJ32_ensureCapacityInternal_0 : List UInt8 := [42, 180, 0, 15, 190, 42, 180, 0, 22, 122, 61, 27, 28, 100, 158, 0, 24, 42, 42, 180, 0, 15, 42, 27]
abbrev dktJ32_ensureCapacityInternal_0 : List UInt8 := dkwJ32_ensureCapacityInternal_0 ++ dktJ32_ensureCapacityInternal_1
theorem dksJ32_ensureCapacityInternal_0 : cJ32_ensureCapacityInternal.data.toList.drop 0 = dktJ32_ensureCapacityInternal_0 := by decide +kernel
theorem dksJ32_ensureCapacityInternal_1 : cJ32_ensureCapacityInternal.data.toList.drop 24 = dktJ32_ensureCapacityInternal_1 := dk_seg dksJ32_ensureCapacityInternal_0 24 rfl rfl
theorem dJ32_ensureCapacityInternal_0 : decode cJ32_ensureCapacityInternal 0 = .ok (.aload_n 0, 1) := dk_42 (dk_at dksJ32_ensureCapacityInternal_0 0 rfl rfl)
theorem dJ32_ensureCapacityInternal_1 : decode cJ32_ensureCapacityInternal 1 = .ok (.getfield 15, 3) := dk_180 0 15 (dk_at dksJ32_ensureCapacityInternal_0 1 rfl rfl)
theorem dJ32_ensureCapacityInternal_4 : decode cJ32_ensureCapacityInternal 4 = .ok (.arraylength, 1) := dk_190 (dk_at dksJ32_ensureCapacityInternal_0 4 rfl rfl)
theorem dJ32_ensureCapacityInternal_5 : decode cJ32_ensureCapacityInternal 5 = .ok (.aload_n 0, 1) := dk_42 (dk_at dksJ32_ensureCapacityInternal_0 5 rfl rfl)
theorem dJ32_ensureCapacityInternal_6 : decode cJ32_ensureCapacityInternal 6 = .ok (.getfield 22, 3) := dk_180 0 22 (dk_at dksJ32_ensureCapacityInternal_0 6 rfl rfl)
theorem dJ32_ensureCapacityInternal_9 : decode cJ32_ensureCapacityInternal 9 = .ok (.ishr, 1) := dk_122 (dk_at dksJ32_ensureCapacityInternal_0 9 rfl rfl)
theorem dJ32_ensureCapacityInternal_10 : decode cJ32_ensureCapacityInternal 10 = .ok (.istore_n 2, 1) := dk_61 (dk_at dksJ32_ensureCapacityInternal_0 10 rfl rfl)
theorem dJ32_ensureCapacityInternal_11 : decode cJ32_ensureCapacityInternal 11 = .ok (.iload_n 1, 1) := dk_27 (dk_at dksJ32_ensureCapacityInternal_0 11 rfl rfl)
theorem dJ32_ensureCapacityInternal_12 : decode cJ32_ensureCapacityInternal 12 = .ok (.iload_n 2, 1) := dk_28 (dk_at dksJ32_ensureCapacityInternal_0 12 rfl rfl)
theorem dJ32_ensureCapacityInternal_13 : decode cJ32_ensureCapacityInternal 13 = .ok (.isub, 1) := dk_100 (dk_at dksJ32_ensureCapacityInternal_0 13 rfl rfl)
theorem dJ32_ensureCapacityInternal_14 : decode cJ32_ensureCapacityInternal 14 = .ok (.ifCond .le 24, 3) := dk_158 0 24 (dk_at dksJ32_ensureCapacityInternal_0 14 rfl rfl)
theorem dJ32_ensureCapacityInternal_17 : decode cJ32_ensureCapacityInternal 17 = .ok (.aload_n 0, 1) := dk_42 (dk_at dksJ32_ensureCapacityInternal_0 17 rfl rfl)
theorem dJ32_ensureCapacityInternal_18 : decode cJ32_ensureCapacityInternal 18 = .ok (.aload_n 0, 1) := dk_42 (dk_at dksJ32_ensureCapacityInternal_0 18 rfl rfl)
theorem dJ32_ensureCapacityInternal_19 : decode cJ32_ensureCapacityInternal 19 = .ok (.getfield 15, 3) := dk_180 0 15 (dk_at dksJ32_ensureCapacityInternal_0 19 rfl rfl)
theorem dJ32_ensureCapacityInternal_22 : decode cJ32_ensureCapacityInternal 22 = .ok (.aload_n 0, 1) := dk_42 (dk_at dksJ32_ensureCapacityInternal_0 22 rfl rfl)
theorem dJ32_ensureCapacityInternal_23 : decode cJ32_ensureCapacityInternal 23 = .ok (.iload_n 1, 1) := dk_27 (dk_at dksJ32_ensureCapacityInternal_0 23 rfl rfl)
theorem dJ32_ensureCapacityInternal_24 : decode cJ32_ensureCapacityInternal 24 = .ok (.invokevirtual 104, 3) := dk_182 0 104 (dk_at dksJ32_ensureCapacityInternal_1 0 rfl rfl)
theorem dJ32_ensureCapacityInternal_27 : decode cJ32_ensureCapacityInternal 27 = .ok (.aload_n 0, 1) := dk_42 (dk_at dksJ32_ensureCapacityInternal_1 3 rfl rfl)
theorem dJ32_ensureCapacityInternal_28 : decode cJ32_ensureCapacityInternal 28 = .ok (.getfield 22, 3) := dk_180 0 22 (dk_at dksJ32_ensureCapacityInternal_1 4 rfl rfl)
theorem dJ32_ensureCapacityInternal_31 : decode cJ32_ensureCapacityInternal 31 = .ok (.ishl, 1) := dk_120 (dk_at dksJ32_ensureCapacityInternal_1 7 rfl rfl)
theorem dJ32_ensureCapacityInternal_32 : decode cJ32_ensureCapacityInternal 32 = .ok (.invokestatic 108, 3) := dk_184 0 108 (dk_at dksJ32_ensureCapacityInternal_1 8 rfl rfl)
theorem dJ32_ensureCapacityInternal_35 : decode cJ32_ensureCapacityInternal 35 = .ok (.putfield 15, 3) := dk_181 0 15 (dk_at dksJ32_ensureCapacityInternal_1 11 rfl rfl)
theorem dJ32_ensureCapacityInternal_38 : decode cJ32_ensureCapacityInternal 38 = .ok (.return_, 1) := dk_177 (dk_at dksJ32_ensureCapacityInternal_1 14 rfl rfl)
abbrev cJ32_newCapacity : ByteArray := prog_19_method_10_code
def yJ32_newCapacity : MethodName := ⟨RJ32, "newCapacity", "(I)I"⟩
def dkwJ32_newCapacity_2 : List UInt8 := [183, 0, 124, 191, 21, 5, 42, 180, 0, 22, 122, 172]
abbrev dktJ32_newCapacity_2 : List UInt8 := dkwJ32_newCapacity_2 ++ []
def dkwJ32_newCapacity_1 : List UInt8 := [180, 0, 22, 120, 96, 184, 0, 114, 54, 5, 21, 5, 18, 39, 160, 0, 13, 187, 0, 120, 89, 18, 122]
abbrev dktJ32_newCapacity_1 : List UInt8 := dkwJ32_newCapacity_1 ++ dktJ32_newCapacity_2
def dkwJ32_newCapacity_0 : List UInt8 := [42, 180, 0, 15, 190, 61, 27, 42, 180, 0, 22, 120, 62, 29, 28, 100, 54, 4, 28, 21, 4, 28, 5, 42]
abbrev dktJ32_newCapacity_0 : List UInt8 := dkwJ32_newCapacity_0 ++ dktJ32_newCapacity_1
theorem dksJ32_newCapacity_0 : cJ32_newCapacity.data.toList.drop 0 = dktJ32_newCapacity_0 := by decide +kernel
theorem dksJ32_newCapacity_1 : cJ32_newCapacity.data.toList.drop 24 = dktJ32_newCapacity_1 := dk_seg dksJ32_newCapacity_0 24 rfl rfl
theorem dksJ32_newCapacity_2 : cJ32_newCapacity.data.toList.drop 47 = dktJ32_newCapacity_2 := dk_seg dksJ32_newCapacity_1 23 rfl rfl
theorem dJ32_newCapacity_0 : decode cJ32_newCapacity 0 = .ok (.aload_n 0, 1) := dk_42 (dk_at dksJ32_newCapacity_0 0 rfl rfl)
theorem dJ32_newCapacity_1 : decode cJ32_newCapacity 1 = .ok (.getfield 15, 3) := dk_180 0 15 (dk_at dksJ32_newCapacity_0 1 rfl rfl)
theorem dJ32_newCapacity_4 : decode cJ32_newCapacity 4 = .ok (.arraylength, 1) := dk_190 (dk_at dksJ32_newCapacity_0 4 rfl rfl)
theorem dJ32_newCapacity_5 : decode cJ32_newCapacity 5 = .ok (.istore_n 2, 1) := dk_61 (dk_at dksJ32_newCapacity_0 5 rfl rfl)
theorem dJ32_newCapacity_6 : decode cJ32_newCapacity 6 = .ok (.iload_n 1, 1) := dk_27 (dk_at dksJ32_newCapacity_0 6 rfl rfl)
theorem dJ32_newCapacity_7 : decode cJ32_newCapacity 7 = .ok (.aload_n 0, 1) := dk_42 (dk_at dksJ32_newCapacity_0 7 rfl rfl)
theorem dJ32_newCapacity_8 : decode cJ32_newCapacity 8 = .ok (.getfield 22, 3) := dk_180 0 22 (dk_at dksJ32_newCapacity_0 8 rfl rfl)
theorem dJ32_newCapacity_11 : decode cJ32_newCapacity 11 = .ok (.ishl, 1) := dk_120 (dk_at dksJ32_newCapacity_0 11 rfl rfl)
theorem dJ32_newCapacity_12 : decode cJ32_newCapacity 12 = .ok (.istore_n 3, 1) := dk_62 (dk_at dksJ32_newCapacity_0 12 rfl rfl)
theorem dJ32_newCapacity_13 : decode cJ32_newCapacity 13 = .ok (.iload_n 3, 1) := dk_29 (dk_at dksJ32_newCapacity_0 13 rfl rfl)
theorem dJ32_newCapacity_14 : decode cJ32_newCapacity 14 = .ok (.iload_n 2, 1) := dk_28 (dk_at dksJ32_newCapacity_0 14 rfl rfl)
theorem dJ32_newCapacity_15 : decode cJ32_newCapacity 15 = .ok (.isub, 1) := dk_100 (dk_at dksJ32_newCapacity_0 15 rfl rfl)
theorem dJ32_newCapacity_16 : decode cJ32_newCapacity 16 = .ok (.istore 4, 2) := dk_54 4 (dk_at dksJ32_newCapacity_0 16 rfl rfl)
theorem dJ32_newCapacity_18 : decode cJ32_newCapacity 18 = .ok (.iload_n 2, 1) := dk_28 (dk_at dksJ32_newCapacity_0 18 rfl rfl)
theorem dJ32_newCapacity_19 : decode cJ32_newCapacity 19 = .ok (.iload 4, 2) := dk_21 4 (dk_at dksJ32_newCapacity_0 19 rfl rfl)
theorem dJ32_newCapacity_21 : decode cJ32_newCapacity 21 = .ok (.iload_n 2, 1) := dk_28 (dk_at dksJ32_newCapacity_0 21 rfl rfl)
theorem dJ32_newCapacity_22 : decode cJ32_newCapacity 22 = .ok (.iconst 2, 1) := dk_5 (dk_at dksJ32_newCapacity_0 22 rfl rfl)
theorem dJ32_newCapacity_23 : decode cJ32_newCapacity 23 = .ok (.aload_n 0, 1) := dk_42 (dk_at dksJ32_newCapacity_0 23 rfl rfl)
theorem dJ32_newCapacity_24 : decode cJ32_newCapacity 24 = .ok (.getfield 22, 3) := dk_180 0 22 (dk_at dksJ32_newCapacity_1 0 rfl rfl)
theorem dJ32_newCapacity_27 : decode cJ32_newCapacity 27 = .ok (.ishl, 1) := dk_120 (dk_at dksJ32_newCapacity_1 3 rfl rfl)
theorem dJ32_newCapacity_28 : decode cJ32_newCapacity 28 = .ok (.iadd, 1) := dk_96 (dk_at dksJ32_newCapacity_1 4 rfl rfl)
theorem dJ32_newCapacity_29 : decode cJ32_newCapacity 29 = .ok (.invokestatic 114, 3) := dk_184 0 114 (dk_at dksJ32_newCapacity_1 5 rfl rfl)
theorem dJ32_newCapacity_32 : decode cJ32_newCapacity 32 = .ok (.istore 5, 2) := dk_54 5 (dk_at dksJ32_newCapacity_1 8 rfl rfl)
theorem dJ32_newCapacity_34 : decode cJ32_newCapacity 34 = .ok (.iload 5, 2) := dk_21 5 (dk_at dksJ32_newCapacity_1 10 rfl rfl)
theorem dJ32_newCapacity_36 : decode cJ32_newCapacity 36 = .ok (.ldc 39, 2) := dk_18 39 (dk_at dksJ32_newCapacity_1 12 rfl rfl)
theorem dJ32_newCapacity_38 : decode cJ32_newCapacity 38 = .ok (.if_icmp .ne 13, 3) := dk_160 0 13 (dk_at dksJ32_newCapacity_1 14 rfl rfl)
theorem dJ32_newCapacity_41 : decode cJ32_newCapacity 41 = .ok (.new 120, 3) := dk_187 0 120 (dk_at dksJ32_newCapacity_1 17 rfl rfl)
theorem dJ32_newCapacity_44 : decode cJ32_newCapacity 44 = .ok (.dup, 1) := dk_89 (dk_at dksJ32_newCapacity_1 20 rfl rfl)
theorem dJ32_newCapacity_45 : decode cJ32_newCapacity 45 = .ok (.ldc 122, 2) := dk_18 122 (dk_at dksJ32_newCapacity_1 21 rfl rfl)
theorem dJ32_newCapacity_47 : decode cJ32_newCapacity 47 = .ok (.invokespecial 124, 3) := dk_183 0 124 (dk_at dksJ32_newCapacity_2 0 rfl rfl)
theorem dJ32_newCapacity_50 : decode cJ32_newCapacity 50 = .ok (.athrow, 1) := dk_191 (dk_at dksJ32_newCapacity_2 3 rfl rfl)
theorem dJ32_newCapacity_51 : decode cJ32_newCapacity 51 = .ok (.iload 5, 2) := dk_21 5 (dk_at dksJ32_newCapacity_2 4 rfl rfl)
theorem dJ32_newCapacity_53 : decode cJ32_newCapacity 53 = .ok (.aload_n 0, 1) := dk_42 (dk_at dksJ32_newCapacity_2 6 rfl rfl)
theorem dJ32_newCapacity_54 : decode cJ32_newCapacity 54 = .ok (.getfield 22, 3) := dk_180 0 22 (dk_at dksJ32_newCapacity_2 7 rfl rfl)
theorem dJ32_newCapacity_57 : decode cJ32_newCapacity 57 = .ok (.ishr, 1) := dk_122 (dk_at dksJ32_newCapacity_2 10 rfl rfl)
theorem dJ32_newCapacity_58 : decode cJ32_newCapacity 58 = .ok (.ireturn, 1) := dk_172 (dk_at dksJ32_newCapacity_2 11 rfl rfl)
abbrev cJ32_inflate : ByteArray := prog_19_method_11_code
def yJ32_inflate : MethodName := ⟨RJ32, "inflate", "()V"⟩
def dkwJ32_inflate_1 : List UInt8 := [42, 180, 0, 79, 184, 0, 125, 42, 43, 181, 0, 15, 42, 4, 181, 0, 22, 177]
abbrev dktJ32_inflate_1 : List UInt8 := dkwJ32_inflate_1 ++ []
def dkwJ32_inflate_0 : List UInt8 := [42, 182, 0, 83, 154, 0, 4, 177, 42, 180, 0, 15, 190, 184, 0, 26, 76, 42, 180, 0, 15, 3, 43, 3]
abbrev dktJ32_inflate_0 : List UInt8 := dkwJ32_inflate_0 ++ dktJ32_inflate_1
theorem dksJ32_inflate_0 : cJ32_inflate.data.toList.drop 0 = dktJ32_inflate_0 := by decide +kernel
theorem dksJ32_inflate_1 : cJ32_inflate.data.toList.drop 24 = dktJ32_inflate_1 := dk_seg dksJ32_inflate_0 24 rfl rfl
theorem dJ32_inflate_0 : decode cJ32_inflate 0 = .ok (.aload_n 0, 1) := dk_42 (dk_at dksJ32_inflate_0 0 rfl rfl)
theorem dJ32_inflate_1 : decode cJ32_inflate 1 = .ok (.invokevirtual 83, 3) := dk_182 0 83 (dk_at dksJ32_inflate_0 1 rfl rfl)
theorem dJ32_inflate_4 : decode cJ32_inflate 4 = .ok (.ifCond .ne 4, 3) := dk_154 0 4 (dk_at dksJ32_inflate_0 4 rfl rfl)
theorem dJ32_inflate_7 : decode cJ32_inflate 7 = .ok (.return_, 1) := dk_177 (dk_at dksJ32_inflate_0 7 rfl rfl)
theorem dJ32_inflate_8 : decode cJ32_inflate 8 = .ok (.aload_n 0, 1) := dk_42 (dk_at dksJ32_inflate_0 8 rfl rfl)
theorem dJ32_inflate_9 : decode cJ32_inflate 9 = .ok (.getfield 15, 3) := dk_180 0 15 (dk_at dksJ32_inflate_0 9 rfl rfl)
theorem dJ32_inflate_12 : decode cJ32_inflate 12 = .ok (.arraylength, 1) := dk_190 (dk_at dksJ32_inflate_0 12 rfl rfl)
theorem dJ32_inflate_13 : decode cJ32_inflate 13 = .ok (.invokestatic 26, 3) := dk_184 0 26 (dk_at dksJ32_inflate_0 13 rfl rfl)
theorem dJ32_inflate_16 : decode cJ32_inflate 16 = .ok (.astore_n 1, 1) := dk_76 (dk_at dksJ32_inflate_0 16 rfl rfl)
theorem dJ32_inflate_17 : decode cJ32_inflate 17 = .ok (.aload_n 0, 1) := dk_42 (dk_at dksJ32_inflate_0 17 rfl rfl)
theorem dJ32_inflate_18 : decode cJ32_inflate 18 = .ok (.getfield 15, 3) := dk_180 0 15 (dk_at dksJ32_inflate_0 18 rfl rfl)
theorem dJ32_inflate_21 : decode cJ32_inflate 21 = .ok (.iconst 0, 1) := dk_3 (dk_at dksJ32_inflate_0 21 rfl rfl)
theorem dJ32_inflate_22 : decode cJ32_inflate 22 = .ok (.aload_n 1, 1) := dk_43 (dk_at dksJ32_inflate_0 22 rfl rfl)
theorem dJ32_inflate_23 : decode cJ32_inflate 23 = .ok (.iconst 0, 1) := dk_3 (dk_at dksJ32_inflate_0 23 rfl rfl)
theorem dJ32_inflate_24 : decode cJ32_inflate 24 = .ok (.aload_n 0, 1) := dk_42 (dk_at dksJ32_inflate_1 0 rfl rfl)
theorem dJ32_inflate_25 : decode cJ32_inflate 25 = .ok (.getfield 79, 3) := dk_180 0 79 (dk_at dksJ32_inflate_1 1 rfl rfl)
theorem dJ32_inflate_28 : decode cJ32_inflate 28 = .ok (.invokestatic 125, 3) := dk_184 0 125 (dk_at dksJ32_inflate_1 4 rfl rfl)
theorem dJ32_inflate_31 : decode cJ32_inflate 31 = .ok (.aload_n 0, 1) := dk_42 (dk_at dksJ32_inflate_1 7 rfl rfl)
theorem dJ32_inflate_32 : decode cJ32_inflate 32 = .ok (.aload_n 1, 1) := dk_43 (dk_at dksJ32_inflate_1 8 rfl rfl)
theorem dJ32_inflate_33 : decode cJ32_inflate 33 = .ok (.putfield 15, 3) := dk_181 0 15 (dk_at dksJ32_inflate_1 9 rfl rfl)
theorem dJ32_inflate_36 : decode cJ32_inflate 36 = .ok (.aload_n 0, 1) := dk_42 (dk_at dksJ32_inflate_1 12 rfl rfl)
theorem dJ32_inflate_37 : decode cJ32_inflate 37 = .ok (.iconst 1, 1) := dk_4 (dk_at dksJ32_inflate_1 13 rfl rfl)
theorem dJ32_inflate_38 : decode cJ32_inflate 38 = .ok (.putfield 22, 3) := dk_181 0 22 (dk_at dksJ32_inflate_1 14 rfl rfl)
theorem dJ32_inflate_41 : decode cJ32_inflate 41 = .ok (.return_, 1) := dk_177 (dk_at dksJ32_inflate_1 17 rfl rfl)
abbrev cJ32_getValue : ByteArray := prog_19_method_64_code
def yJ32_getValue : MethodName := ⟨RJ32, "getValue", "()[B"⟩
theorem dJ32_getValue_0 : decode cJ32_getValue 0 = .ok (.aload_n 0, 1) := by decide +kernel
theorem dJ32_getValue_1 : decode cJ32_getValue 1 = .ok (.getfield 15, 3) := by decide +kernel
theorem dJ32_getValue_4 : decode cJ32_getValue 4 = .ok (.areturn, 1) := by decide +kernel
abbrev cJ32_length : ByteArray := prog_19_method_6_code
def yJ32_length : MethodName := ⟨RJ32, "length", "()I"⟩
theorem dJ32_length_0 : decode cJ32_length 0 = .ok (.aload_n 0, 1) := by decide +kernel
theorem dJ32_length_1 : decode cJ32_length 1 = .ok (.getfield 79, 3) := by decide +kernel
theorem dJ32_length_4 : decode cJ32_length 4 = .ok (.ireturn, 1) := by decide +kernel
theorem q135 : (Jvm.Cond.initialized "java/lang/AbstractStringBuilder") ∈ lw_all := lw_g (lw_at lw_m1 46 rfl) rfl
theorem q894 : (Jvm.Cond.instanceMethod ({ cls := "java/lang/AbstractStringBuilder", name := "compareTo", desc := "(Ljava/lang/AbstractStringBuilder;)I" } : Jvm.MethodName)) ∈ lw_all := lw_g (lw_at lw_m4 85 rfl) rfl
theorem q895 : (Jvm.Cond.code ({ cls := "java/lang/AbstractStringBuilder", name := "compareTo", desc := "(Ljava/lang/AbstractStringBuilder;)I" } : Jvm.MethodName) prog_19_method_5_code (6 : Nat) (Option.some Jvm.ClassFile.FieldType.int)) ∈ lw_all := lw_g (lw_at lw_m4 86 rfl) rfl
theorem q896 : (Jvm.Cond.methodLink "java/lang/AbstractStringBuilder" (83 : Nat) ({ cls := "java/lang/AbstractStringBuilder", name := "isLatin1", desc := "()Z" } : Jvm.MethodName)) ∈ lw_all := lw_g (lw_at lw_m4 87 rfl) rfl
theorem q897 : (Jvm.Cond.instanceMethod ({ cls := "java/lang/AbstractStringBuilder", name := "isLatin1", desc := "()Z" } : Jvm.MethodName)) ∈ lw_all := lw_g (lw_at lw_m4 88 rfl) rfl
theorem q898 : (Jvm.Cond.sameMethod "java/lang/AbstractStringBuilder" "java/lang/AbstractStringBuilder" "isLatin1" "()Z") ∈ lw_all := lw_g (lw_at lw_m4 89 rfl) rfl
theorem q900 : (Jvm.Cond.code ({ cls := "java/lang/AbstractStringBuilder", name := "isLatin1", desc := "()Z" } : Jvm.MethodName) prog_19_method_68_code (1 : Nat) (Option.some Jvm.ClassFile.FieldType.boolean)) ∈ lw_all := lw_g (lw_at lw_m4 91 rfl) rfl
theorem q901 : (Jvm.Cond.fieldLink "java/lang/AbstractStringBuilder" (18 : Nat) "java/lang/String" "COMPACT_STRINGS" "Z") ∈ lw_all := lw_g (lw_at lw_m4 92 rfl) rfl
theorem q902 : (Jvm.Cond.methodLink "java/lang/AbstractStringBuilder" (87 : Nat) ({ cls := "java/lang/StringLatin1", name := "compareTo", desc := "([B[BII)I" } : Jvm.MethodName)) ∈ lw_all := lw_g (lw_at lw_m4 93 rfl) rfl
theorem q903 : (Jvm.Cond.methodLink "java/lang/AbstractStringBuilder" (93 : Nat) ({ cls := "java/lang/StringUTF16", name := "compareTo", desc := "([B[BII)I" } : Jvm.MethodName)) ∈ lw_all := lw_g (lw_at lw_m4 94 rfl) rfl
theorem q917 : (Jvm.Cond.methodLink "java/lang/AbstractStringBuilder" (94 : Nat) ({ cls := "java/lang/StringLatin1", name := "compareToUTF16", desc := "([B[BII)I" } : Jvm.MethodName)) ∈ lw_all := lw_g (lw_at lw_m4 108 rfl) rfl
theorem q921 : (Jvm.Cond.methodLink "java/lang/AbstractStringBuilder" (97 : Nat) ({ cls := "java/lang/StringUTF16", name := "compareToLatin1", desc := "([B[BII)I" } : Jvm.MethodName)) ∈ lw_all := lw_g (lw_at lw_m4 112 rfl) rfl
theorem q1697 : (Jvm.Cond.instanceMethod ({ cls := "java/lang/AbstractStringBuilder", name := "<init>", desc := "(I)V" } : Jvm.MethodName)) ∈ lw_all := lw_g (lw_at lw_m7 168 rfl) rfl
theorem q1698 : (Jvm.Cond.code ({ cls := "java/lang/AbstractStringBuilder", name := "<init>", desc := "(I)V" } : Jvm.MethodName) prog_19_method_2_code (2 : Nat) (Option.none : Option Jvm.ClassFile.FieldType)) ∈ lw_all := lw_g (lw_at lw_m7 169 rfl) rfl
theorem q1699 : (Jvm.Cond.methodLink "java/lang/AbstractStringBuilder" (3 : Nat) ({ cls := "java/lang/Object", name := "<init>", desc := "()V" } : Jvm.MethodName)) ∈ lw_all := lw_g (lw_at lw_m7 170 rfl) rfl
theorem q1700 : (Jvm.Cond.methodLink "java/lang/AbstractStringBuilder" (26 : Nat) ({ cls := "java/lang/StringUTF16", name := "newBytesFor", desc := "(I)[B" } : Jvm.MethodName)) ∈ lw_all := lw_g (lw_at lw_m7 171 rfl) rfl
theorem q1707 : (Jvm.Cond.fieldLink "java/lang/AbstractStringBuilder" (15 : Nat) "java/lang/AbstractStringBuilder" "value" "[B") ∈ lw_all := lw_g (lw_at lw_m7 178 rfl) rfl
theorem q1708 : (Jvm.Cond.fieldLink "java/lang/AbstractStringBuilder" (22 : Nat) "java/lang/AbstractStringBuilder" "coder" "B") ∈ lw_all := lw_g (lw_at lw_m7 179 rfl) rfl
theorem q1710 : (Jvm.Cond.fieldLink "java/lang/AbstractStringBuilder" (79 : Nat) "java/lang/AbstractStringBuilder" "count" "I") ∈ lw_all := lw_g (lw_at lw_m7 181 rfl) rfl
theorem q1712 : (Jvm.Cond.soleField "java/lang/AbstractStringBuilder" "value") ∈ lw_all := lw_g (lw_at lw_m7 183 rfl) rfl
theorem q1714 : (Jvm.Cond.soleField "java/lang/AbstractStringBuilder" "coder") ∈ lw_all := lw_g (lw_at lw_m7 185 rfl) rfl
theorem q1716 : (Jvm.Cond.soleField "java/lang/AbstractStringBuilder" "maybeLatin1") ∈ lw_all := lw_g (lw_at lw_m7 187 rfl) rfl
theorem q1718 : (Jvm.Cond.soleField "java/lang/AbstractStringBuilder" "count") ∈ lw_all := lw_g (lw_at lw_m7 189 rfl) rfl
theorem q1725 : (Jvm.Cond.instanceMethod ({ cls := "java/lang/AbstractStringBuilder", name := "append", desc := "(C)Ljava/lang/AbstractStringBuilder;" } : Jvm.MethodName)) ∈ lw_all := lw_g (lw_at lw_m7 196 rfl) rfl
theorem q1726 : (Jvm.Cond.code ({ cls := "java/lang/AbstractStringBuilder", name := "append", desc := "(C)Ljava/lang/AbstractStringBuilder;" } : Jvm.MethodName) prog_19_method_31_code (2 : Nat) (Option.some (Jvm.ClassFile.FieldType.object "java/lang/AbstractStringBuilder"))) ∈ lw_all := lw_g (lw_at lw_m7 197 rfl) rfl
theorem q1727 : (Jvm.Cond.methodLink "java/lang/AbstractStringBuilder" (100 : Nat) ({ cls := "java/lang/AbstractStringBuilder", name := "ensureCapacityInternal", desc := "(I)V" } : Jvm.MethodName)) ∈ lw_all := lw_g (lw_at lw_m7 198 rfl) rfl
theorem q1728 : (Jvm.Cond.privateMethod ({ cls := "java/lang/AbstractStringBuilder", name := "ensureCapacityInternal", desc := "(I)V" } : Jvm.MethodName)) ∈ lw_tbl := lw_at lw_m7 199 rfl
theorem q1729 : (Jvm.Cond.instanceMethod ({ cls := "java/lang/AbstractStringBuilder", name := "ensureCapacityInternal", desc := "(I)V" } : Jvm.MethodName)) ∈ lw_all := lw_g (lw_at lw_m7 200 rfl) rfl
theorem q1730 : (Jvm.Cond.code ({ cls := "java/lang/AbstractStringBuilder", name := "ensureCapacityInternal", desc := "(I)V" } : Jvm.MethodName) prog_19_method_9_code (3 : Nat) (Option.none : Option Jvm.ClassFile.FieldType)) ∈ lw_all := lw_g (lw_at lw_m7 201 rfl) rfl
theorem q1731 : (Jvm.Cond.methodLink "java/lang/AbstractStringBuilder" (104 : Nat) ({ cls := "java/lang/AbstractStringBuilder", name := "newCapacity", desc := "(I)I" } : Jvm.MethodName)) ∈ lw_all := lw_g (lw_at lw_m7 202 rfl) rfl
theorem q1732 : (Jvm.Cond.privateMethod ({ cls := "java/lang/AbstractStringBuilder", name := "newCapacity", desc := "(I)I" } : Jvm.MethodName)) ∈ lw_tbl := lw_at lw_m7 203 rfl
theorem q1733 : (Jvm.Cond.instanceMethod ({ cls := "java/lang/AbstractStringBuilder", name := "newCapacity", desc := "(I)I" } : Jvm.MethodName)) ∈ lw_all := lw_g (lw_at lw_m7 204 rfl) rfl
theorem q1734 : (Jvm.Cond.code ({ cls := "java/lang/AbstractStringBuilder", name := "newCapacity", desc := "(I)I" } : Jvm.MethodName) prog_19_method_10_code (6 : Nat) (Option.some Jvm.ClassFile.FieldType.int)) ∈ lw_all := lw_g (lw_at lw_m7 205 rfl) rfl
theorem q1735 : (Jvm.Cond.methodLink "java/lang/AbstractStringBuilder" (114 : Nat) ({ cls := "jdk/internal/util/ArraysSupport", name := "newLength", desc := "(III)I" } : Jvm.MethodName)) ∈ lw_all := lw_g (lw_at lw_m7 206 rfl) rfl
theorem q1736 : (Jvm.Cond.constant "java/lang/AbstractStringBuilder" (39 : Nat) (2147483647 : Int32)) ∈ lw_all := lw_g (lw_at lw_m7 207 rfl) rfl
theorem q1737 : (Jvm.Cond.methodLink "java/lang/AbstractStringBuilder" (108 : Nat) ({ cls := "java/util/Arrays", name := "copyOf", desc := "([BI)[B" } : Jvm.MethodName)) ∈ lw_all := lw_g (lw_at lw_m7 208 rfl) rfl
theorem q1745 : (Jvm.Cond.methodLink "java/lang/AbstractStringBuilder" (191 : Nat) ({ cls := "java/lang/StringLatin1", name := "canEncode", desc := "(C)Z" } : Jvm.MethodName)) ∈ lw_all := lw_g (lw_at lw_m7 216 rfl) rfl
theorem q1748 : (Jvm.Cond.methodLink "java/lang/AbstractStringBuilder" (195 : Nat) ({ cls := "java/lang/AbstractStringBuilder", name := "inflate", desc := "()V" } : Jvm.MethodName)) ∈ lw_all := lw_g (lw_at lw_m7 219 rfl) rfl
theorem q1749 : (Jvm.Cond.privateMethod ({ cls := "java/lang/AbstractStringBuilder", name := "inflate", desc := "()V" } : Jvm.MethodName)) ∈ lw_tbl := lw_at lw_m7 220 rfl
theorem q1750 : (Jvm.Cond.instanceMethod ({ cls := "java/lang/AbstractStringBuilder", name := "inflate", desc := "()V" } : Jvm.MethodName)) ∈ lw_all := lw_g (lw_at lw_m7 221 rfl) rfl
theorem q1751 : (Jvm.Cond.code ({ cls := "java/lang/AbstractStringBuilder", name := "inflate", desc := "()V" } : Jvm.MethodName) prog_19_method_11_code (2 : Nat) (Option.none : Option Jvm.ClassFile.FieldType)) ∈ lw_all := lw_g (lw_at lw_m7 222 rfl) rfl
theorem q1752 : (Jvm.Cond.methodLink "java/lang/AbstractStringBuilder" (125 : Nat) ({ cls := "java/lang/StringLatin1", name := "inflate", desc := "([BI[BII)V" } : Jvm.MethodName)) ∈ lw_all := lw_g (lw_at lw_m7 223 rfl) rfl
theorem q1770 : (Jvm.Cond.methodLink "java/lang/AbstractStringBuilder" (197 : Nat) ({ cls := "java/lang/StringUTF16", name := "putCharSB", desc := "([BII)V" } : Jvm.MethodName)) ∈ lw_all := lw_g (lw_at lw_m8 1 rfl) rfl
theorem q1794 : (Jvm.Cond.instanceMethod ({ cls := "java/lang/AbstractStringBuilder", name := "getValue", desc := "()[B" } : Jvm.MethodName)) ∈ lw_all := lw_g (lw_at lw_m8 25 rfl) rfl
theorem q1795 : (Jvm.Cond.sameMethod "java/lang/AbstractStringBuilder" "java/lang/AbstractStringBuilder" "getValue" "()[B") ∈ lw_all := lw_g (lw_at lw_m8 26 rfl) rfl
theorem q1797 : (Jvm.Cond.code ({ cls := "java/lang/AbstractStringBuilder", name := "getValue", desc := "()[B" } : Jvm.MethodName) prog_19_method_64_code (1 : Nat) (Option.some (Jvm.ClassFile.FieldType.array Jvm.ClassFile.FieldType.byte))) ∈ lw_all := lw_g (lw_at lw_m8 28 rfl) rfl
theorem q1799 : (Jvm.Cond.instanceMethod ({ cls := "java/lang/AbstractStringBuilder", name := "length", desc := "()I" } : Jvm.MethodName)) ∈ lw_all := lw_g (lw_at lw_m8 30 rfl) rfl
theorem q1800 : (Jvm.Cond.sameMethod "java/lang/AbstractStringBuilder" "java/lang/AbstractStringBuilder" "length" "()I") ∈ lw_all := lw_g (lw_at lw_m8 31 rfl) rfl
theorem q1805 : (Jvm.Cond.code ({ cls := "java/lang/AbstractStringBuilder", name := "length", desc := "()I" } : Jvm.MethodName) prog_19_method_6_code (1 : Nat) (Option.some Jvm.ClassFile.FieldType.int)) ∈ lw_all := lw_g (lw_at lw_m8 36 rfl) rfl
theorem q2439 : (Jvm.Cond.sameMethod "java/lang/AbstractStringBuilder" "java/lang/AbstractStringBuilder" "compareTo" "(Ljava/lang/AbstractStringBuilder;)I") ∈ lw_all := lw_g (lw_at lw_m10 190 rfl) rfl
theorem q2443 : (Jvm.Cond.sameMethod "java/lang/AbstractStringBuilder" "java/lang/AbstractStringBuilder" "append" "(C)Ljava/lang/AbstractStringBuilder;") ∈ lw_all := lw_g (lw_at lw_m10 194 rfl) rfl
theorem q2444 : (Jvm.Cond.sameMethod "java/lang/AbstractStringBuilder" "java/lang/AbstractStringBuilder" "ensureCapacityInternal" "(I)V") ∈ lw_all := lw_g (lw_at lw_m10 195 rfl) rfl
theorem q2445 : (Jvm.Cond.sameMethod "java/lang/AbstractStringBuilder" "java/lang/AbstractStringBuilder" "newCapacity" "(I)I") ∈ lw_all := lw_g (lw_at lw_m10 196 rfl) rfl
theorem q2446 : (Jvm.Cond.sameMethod "java/lang/AbstractStringBuilder" "java/lang/AbstractStringBuilder" "inflate" "()V") ∈ lw_all := lw_g (lw_at lw_m10 197 rfl) rfl

/-! java/lang/StringBuilder -/
set_option maxRecDepth 100000
def RJ33 : String := "java/lang/StringBuilder"
def TJ33 : u_T := fun k => match k with
  | 0 => ("java/lang/AbstractStringBuilder", "value", "[B", false)
  | 1 => ("java/lang/AbstractStringBuilder", "coder", "B", false)
  | 2 => ("java/lang/AbstractStringBuilder", "maybeLatin1", "Z", false)
  | _ => ("java/lang/AbstractStringBuilder", "count", "I", false)
def tyJ33 : Nat → FieldType := fun k => match k with
  | 0 => .array .byte
  | 1 => .byte
  | 2 => .boolean
  | _ => .int
abbrev wsJ330 : List Cond := u_ws RJ33 TJ33 4
theorem nmJ33 : ∀ a, a < 4 → ∀ b, b < 4 → a ≠ b → (TJ33 a).2.1 ≠ (TJ33 b).2.1 := by decide +kernel
theorem tyJ33_ok : ∀ k, k < 4 → parseFieldDescriptor (TJ33 k).2.2.1 = some (tyJ33 k) := by decide +kernel
abbrev cJ33_compareTo : ByteArray := prog_33_method_97_code
def yJ33_compareTo : MethodName := ⟨RJ33, "compareTo", "(Ljava/lang/Object;)I"⟩
def dkwJ33_compareTo_0 : List UInt8 := [42, 43, 192, 0, 24, 182, 1, 90, 172]
abbrev dktJ33_compareTo_0 : List UInt8 := dkwJ33_compareTo_0 ++ []
theorem dksJ33_compareTo_0 : cJ33_compareTo.data.toList.drop 0 = dktJ33_compareTo_0 := by decide +kernel
theorem dJ33_compareTo_0 : decode cJ33_compareTo 0 = .ok (.aload_n 0, 1) := dk_42 (dk_at dksJ33_compareTo_0 0 rfl rfl)
theorem dJ33_compareTo_1 : decode cJ33_compareTo 1 = .ok (.aload_n 1, 1) := dk_43 (dk_at dksJ33_compareTo_0 1 rfl rfl)
theorem dJ33_compareTo_2 : decode cJ33_compareTo 2 = .ok (.checkcast 24, 3) := dk_192 0 24 (dk_at dksJ33_compareTo_0 2 rfl rfl)
theorem dJ33_compareTo_5 : decode cJ33_compareTo 5 = .ok (.invokevirtual 346, 3) := dk_182 1 90 (dk_at dksJ33_compareTo_0 5 rfl rfl)
theorem dJ33_compareTo_8 : decode cJ33_compareTo 8 = .ok (.ireturn, 1) := dk_172 (dk_at dksJ33_compareTo_0 8 rfl rfl)
abbrev cJ33_compareTo_2 : ByteArray := prog_33_method_5_code
def yJ33_compareTo_2 : MethodName := ⟨RJ33, "compareTo", "(Ljava/lang/StringBuilder;)I"⟩
def dkwJ33_compareTo_2_0 : List UInt8 := [42, 43, 183, 0, 13, 172]
abbrev dktJ33_compareTo_2_0 : List UInt8 := dkwJ33_compareTo_2_0 ++ []
theorem dksJ33_compareTo_2_0 : cJ33_compareTo_2.data.toList.drop 0 = dktJ33_compareTo_2_0 := by decide +kernel
theorem dJ33_compareTo_2_0 : decode cJ33_compareTo_2 0 = .ok (.aload_n 0, 1) := dk_42 (dk_at dksJ33_compareTo_2_0 0 rfl rfl)
theorem dJ33_compareTo_2_1 : decode cJ33_compareTo_2 1 = .ok (.aload_n 1, 1) := dk_43 (dk_at dksJ33_compareTo_2_0 1 rfl rfl)
theorem dJ33_compareTo_2_2 : decode cJ33_compareTo_2 2 = .ok (.invokespecial 13, 3) := dk_183 0 13 (dk_at dksJ33_compareTo_2_0 2 rfl rfl)
theorem dJ33_compareTo_2_5 : decode cJ33_compareTo_2 5 = .ok (.ireturn, 1) := dk_172 (dk_at dksJ33_compareTo_2_0 5 rfl rfl)
abbrev cJ33_init : ByteArray := prog_33_method_2_code
def yJ33_init : MethodName := ⟨RJ33, "<init>", "(I)V"⟩
def dkwJ33_init_0 : List UInt8 := [42, 27, 183, 0, 1, 177]
abbrev dktJ33_init_0 : List UInt8 := dkwJ33_init_0 ++ []
theorem dksJ33_init_0 : cJ33_init.data.toList.drop 0 = dktJ33_init_0 := by decide +kernel
theorem dJ33_init_0 : decode cJ33_init 0 = .ok (.aload_n 0, 1) := dk_42 (dk_at dksJ33_init_0 0 rfl rfl)
theorem dJ33_init_1 : decode cJ33_init 1 = .ok (.iload_n 1, 1) := dk_27 (dk_at dksJ33_init_0 1 rfl rfl)
theorem dJ33_init_2 : decode cJ33_init 2 = .ok (.invokespecial 1, 3) := dk_183 0 1 (dk_at dksJ33_init_0 2 rfl rfl)
theorem dJ33_init_5 : decode cJ33_init 5 = .ok (.return_, 1) := dk_177 (dk_at dksJ33_init_0 5 rfl rfl)
abbrev cJ33_append : ByteArray := prog_33_method_14_code
def yJ33_append : MethodName := ⟨RJ33, "append", "(C)Ljava/lang/StringBuilder;"⟩
def dkwJ33_append_0 : List UInt8 := [42, 27, 183, 0, 50, 87, 42, 176]
abbrev dktJ33_append_0 : List UInt8 := dkwJ33_append_0 ++ []
theorem dksJ33_append_0 : cJ33_append.data.toList.drop 0 = dktJ33_append_0 := by decide +kernel
theorem dJ33_append_0 : decode cJ33_append 0 = .ok (.aload_n 0, 1) := dk_42 (dk_at dksJ33_append_0 0 rfl rfl)
theorem dJ33_append_1 : decode cJ33_append 1 = .ok (.iload_n 1, 1) := dk_27 (dk_at dksJ33_append_0 1 rfl rfl)
theorem dJ33_append_2 : decode cJ33_append 2 = .ok (.invokespecial 50, 3) := dk_183 0 50 (dk_at dksJ33_append_0 2 rfl rfl)
theorem dJ33_append_5 : decode cJ33_append 5 = .ok (.pop, 1) := dk_87 (dk_at dksJ33_append_0 5 rfl rfl)
theorem dJ33_append_6 : decode cJ33_append 6 = .ok (.aload_n 0, 1) := dk_42 (dk_at dksJ33_append_0 6 rfl rfl)
theorem dJ33_append_7 : decode cJ33_append 7 = .ok (.areturn, 1) := dk_176 (dk_at dksJ33_append_0 7 rfl rfl)
abbrev cJ33_toString : ByteArray := prog_33_method_42_code
def yJ33_toString : MethodName := ⟨RJ33, "toString", "()Ljava/lang/String;"⟩
def dkwJ33_toString_0 : List UInt8 := [187, 0, 18, 89, 42, 183, 0, 137, 176]
abbrev dktJ33_toString_0 : List UInt8 := dkwJ33_toString_0 ++ []
theorem dksJ33_toString_0 : cJ33_toString.data.toList.drop 0 = dktJ33_toString_0 := by decide +kernel
theorem dJ33_toString_0 : decode cJ33_toString 0 = .ok (.new 18, 3) := dk_187 0 18 (dk_at dksJ33_toString_0 0 rfl rfl)
theorem dJ33_toString_3 : decode cJ33_toString 3 = .ok (.dup, 1) := dk_89 (dk_at dksJ33_toString_0 3 rfl rfl)
theorem dJ33_toString_4 : decode cJ33_toString 4 = .ok (.aload_n 0, 1) := dk_42 (dk_at dksJ33_toString_0 4 rfl rfl)
theorem dJ33_toString_5 : decode cJ33_toString 5 = .ok (.invokespecial 137, 3) := dk_183 0 137 (dk_at dksJ33_toString_0 5 rfl rfl)
theorem dJ33_toString_8 : decode cJ33_toString 8 = .ok (.areturn, 1) := dk_176 (dk_at dksJ33_toString_0 8 rfl rfl)
abbrev cJ33_length : ByteArray := prog_33_method_93_code
def yJ33_length : MethodName := ⟨RJ33, "length", "()I"⟩
theorem dJ33_length_0 : decode cJ33_length 0 = .ok (.aload_n 0, 1) := by decide +kernel
theorem dJ33_length_1 : decode cJ33_length 1 = .ok (.invokespecial 343, 3) := by decide +kernel
theorem dJ33_length_4 : decode cJ33_length 4 = .ok (.ireturn, 1) := by decide +kernel
theorem q136 : (Jvm.Cond.initialized "java/lang/StringBuilder") ∈ lw_all := lw_g (lw_at lw_m1 47 rfl) rfl
theorem q375 : (Jvm.Cond.selects "java/lang/StringBuilder" ({ cls := "java/lang/Object", name := "getClass", desc := "()Ljava/lang/Class;" } : Jvm.MethodName) ({ cls := "java/lang/Object", name := "getClass", desc := "()Ljava/lang/Class;" } : Jvm.MethodName)) ∈ lw_all := lw_g (lw_at lw_m2 46 rfl) rfl
theorem q608 : (Jvm.Cond.selects "java/lang/StringBuilder" ({ cls := "java/lang/Object", name := "hashCode", desc := "()I" } : Jvm.MethodName) ({ cls := "java/lang/Object", name := "hashCode", desc := "()I" } : Jvm.MethodName)) ∈ lw_all := lw_g (lw_at lw_m3 39 rfl) rfl
theorem q881 : (Jvm.Cond.castable "java/lang/StringBuilder" "java/lang/Comparable") ∈ lw_tbl := lw_at lw_m4 72 rfl
theorem q882 : (Jvm.Cond.selects "java/lang/StringBuilder" ({ cls := "java/lang/Comparable", name := "compareTo", desc := "(Ljava/lang/Object;)I" } : Jvm.MethodName) ({ cls := "java/lang/StringBuilder", name := "compareTo", desc := "(Ljava/lang/Object;)I" } : Jvm.MethodName)) ∈ lw_all := lw_g (lw_at lw_m4 73 rfl) rfl
theorem q883 : (Jvm.Cond.unhidden "java/lang/StringBuilder" "compareTo" "(Ljava/lang/Object;)I") ∈ lw_tbl := lw_at lw_m4 74 rfl
theorem q884 : (Jvm.Cond.instanceMethod ({ cls := "java/lang/StringBuilder", name := "compareTo", desc := "(Ljava/lang/Object;)I" } : Jvm.MethodName)) ∈ lw_all := lw_g (lw_at lw_m4 75 rfl) rfl
theorem q885 : (Jvm.Cond.publicMethod ({ cls := "java/lang/StringBuilder", name := "compareTo", desc := "(Ljava/lang/Object;)I" } : Jvm.MethodName)) ∈ lw_tbl := lw_at lw_m4 76 rfl
theorem q886 : (Jvm.Cond.code ({ cls := "java/lang/StringBuilder", name := "compareTo", desc := "(Ljava/lang/Object;)I" } : Jvm.MethodName) prog_33_method_97_code (2 : Nat) (Option.some Jvm.ClassFile.FieldType.int)) ∈ lw_all := lw_g (lw_at lw_m4 77 rfl) rfl
theorem q887 : (Jvm.Cond.classLink "java/lang/StringBuilder" (24 : Nat) "java/lang/StringBuilder") ∈ lw_all := lw_g (lw_at lw_m4 78 rfl) rfl
theorem q888 : (Jvm.Cond.methodLink "java/lang/StringBuilder" (346 : Nat) ({ cls := "java/lang/StringBuilder", name := "compareTo", desc := "(Ljava/lang/StringBuilder;)I" } : Jvm.MethodName)) ∈ lw_all := lw_g (lw_at lw_m4 79 rfl) rfl
theorem q889 : (Jvm.Cond.instanceMethod ({ cls := "java/lang/StringBuilder", name := "compareTo", desc := "(Ljava/lang/StringBuilder;)I" } : Jvm.MethodName)) ∈ lw_all := lw_g (lw_at lw_m4 80 rfl) rfl
theorem q890 : (Jvm.Cond.selects "java/lang/StringBuilder" ({ cls := "java/lang/StringBuilder", name := "compareTo", desc := "(Ljava/lang/StringBuilder;)I" } : Jvm.MethodName) ({ cls := "java/lang/StringBuilder", name := "compareTo", desc := "(Ljava/lang/StringBuilder;)I" } : Jvm.MethodName)) ∈ lw_all := lw_g (lw_at lw_m4 81 rfl) rfl
theorem q891 : (Jvm.Cond.code ({ cls := "java/lang/StringBuilder", name := "compareTo", desc := "(Ljava/lang/StringBuilder;)I" } : Jvm.MethodName) prog_33_method_5_code (2 : Nat) (Option.some Jvm.ClassFile.FieldType.int)) ∈ lw_all := lw_g (lw_at lw_m4 82 rfl) rfl
theorem q892 : (Jvm.Cond.methodLink "java/lang/StringBuilder" (13 : Nat) ({ cls := "java/lang/AbstractStringBuilder", name := "compareTo", desc := "(Ljava/lang/AbstractStringBuilder;)I" } : Jvm.MethodName)) ∈ lw_all := lw_g (lw_at lw_m4 83 rfl) rfl
theorem q893 : (Jvm.Cond.superclass "java/lang/StringBuilder" "java/lang/AbstractStringBuilder") ∈ lw_all := lw_g (lw_at lw_m4 84 rfl) rfl
theorem q899 : (Jvm.Cond.selects "java/lang/StringBuilder" ({ cls := "java/lang/AbstractStringBuilder", name := "isLatin1", desc := "()Z" } : Jvm.MethodName) ({ cls := "java/lang/AbstractStringBuilder", name := "isLatin1", desc := "()Z" } : Jvm.MethodName)) ∈ lw_all := lw_g (lw_at lw_m4 90 rfl) rfl
theorem q984 : (Jvm.Cond.selects "java/lang/StringBuilder" ({ cls := "java/lang/Object", name := "equals", desc := "(Ljava/lang/Object;)Z" } : Jvm.MethodName) ({ cls := "java/lang/Object", name := "equals", desc := "(Ljava/lang/Object;)Z" } : Jvm.MethodName)) ∈ lw_all := lw_g (lw_at lw_m4 175 rfl) rfl
theorem q1692 : (Jvm.Cond.instantiable "java/lang/StringBuilder" (4 : Nat)) ∈ lw_all := lw_g (lw_at lw_m7 163 rfl) rfl
theorem q1694 : (Jvm.Cond.instanceMethod ({ cls := "java/lang/StringBuilder", name := "<init>", desc := "(I)V" } : Jvm.MethodName)) ∈ lw_all := lw_g (lw_at lw_m7 165 rfl) rfl
theorem q1695 : (Jvm.Cond.code ({ cls := "java/lang/StringBuilder", name := "<init>", desc := "(I)V" } : Jvm.MethodName) prog_33_method_2_code (2 : Nat) (Option.none : Option Jvm.ClassFile.FieldType)) ∈ lw_all := lw_g (lw_at lw_m7 166 rfl) rfl
theorem q1696 : (Jvm.Cond.methodLink "java/lang/StringBuilder" (1 : Nat) ({ cls := "java/lang/AbstractStringBuilder", name := "<init>", desc := "(I)V" } : Jvm.MethodName)) ∈ lw_all := lw_g (lw_at lw_m7 167 rfl) rfl
theorem q1711 : (Jvm.Cond.lays "java/lang/StringBuilder" "java/lang/AbstractStringBuilder" "value" "[B") ∈ lw_all := lw_g (lw_at lw_m7 182 rfl) rfl
theorem q1713 : (Jvm.Cond.lays "java/lang/StringBuilder" "java/lang/AbstractStringBuilder" "coder" "B") ∈ lw_all := lw_g (lw_at lw_m7 184 rfl) rfl
theorem q1715 : (Jvm.Cond.lays "java/lang/StringBuilder" "java/lang/AbstractStringBuilder" "maybeLatin1" "Z") ∈ lw_all := lw_g (lw_at lw_m7 186 rfl) rfl
theorem q1717 : (Jvm.Cond.lays "java/lang/StringBuilder" "java/lang/AbstractStringBuilder" "count" "I") ∈ lw_all := lw_g (lw_at lw_m7 188 rfl) rfl
theorem q1721 : (Jvm.Cond.instanceMethod ({ cls := "java/lang/StringBuilder", name := "append", desc := "(C)Ljava/lang/StringBuilder;" } : Jvm.MethodName)) ∈ lw_all := lw_g (lw_at lw_m7 192 rfl) rfl
theorem q1722 : (Jvm.Cond.selects "java/lang/StringBuilder" ({ cls := "java/lang/StringBuilder", name := "append", desc := "(C)Ljava/lang/StringBuilder;" } : Jvm.MethodName) ({ cls := "java/lang/StringBuilder", name := "append", desc := "(C)Ljava/lang/StringBuilder;" } : Jvm.MethodName)) ∈ lw_all := lw_g (lw_at lw_m7 193 rfl) rfl
theorem q1723 : (Jvm.Cond.code ({ cls := "java/lang/StringBuilder", name := "append", desc := "(C)Ljava/lang/StringBuilder;" } : Jvm.MethodName) prog_33_method_14_code (2 : Nat) (Option.some (Jvm.ClassFile.FieldType.object "java/lang/StringBuilder"))) ∈ lw_all := lw_g (lw_at lw_m7 194 rfl) rfl
theorem q1724 : (Jvm.Cond.methodLink "java/lang/StringBuilder" (50 : Nat) ({ cls := "java/lang/AbstractStringBuilder", name := "append", desc := "(C)Ljava/lang/AbstractStringBuilder;" } : Jvm.MethodName)) ∈ lw_all := lw_g (lw_at lw_m7 195 rfl) rfl
theorem q1781 : (Jvm.Cond.instanceMethod ({ cls := "java/lang/StringBuilder", name := "toString", desc := "()Ljava/lang/String;" } : Jvm.MethodName)) ∈ lw_all := lw_g (lw_at lw_m8 12 rfl) rfl
theorem q1782 : (Jvm.Cond.selects "java/lang/StringBuilder" ({ cls := "java/lang/StringBuilder", name := "toString", desc := "()Ljava/lang/String;" } : Jvm.MethodName) ({ cls := "java/lang/StringBuilder", name := "toString", desc := "()Ljava/lang/String;" } : Jvm.MethodName)) ∈ lw_all := lw_g (lw_at lw_m8 13 rfl) rfl
theorem q1783 : (Jvm.Cond.code ({ cls := "java/lang/StringBuilder", name := "toString", desc := "()Ljava/lang/String;" } : Jvm.MethodName) prog_33_method_42_code (1 : Nat) (Option.some (Jvm.ClassFile.FieldType.object "java/lang/String"))) ∈ lw_all := lw_g (lw_at lw_m8 14 rfl) rfl
theorem q1784 : (Jvm.Cond.classLink "java/lang/StringBuilder" (18 : Nat) "java/lang/String") ∈ lw_all := lw_g (lw_at lw_m8 15 rfl) rfl
theorem q1786 : (Jvm.Cond.methodLink "java/lang/StringBuilder" (137 : Nat) ({ cls := "java/lang/String", name := "<init>", desc := "(Ljava/lang/StringBuilder;)V" } : Jvm.MethodName)) ∈ lw_all := lw_g (lw_at lw_m8 17 rfl) rfl
theorem q1796 : (Jvm.Cond.selects "java/lang/StringBuilder" ({ cls := "java/lang/AbstractStringBuilder", name := "getValue", desc := "()[B" } : Jvm.MethodName) ({ cls := "java/lang/AbstractStringBuilder", name := "getValue", desc := "()[B" } : Jvm.MethodName)) ∈ lw_all := lw_g (lw_at lw_m8 27 rfl) rfl
theorem q1801 : (Jvm.Cond.selects "java/lang/StringBuilder" ({ cls := "java/lang/AbstractStringBuilder", name := "length", desc := "()I" } : Jvm.MethodName) ({ cls := "java/lang/StringBuilder", name := "length", desc := "()I" } : Jvm.MethodName)) ∈ lw_all := lw_g (lw_at lw_m8 32 rfl) rfl
theorem q1802 : (Jvm.Cond.instanceMethod ({ cls := "java/lang/StringBuilder", name := "length", desc := "()I" } : Jvm.MethodName)) ∈ lw_all := lw_g (lw_at lw_m8 33 rfl) rfl
theorem q1803 : (Jvm.Cond.code ({ cls := "java/lang/StringBuilder", name := "length", desc := "()I" } : Jvm.MethodName) prog_33_method_93_code (1 : Nat) (Option.some Jvm.ClassFile.FieldType.int)) ∈ lw_all := lw_g (lw_at lw_m8 34 rfl) rfl
theorem q1804 : (Jvm.Cond.methodLink "java/lang/StringBuilder" (343 : Nat) ({ cls := "java/lang/AbstractStringBuilder", name := "length", desc := "()I" } : Jvm.MethodName)) ∈ lw_all := lw_g (lw_at lw_m8 35 rfl) rfl
theorem q1845 : (Jvm.Cond.castable "java/lang/StringBuilder" "java/lang/CharSequence") ∈ lw_tbl := lw_at lw_m8 76 rfl
theorem q1846 : (Jvm.Cond.selects "java/lang/StringBuilder" ({ cls := "java/lang/CharSequence", name := "toString", desc := "()Ljava/lang/String;" } : Jvm.MethodName) ({ cls := "java/lang/StringBuilder", name := "toString", desc := "()Ljava/lang/String;" } : Jvm.MethodName)) ∈ lw_all := lw_g (lw_at lw_m8 77 rfl) rfl
theorem q1847 : (Jvm.Cond.unhidden "java/lang/StringBuilder" "toString" "()Ljava/lang/String;") ∈ lw_tbl := lw_at lw_m8 78 rfl
theorem q1848 : (Jvm.Cond.publicMethod ({ cls := "java/lang/StringBuilder", name := "toString", desc := "()Ljava/lang/String;" } : Jvm.MethodName)) ∈ lw_tbl := lw_at lw_m8 79 rfl
theorem q2475 : (Jvm.Cond.castable "java/lang/StringBuilder" "java/lang/Object") ∈ lw_tbl := lw_at lw_m10 226 rfl
theorem in_J33 : ∀ w ∈ wsJ330, w ∈ lw_all := lw_in wsJ330 [1711, 1713, 1715, 1717] (by decide +kernel) (by decide +kernel)

/-! java/lang/Throwable -/
set_option maxRecDepth 100000
def RJ34 : String := "java/lang/Throwable"
def TJ34 : u_T := fun k => match k with
  | 0 => ("java/lang/Throwable", "cause", "Ljava/lang/Throwable;", false)
  | 1 => ("java/lang/Throwable", "stackTrace", "[Ljava/lang/StackTraceElement;", false)
  | 2 => ("java/lang/Throwable", "suppressedExceptions", "Ljava/util/List;", false)
  | 3 => ("java/lang/Throwable", "detailMessage", "Ljava/lang/String;", false)
  | _ => ("java/lang/Throwable", "backtrace", "Ljava/lang/Object;", false)
def tyJ34 : Nat → FieldType := fun k => match k with
  | 0 => .object "java/lang/Throwable"
  | 1 => .array (.object "java/lang/StackTraceElement")
  | 2 => .object "java/util/List"
  | 3 => .object "java/lang/String"
  | _ => .object "java/lang/Object"
abbrev wsJ340 : List Cond := u_ws RJ34 TJ34 5
theorem nmJ34 : ∀ a, a < 5 → ∀ b, b < 5 → a ≠ b → (TJ34 a).2.1 ≠ (TJ34 b).2.1 := by decide +kernel
theorem tyJ34_ok : ∀ k, k < 5 → parseFieldDescriptor (TJ34 k).2.2.1 = some (tyJ34 k) := by decide +kernel
abbrev cJ34_init : ByteArray := prog_38_method_1_code
def yJ34_init : MethodName := ⟨RJ34, "<init>", "()V"⟩
def dkwJ34_init_1 : List UInt8 := [182, 0, 27, 87, 177]
abbrev dktJ34_init_1 : List UInt8 := dkwJ34_init_1 ++ []
def dkwJ34_init_0 : List UInt8 := [42, 183, 0, 1, 42, 42, 181, 0, 7, 42, 178, 0, 13, 181, 0, 17, 42, 178, 0, 20, 181, 0, 24, 42]
abbrev dktJ34_init_0 : List UInt8 := dkwJ34_init_0 ++ dktJ34_init_1
theorem dksJ34_init_0 : cJ34_init.data.toList.drop 0 = dktJ34_init_0 := by decide +kernel
theorem dksJ34_init_1 : cJ34_init.data.toList.drop 24 = dktJ34_init_1 := dk_seg dksJ34_init_0 24 rfl rfl
theorem dJ34_init_0 : decode cJ34_init 0 = .ok (.aload_n 0, 1) := dk_42 (dk_at dksJ34_init_0 0 rfl rfl)
theorem dJ34_init_1 : decode cJ34_init 1 = .ok (.invokespecial 1, 3) := dk_183 0 1 (dk_at dksJ34_init_0 1 rfl rfl)
theorem dJ34_init_4 : decode cJ34_init 4 = .ok (.aload_n 0, 1) := dk_42 (dk_at dksJ34_init_0 4 rfl rfl)
theorem dJ34_init_5 : decode cJ34_init 5 = .ok (.aload_n 0, 1) := dk_42 (dk_at dksJ34_init_0 5 rfl rfl)
theorem dJ34_init_6 : decode cJ34_init 6 = .ok (.putfield 7, 3) := dk_181 0 7 (dk_at dksJ34_init_0 6 rfl rfl)
theorem dJ34_init_9 : decode cJ34_init 9 = .ok (.aload_n 0, 1) := dk_42 (dk_at dksJ34_init_0 9 rfl rfl)
theorem dJ34_init_10 : decode cJ34_init 10 = .ok (.getstatic 13, 3) := dk_178 0 13 (dk_at dksJ34_init_0 10 rfl rfl)
theorem dJ34_init_13 : decode cJ34_init 13 = .ok (.putfield 17, 3) := dk_181 0 17 (dk_at dksJ34_init_0 13 rfl rfl)
theorem dJ34_init_16 : decode cJ34_init 16 = .ok (.aload_n 0, 1) := dk_42 (dk_at dksJ34_init_0 16 rfl rfl)
theorem dJ34_init_17 : decode cJ34_init 17 = .ok (.getstatic 20, 3) := dk_178 0 20 (dk_at dksJ34_init_0 17 rfl rfl)
theorem dJ34_init_20 : decode cJ34_init 20 = .ok (.putfield 24, 3) := dk_181 0 24 (dk_at dksJ34_init_0 20 rfl rfl)
theorem dJ34_init_23 : decode cJ34_init 23 = .ok (.aload_n 0, 1) := dk_42 (dk_at dksJ34_init_0 23 rfl rfl)
theorem dJ34_init_24 : decode cJ34_init 24 = .ok (.invokevirtual 27, 3) := dk_182 0 27 (dk_at dksJ34_init_1 0 rfl rfl)
theorem dJ34_init_27 : decode cJ34_init 27 = .ok (.pop, 1) := dk_87 (dk_at dksJ34_init_1 3 rfl rfl)
theorem dJ34_init_28 : decode cJ34_init 28 = .ok (.return_, 1) := dk_177 (dk_at dksJ34_init_1 4 rfl rfl)
abbrev cJ34_init_2 : ByteArray := prog_38_method_5_code
def yJ34_init_2 : MethodName := ⟨RJ34, "<init>", "(Ljava/lang/String;Ljava/lang/Throwable;ZZ)V"⟩
def dkwJ34_init_2_2 : List UInt8 := [44, 181, 0, 7, 29, 154, 0, 8, 42, 1, 181, 0, 24, 177]
abbrev dktJ34_init_2_2 : List UInt8 := dkwJ34_init_2_2 ++ []
def dkwJ34_init_2_1 : List UInt8 := [21, 4, 153, 0, 11, 42, 182, 0, 27, 87, 167, 0, 8, 42, 1, 181, 0, 17, 42, 43, 181, 0, 31, 42]
abbrev dktJ34_init_2_1 : List UInt8 := dkwJ34_init_2_1 ++ dktJ34_init_2_2
def dkwJ34_init_2_0 : List UInt8 := [42, 183, 0, 1, 42, 42, 181, 0, 7, 42, 178, 0, 13, 181, 0, 17, 42, 178, 0, 20, 181, 0, 24]
abbrev dktJ34_init_2_0 : List UInt8 := dkwJ34_init_2_0 ++ dktJ34_init_2_1
theorem dksJ34_init_2_0 : cJ34_init_2.data.toList.drop 0 = dktJ34_init_2_0 := by decide +kernel
theorem dksJ34_init_2_1 : cJ34_init_2.data.toList.drop 23 = dktJ34_init_2_1 := dk_seg dksJ34_init_2_0 23 rfl rfl
theorem dksJ34_init_2_2 : cJ34_init_2.data.toList.drop 47 = dktJ34_init_2_2 := dk_seg dksJ34_init_2_1 24 rfl rfl
theorem dJ34_init_2_0 : decode cJ34_init_2 0 = .ok (.aload_n 0, 1) := dk_42 (dk_at dksJ34_init_2_0 0 rfl rfl)
theorem dJ34_init_2_1 : decode cJ34_init_2 1 = .ok (.invokespecial 1, 3) := dk_183 0 1 (dk_at dksJ34_init_2_0 1 rfl rfl)
theorem dJ34_init_2_4 : decode cJ34_init_2 4 = .ok (.aload_n 0, 1) := dk_42 (dk_at dksJ34_init_2_0 4 rfl rfl)
theorem dJ34_init_2_5 : decode cJ34_init_2 5 = .ok (.aload_n 0, 1) := dk_42 (dk_at dksJ34_init_2_0 5 rfl rfl)
theorem dJ34_init_2_6 : decode cJ34_init_2 6 = .ok (.putfield 7, 3) := dk_181 0 7 (dk_at dksJ34_init_2_0 6 rfl rfl)
theorem dJ34_init_2_9 : decode cJ34_init_2 9 = .ok (.aload_n 0, 1) := dk_42 (dk_at dksJ34_init_2_0 9 rfl rfl)
theorem dJ34_init_2_10 : decode cJ34_init_2 10 = .ok (.getstatic 13, 3) := dk_178 0 13 (dk_at dksJ34_init_2_0 10 rfl rfl)
theorem dJ34_init_2_13 : decode cJ34_init_2 13 = .ok (.putfield 17, 3) := dk_181 0 17 (dk_at dksJ34_init_2_0 13 rfl rfl)
theorem dJ34_init_2_16 : decode cJ34_init_2 16 = .ok (.aload_n 0, 1) := dk_42 (dk_at dksJ34_init_2_0 16 rfl rfl)
theorem dJ34_init_2_17 : decode cJ34_init_2 17 = .ok (.getstatic 20, 3) := dk_178 0 20 (dk_at dksJ34_init_2_0 17 rfl rfl)
theorem dJ34_init_2_20 : decode cJ34_init_2 20 = .ok (.putfield 24, 3) := dk_181 0 24 (dk_at dksJ34_init_2_0 20 rfl rfl)
theorem dJ34_init_2_23 : decode cJ34_init_2 23 = .ok (.iload 4, 2) := dk_21 4 (dk_at dksJ34_init_2_1 0 rfl rfl)
theorem dJ34_init_2_25 : decode cJ34_init_2 25 = .ok (.ifCond .eq 11, 3) := dk_153 0 11 (dk_at dksJ34_init_2_1 2 rfl rfl)
theorem dJ34_init_2_28 : decode cJ34_init_2 28 = .ok (.aload_n 0, 1) := dk_42 (dk_at dksJ34_init_2_1 5 rfl rfl)
theorem dJ34_init_2_29 : decode cJ34_init_2 29 = .ok (.invokevirtual 27, 3) := dk_182 0 27 (dk_at dksJ34_init_2_1 6 rfl rfl)
theorem dJ34_init_2_32 : decode cJ34_init_2 32 = .ok (.pop, 1) := dk_87 (dk_at dksJ34_init_2_1 9 rfl rfl)
theorem dJ34_init_2_33 : decode cJ34_init_2 33 = .ok (.goto 8, 3) := dk_167 0 8 (dk_at dksJ34_init_2_1 10 rfl rfl)
theorem dJ34_init_2_36 : decode cJ34_init_2 36 = .ok (.aload_n 0, 1) := dk_42 (dk_at dksJ34_init_2_1 13 rfl rfl)
theorem dJ34_init_2_37 : decode cJ34_init_2 37 = .ok (.aconst_null, 1) := dk_1 (dk_at dksJ34_init_2_1 14 rfl rfl)
theorem dJ34_init_2_38 : decode cJ34_init_2 38 = .ok (.putfield 17, 3) := dk_181 0 17 (dk_at dksJ34_init_2_1 15 rfl rfl)
theorem dJ34_init_2_41 : decode cJ34_init_2 41 = .ok (.aload_n 0, 1) := dk_42 (dk_at dksJ34_init_2_1 18 rfl rfl)
theorem dJ34_init_2_42 : decode cJ34_init_2 42 = .ok (.aload_n 1, 1) := dk_43 (dk_at dksJ34_init_2_1 19 rfl rfl)
theorem dJ34_init_2_43 : decode cJ34_init_2 43 = .ok (.putfield 31, 3) := dk_181 0 31 (dk_at dksJ34_init_2_1 20 rfl rfl)
theorem dJ34_init_2_46 : decode cJ34_init_2 46 = .ok (.aload_n 0, 1) := dk_42 (dk_at dksJ34_init_2_1 23 rfl rfl)
theorem dJ34_init_2_47 : decode cJ34_init_2 47 = .ok (.aload_n 2, 1) := dk_44 (dk_at dksJ34_init_2_2 0 rfl rfl)
theorem dJ34_init_2_48 : decode cJ34_init_2 48 = .ok (.putfield 7, 3) := dk_181 0 7 (dk_at dksJ34_init_2_2 1 rfl rfl)
theorem dJ34_init_2_51 : decode cJ34_init_2 51 = .ok (.iload_n 3, 1) := dk_29 (dk_at dksJ34_init_2_2 4 rfl rfl)
theorem dJ34_init_2_52 : decode cJ34_init_2 52 = .ok (.ifCond .ne 8, 3) := dk_154 0 8 (dk_at dksJ34_init_2_2 5 rfl rfl)
theorem dJ34_init_2_55 : decode cJ34_init_2 55 = .ok (.aload_n 0, 1) := dk_42 (dk_at dksJ34_init_2_2 8 rfl rfl)
theorem dJ34_init_2_56 : decode cJ34_init_2 56 = .ok (.aconst_null, 1) := dk_1 (dk_at dksJ34_init_2_2 9 rfl rfl)
theorem dJ34_init_2_57 : decode cJ34_init_2 57 = .ok (.putfield 24, 3) := dk_181 0 24 (dk_at dksJ34_init_2_2 10 rfl rfl)
theorem dJ34_init_2_60 : decode cJ34_init_2 60 = .ok (.return_, 1) := dk_177 (dk_at dksJ34_init_2_2 13 rfl rfl)
theorem q141 : (Jvm.Cond.initialized "java/lang/Throwable") ∈ lw_all := lw_g (lw_at lw_m1 52 rfl) rfl
theorem q1893 : (Jvm.Cond.declares ({ cls := "java/lang/Throwable", name := "<init>", desc := "()V" } : Jvm.MethodName)) ∈ lw_tbl := lw_at lw_m8 124 rfl
theorem q1894 : (Jvm.Cond.declares ({ cls := "java/lang/Throwable", name := "<init>", desc := "(Ljava/lang/String;)V" } : Jvm.MethodName)) ∈ lw_tbl := lw_at lw_m8 125 rfl
theorem q1898 : (Jvm.Cond.lays "java/lang/Throwable" "java/lang/Throwable" "cause" "Ljava/lang/Throwable;") ∈ lw_all := lw_g (lw_at lw_m8 129 rfl) rfl
theorem q1900 : (Jvm.Cond.lays "java/lang/Throwable" "java/lang/Throwable" "stackTrace" "[Ljava/lang/StackTraceElement;") ∈ lw_all := lw_g (lw_at lw_m8 131 rfl) rfl
theorem q1902 : (Jvm.Cond.lays "java/lang/Throwable" "java/lang/Throwable" "suppressedExceptions" "Ljava/util/List;") ∈ lw_all := lw_g (lw_at lw_m8 133 rfl) rfl
theorem q1904 : (Jvm.Cond.lays "java/lang/Throwable" "java/lang/Throwable" "detailMessage" "Ljava/lang/String;") ∈ lw_all := lw_g (lw_at lw_m8 135 rfl) rfl
theorem q1906 : (Jvm.Cond.lays "java/lang/Throwable" "java/lang/Throwable" "backtrace" "Ljava/lang/Object;") ∈ lw_all := lw_g (lw_at lw_m8 137 rfl) rfl
theorem q1907 : (Jvm.Cond.fieldLink "java/lang/Throwable" (198 : Nat) "java/lang/Throwable" "backtrace" "Ljava/lang/Object;") ∈ lw_all := lw_g (lw_at lw_m8 138 rfl) rfl
theorem q1908 : (Jvm.Cond.superclass "java/lang/Throwable" "java/lang/Object") ∈ lw_all := lw_g (lw_at lw_m8 139 rfl) rfl
theorem q1909 : (Jvm.Cond.instanceMethod ({ cls := "java/lang/Throwable", name := "<init>", desc := "()V" } : Jvm.MethodName)) ∈ lw_all := lw_g (lw_at lw_m8 140 rfl) rfl
theorem q1910 : (Jvm.Cond.code ({ cls := "java/lang/Throwable", name := "<init>", desc := "()V" } : Jvm.MethodName) prog_38_method_1_code (1 : Nat) (Option.none : Option Jvm.ClassFile.FieldType)) ∈ lw_all := lw_g (lw_at lw_m8 141 rfl) rfl
theorem q1911 : (Jvm.Cond.methodLink "java/lang/Throwable" (1 : Nat) ({ cls := "java/lang/Object", name := "<init>", desc := "()V" } : Jvm.MethodName)) ∈ lw_all := lw_g (lw_at lw_m8 142 rfl) rfl
theorem q1912 : (Jvm.Cond.fieldLink "java/lang/Throwable" (13 : Nat) "java/lang/Throwable" "UNASSIGNED_STACK" "[Ljava/lang/StackTraceElement;") ∈ lw_all := lw_g (lw_at lw_m8 143 rfl) rfl
theorem q1913 : (Jvm.Cond.laysStatic "java/lang/Throwable" "UNASSIGNED_STACK" "[Ljava/lang/StackTraceElement;") ∈ lw_tbl := lw_at lw_m8 144 rfl
theorem q1914 : (Jvm.Cond.fieldLink "java/lang/Throwable" (20 : Nat) "java/lang/Throwable" "SUPPRESSED_SENTINEL" "Ljava/util/List;") ∈ lw_all := lw_g (lw_at lw_m8 145 rfl) rfl
theorem q1915 : (Jvm.Cond.laysStatic "java/lang/Throwable" "SUPPRESSED_SENTINEL" "Ljava/util/List;") ∈ lw_tbl := lw_at lw_m8 146 rfl
theorem q1916 : (Jvm.Cond.methodLink "java/lang/Throwable" (27 : Nat) ({ cls := "java/lang/Throwable", name := "fillInStackTrace", desc := "()Ljava/lang/Throwable;" } : Jvm.MethodName)) ∈ lw_all := lw_g (lw_at lw_m8 147 rfl) rfl
theorem q1917 : (Jvm.Cond.instanceMethod ({ cls := "java/lang/Throwable", name := "fillInStackTrace", desc := "()Ljava/lang/Throwable;" } : Jvm.MethodName)) ∈ lw_all := lw_g (lw_at lw_m8 148 rfl) rfl
theorem q1918 : (Jvm.Cond.sameMethod "java/lang/Throwable" "java/lang/Throwable" "fillInStackTrace" "()Ljava/lang/Throwable;") ∈ lw_all := lw_g (lw_at lw_m8 149 rfl) rfl
theorem q1919 : (Jvm.Cond.codeSync ({ cls := "java/lang/Throwable", name := "fillInStackTrace", desc := "()Ljava/lang/Throwable;" } : Jvm.MethodName) prog_38_method_18_code (1 : Nat) (Option.some (Jvm.ClassFile.FieldType.object "java/lang/Throwable"))) ∈ lw_all := lw_g (lw_at lw_m8 150 rfl) rfl
theorem q1920 : (Jvm.Cond.methodLink "java/lang/Throwable" (202 : Nat) ({ cls := "java/lang/Throwable", name := "fillInStackTrace", desc := "(I)Ljava/lang/Throwable;" } : Jvm.MethodName)) ∈ lw_all := lw_g (lw_at lw_m8 151 rfl) rfl
theorem q1921 : (Jvm.Cond.privateMethod ({ cls := "java/lang/Throwable", name := "fillInStackTrace", desc := "(I)Ljava/lang/Throwable;" } : Jvm.MethodName)) ∈ lw_tbl := lw_at lw_m8 152 rfl
theorem q1922 : (Jvm.Cond.instanceMethod ({ cls := "java/lang/Throwable", name := "fillInStackTrace", desc := "(I)Ljava/lang/Throwable;" } : Jvm.MethodName)) ∈ lw_all := lw_g (lw_at lw_m8 153 rfl) rfl
theorem q1923 : (Jvm.Cond.instantiable "java/lang/Throwable" (6 : Nat)) ∈ lw_all := lw_g (lw_at lw_m8 154 rfl) rfl
theorem q1924 : (Jvm.Cond.native ({ cls := "java/lang/Throwable", name := "fillInStackTrace", desc := "(I)Ljava/lang/Throwable;" } : Jvm.MethodName)) ∈ lw_all := lw_g (lw_at lw_m8 155 rfl) rfl
theorem q1932 : (Jvm.Cond.instanceMethod ({ cls := "java/lang/Throwable", name := "<init>", desc := "(Ljava/lang/String;Ljava/lang/Throwable;ZZ)V" } : Jvm.MethodName)) ∈ lw_all := lw_g (lw_at lw_m8 163 rfl) rfl
theorem q1933 : (Jvm.Cond.code ({ cls := "java/lang/Throwable", name := "<init>", desc := "(Ljava/lang/String;Ljava/lang/Throwable;ZZ)V" } : Jvm.MethodName) prog_38_method_5_code (5 : Nat) (Option.none : Option Jvm.ClassFile.FieldType)) ∈ lw_all := lw_g (lw_at lw_m8 164 rfl) rfl
theorem q1936 : (Jvm.Cond.fieldLink "java/lang/Throwable" (198 : Nat) "java/lang/Throwable" "backtrace" "Ljava/lang/Object;") ∈ lw_all := lw_g (lw_at lw_m8 167 rfl) rfl
theorem q1937 : (Jvm.Cond.fieldLink "java/lang/Throwable" (31 : Nat) "java/lang/Throwable" "detailMessage" "Ljava/lang/String;") ∈ lw_all := lw_g (lw_at lw_m8 168 rfl) rfl
theorem q1938 : (Jvm.Cond.fieldLink "java/lang/Throwable" (7 : Nat) "java/lang/Throwable" "cause" "Ljava/lang/Throwable;") ∈ lw_all := lw_g (lw_at lw_m8 169 rfl) rfl
theorem q1939 : (Jvm.Cond.fieldLink "java/lang/Throwable" (17 : Nat) "java/lang/Throwable" "stackTrace" "[Ljava/lang/StackTraceElement;") ∈ lw_all := lw_g (lw_at lw_m8 170 rfl) rfl
theorem q1940 : (Jvm.Cond.fieldLink "java/lang/Throwable" (24 : Nat) "java/lang/Throwable" "suppressedExceptions" "Ljava/util/List;") ∈ lw_all := lw_g (lw_at lw_m8 171 rfl) rfl
theorem q1943 : (Jvm.Cond.soleField "java/lang/Throwable" "backtrace") ∈ lw_all := lw_g (lw_at lw_m8 174 rfl) rfl
theorem q1944 : (Jvm.Cond.soleField "java/lang/Throwable" "detailMessage") ∈ lw_all := lw_g (lw_at lw_m8 175 rfl) rfl
theorem q1945 : (Jvm.Cond.soleField "java/lang/Throwable" "cause") ∈ lw_all := lw_g (lw_at lw_m8 176 rfl) rfl
theorem q1946 : (Jvm.Cond.soleField "java/lang/Throwable" "stackTrace") ∈ lw_all := lw_g (lw_at lw_m8 177 rfl) rfl
theorem q1948 : (Jvm.Cond.soleField "java/lang/Throwable" "depth") ∈ lw_all := lw_g (lw_at lw_m8 179 rfl) rfl
theorem q1949 : (Jvm.Cond.soleField "java/lang/Throwable" "suppressedExceptions") ∈ lw_all := lw_g (lw_at lw_m8 180 rfl) rfl
theorem q2449 : (Jvm.Cond.sameMethod "java/lang/Throwable" "java/lang/Throwable" "fillInStackTrace" "(I)Ljava/lang/Throwable;") ∈ lw_all := lw_g (lw_at lw_m10 200 rfl) rfl
theorem q2484 : (Jvm.Cond.castable "java/lang/Throwable" "java/lang/Object") ∈ lw_tbl := lw_at lw_m10 235 rfl
theorem in_J34 : ∀ w ∈ wsJ340, w ∈ lw_all := lw_in wsJ340 [1898, 1900, 1902, 1904, 1906] (by decide +kernel) (by decide +kernel)

/-! java/lang/Exception -/
set_option maxRecDepth 100000
def RJ35 : String := "java/lang/Exception"
abbrev cJ35_init : ByteArray := prog_24_method_5_code
def yJ35_init : MethodName := ⟨RJ35, "<init>", "(Ljava/lang/String;Ljava/lang/Throwable;ZZ)V"⟩
def dkwJ35_init_0 : List UInt8 := [42, 43, 44, 29, 21, 4, 183, 0, 16, 177]
abbrev dktJ35_init_0 : List UInt8 := dkwJ35_init_0 ++ []
theorem dksJ35_init_0 : cJ35_init.data.toList.drop 0 = dktJ35_init_0 := by decide +kernel
theorem dJ35_init_0 : decode cJ35_init 0 = .ok (.aload_n 0, 1) := dk_42 (dk_at dksJ35_init_0 0 rfl rfl)
theorem dJ35_init_1 : decode cJ35_init 1 = .ok (.aload_n 1, 1) := dk_43 (dk_at dksJ35_init_0 1 rfl rfl)
theorem dJ35_init_2 : decode cJ35_init 2 = .ok (.aload_n 2, 1) := dk_44 (dk_at dksJ35_init_0 2 rfl rfl)
theorem dJ35_init_3 : decode cJ35_init 3 = .ok (.iload_n 3, 1) := dk_29 (dk_at dksJ35_init_0 3 rfl rfl)
theorem dJ35_init_4 : decode cJ35_init 4 = .ok (.iload 4, 2) := dk_21 4 (dk_at dksJ35_init_0 4 rfl rfl)
theorem dJ35_init_6 : decode cJ35_init 6 = .ok (.invokespecial 16, 3) := dk_183 0 16 (dk_at dksJ35_init_0 6 rfl rfl)
theorem dJ35_init_9 : decode cJ35_init 9 = .ok (.return_, 1) := dk_177 (dk_at dksJ35_init_0 9 rfl rfl)
theorem q142 : (Jvm.Cond.initialized "java/lang/Exception") ∈ lw_all := lw_g (lw_at lw_m1 53 rfl) rfl
theorem q1891 : (Jvm.Cond.declares ({ cls := "java/lang/Exception", name := "<init>", desc := "()V" } : Jvm.MethodName)) ∈ lw_tbl := lw_at lw_m8 122 rfl
theorem q1892 : (Jvm.Cond.declares ({ cls := "java/lang/Exception", name := "<init>", desc := "(Ljava/lang/String;)V" } : Jvm.MethodName)) ∈ lw_tbl := lw_at lw_m8 123 rfl
theorem q1929 : (Jvm.Cond.instanceMethod ({ cls := "java/lang/Exception", name := "<init>", desc := "(Ljava/lang/String;Ljava/lang/Throwable;ZZ)V" } : Jvm.MethodName)) ∈ lw_all := lw_g (lw_at lw_m8 160 rfl) rfl
theorem q1930 : (Jvm.Cond.code ({ cls := "java/lang/Exception", name := "<init>", desc := "(Ljava/lang/String;Ljava/lang/Throwable;ZZ)V" } : Jvm.MethodName) prog_24_method_5_code (5 : Nat) (Option.none : Option Jvm.ClassFile.FieldType)) ∈ lw_all := lw_g (lw_at lw_m8 161 rfl) rfl
theorem q1931 : (Jvm.Cond.methodLink "java/lang/Exception" (16 : Nat) ({ cls := "java/lang/Throwable", name := "<init>", desc := "(Ljava/lang/String;Ljava/lang/Throwable;ZZ)V" } : Jvm.MethodName)) ∈ lw_all := lw_g (lw_at lw_m8 162 rfl) rfl

/-! java/lang/Object -/
set_option maxRecDepth 100000
def RJ36 : String := "java/lang/Object"
abbrev cJ36_init : ByteArray := object_method_1_code
def yJ36_init : MethodName := ⟨RJ36, "<init>", "()V"⟩
theorem dJ36_init_0 : decode cJ36_init 0 = .ok (.return_, 1) := by decide +kernel
abbrev cJ36_equals : ByteArray := object_method_4_code
def yJ36_equals : MethodName := ⟨RJ36, "equals", "(Ljava/lang/Object;)Z"⟩
def dkwJ36_equals_0 : List UInt8 := [42, 43, 166, 0, 7, 4, 167, 0, 4, 3, 172]
abbrev dktJ36_equals_0 : List UInt8 := dkwJ36_equals_0 ++ []
theorem dksJ36_equals_0 : cJ36_equals.data.toList.drop 0 = dktJ36_equals_0 := by decide +kernel
theorem dJ36_equals_0 : decode cJ36_equals 0 = .ok (.aload_n 0, 1) := dk_42 (dk_at dksJ36_equals_0 0 rfl rfl)
theorem dJ36_equals_1 : decode cJ36_equals 1 = .ok (.aload_n 1, 1) := dk_43 (dk_at dksJ36_equals_0 1 rfl rfl)
theorem dJ36_equals_2 : decode cJ36_equals 2 = .ok (.if_acmp .ne 7, 3) := dk_166 0 7 (dk_at dksJ36_equals_0 2 rfl rfl)
theorem dJ36_equals_5 : decode cJ36_equals 5 = .ok (.iconst 1, 1) := dk_4 (dk_at dksJ36_equals_0 5 rfl rfl)
theorem dJ36_equals_6 : decode cJ36_equals 6 = .ok (.goto 4, 3) := dk_167 0 4 (dk_at dksJ36_equals_0 6 rfl rfl)
theorem dJ36_equals_9 : decode cJ36_equals 9 = .ok (.iconst 0, 1) := dk_3 (dk_at dksJ36_equals_0 9 rfl rfl)
theorem dJ36_equals_10 : decode cJ36_equals 10 = .ok (.ireturn, 1) := dk_172 (dk_at dksJ36_equals_0 10 rfl rfl)
theorem q150 : (Jvm.Cond.instanceMethod ({ cls := "java/lang/Object", name := "<init>", desc := "()V" } : Jvm.MethodName)) ∈ lw_all := lw_g (lw_at lw_m1 61 rfl) rfl
theorem q151 : (Jvm.Cond.code ({ cls := "java/lang/Object", name := "<init>", desc := "()V" } : Jvm.MethodName) object_method_1_code (1 : Nat) (Option.none : Option Jvm.ClassFile.FieldType)) ∈ lw_all := lw_g (lw_at lw_m1 62 rfl) rfl
theorem q357 : (Jvm.Cond.instanceMethod ({ cls := "java/lang/Object", name := "getClass", desc := "()Ljava/lang/Class;" } : Jvm.MethodName)) ∈ lw_all := lw_g (lw_at lw_m2 28 rfl) rfl
theorem q358 : (Jvm.Cond.sameMethod "java/lang/Object" "java/lang/Object" "getClass" "()Ljava/lang/Class;") ∈ lw_all := lw_g (lw_at lw_m2 29 rfl) rfl
theorem q389 : (Jvm.Cond.native ({ cls := "java/lang/Object", name := "getClass", desc := "()Ljava/lang/Class;" } : Jvm.MethodName)) ∈ lw_all := lw_g (lw_at lw_m2 60 rfl) rfl
theorem q516 : (Jvm.Cond.declares ({ cls := "java/lang/Object", name := "hashCode", desc := "()I" } : Jvm.MethodName)) ∈ lw_tbl := lw_at lw_m2 187 rfl
theorem q518 : (Jvm.Cond.instanceMethod ({ cls := "java/lang/Object", name := "hashCode", desc := "()I" } : Jvm.MethodName)) ∈ lw_all := lw_g (lw_at lw_m2 189 rfl) rfl
theorem q519 : (Jvm.Cond.sameMethod "java/lang/Object" "java/lang/Object" "hashCode" "()I") ∈ lw_all := lw_g (lw_at lw_m2 190 rfl) rfl
theorem q611 : (Jvm.Cond.native ({ cls := "java/lang/Object", name := "hashCode", desc := "()I" } : Jvm.MethodName)) ∈ lw_all := lw_g (lw_at lw_m3 42 rfl) rfl
theorem q950 : (Jvm.Cond.declares ({ cls := "java/lang/Object", name := "equals", desc := "(Ljava/lang/Object;)Z" } : Jvm.MethodName)) ∈ lw_tbl := lw_at lw_m4 141 rfl
theorem q952 : (Jvm.Cond.instanceMethod ({ cls := "java/lang/Object", name := "equals", desc := "(Ljava/lang/Object;)Z" } : Jvm.MethodName)) ∈ lw_all := lw_g (lw_at lw_m4 143 rfl) rfl
theorem q953 : (Jvm.Cond.sameMethod "java/lang/Object" "java/lang/Object" "equals" "(Ljava/lang/Object;)Z") ∈ lw_all := lw_g (lw_at lw_m4 144 rfl) rfl
theorem q987 : (Jvm.Cond.code ({ cls := "java/lang/Object", name := "equals", desc := "(Ljava/lang/Object;)Z" } : Jvm.MethodName) object_method_4_code (2 : Nat) (Option.some Jvm.ClassFile.FieldType.boolean)) ∈ lw_all := lw_g (lw_at lw_m4 178 rfl) rfl
theorem q1522 : (Jvm.Cond.native ({ cls := "java/lang/Object", name := "clone", desc := "()Ljava/lang/Object;" } : Jvm.MethodName)) ∈ lw_all := lw_g (lw_at lw_m6 233 rfl) rfl
theorem q1523 : (Jvm.Cond.instanceMethod ({ cls := "java/lang/Object", name := "clone", desc := "()Ljava/lang/Object;" } : Jvm.MethodName)) ∈ lw_all := lw_g (lw_at lw_m6 234 rfl) rfl
theorem q2450 : (Jvm.Cond.initialized "java/lang/Object") ∈ lw_all := lw_g (lw_at lw_m10 201 rfl) rfl
theorem q2489 : (Jvm.Cond.declares ({ cls := "java/lang/Object", name := "getClass", desc := "()Ljava/lang/Class;" } : Jvm.MethodName)) ∈ lw_tbl := lw_at lw_m11 0 rfl
theorem q2500 : (Jvm.Cond.instantiable "java/lang/Object" (0 : Nat)) ∈ lw_all := lw_g (lw_at lw_m11 11 rfl) rfl
