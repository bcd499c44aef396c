/-! java/util/AbstractCollection -/
set_option maxRecDepth 100000
def RJ0 : String := "java/util/AbstractCollection"
abbrev cJ0_init : ByteArray := prog_42_method_1_code
def yJ0_init : MethodName := ⟨RJ0, "<init>", "()V"⟩
theorem dJ0_init_0 : decode cJ0_init 0 = .ok (.aload_n 0, 1) := by decide +kernel
theorem dJ0_init_1 : decode cJ0_init 1 = .ok (.invokespecial 1, 3) := by decide +kernel
theorem dJ0_init_4 : decode cJ0_init 4 = .ok (.return_, 1) := by decide +kernel
theorem q118 : (Jvm.Cond.initialized "java/util/AbstractCollection") ∈ lw_all := lw_g (lw_at lw_m1 4 rfl) rfl
theorem q191 : (Jvm.Cond.instanceMethod ({ cls := "java/util/AbstractCollection", name := "<init>", desc := "()V" } : Jvm.MethodName)) ∈ lw_all := lw_g (lw_at lw_m1 77 rfl) rfl
theorem q192 : (Jvm.Cond.code ({ cls := "java/util/AbstractCollection", name := "<init>", desc := "()V" } : Jvm.MethodName) prog_42_method_1_code (1 : Nat) (Option.none : Option Jvm.ClassFile.FieldType)) ∈ lw_all := lw_g (lw_at lw_m1 78 rfl) rfl
theorem q193 : (Jvm.Cond.methodLink "java/util/AbstractCollection" (1 : Nat) ({ cls := "java/lang/Object", name := "<init>", desc := "()V" } : Jvm.MethodName)) ∈ lw_all := lw_g (lw_at lw_m1 79 rfl) rfl
theorem q257 : (Jvm.Cond.declares ({ cls := "java/util/AbstractCollection", name := "size", desc := "()I" } : Jvm.MethodName)) ∈ lw_tbl := lw_at lw_m1 143 rfl

/-! java/util/AbstractList -/
set_option maxRecDepth 100000
def RJ1 : String := "java/util/AbstractList"
abbrev cJ1_init : ByteArray := prog_43_method_1_code
def yJ1_init : MethodName := ⟨RJ1, "<init>", "()V"⟩
def dkwJ1_init_0 : List UInt8 := [42, 183, 0, 1, 42, 3, 181, 0, 7, 177]
abbrev dktJ1_init_0 : List UInt8 := dkwJ1_init_0 ++ []
theorem dksJ1_init_0 : cJ1_init.data.toList.drop 0 = dktJ1_init_0 := by decide +kernel
theorem dJ1_init_0 : decode cJ1_init 0 = .ok (.aload_n 0, 1) := dk_42 (dk_at dksJ1_init_0 0 rfl rfl)
theorem dJ1_init_1 : decode cJ1_init 1 = .ok (.invokespecial 1, 3) := dk_183 0 1 (dk_at dksJ1_init_0 1 rfl rfl)
theorem dJ1_init_4 : decode cJ1_init 4 = .ok (.aload_n 0, 1) := dk_42 (dk_at dksJ1_init_0 4 rfl rfl)
theorem dJ1_init_5 : decode cJ1_init 5 = .ok (.iconst 0, 1) := dk_3 (dk_at dksJ1_init_0 5 rfl rfl)
theorem dJ1_init_6 : decode cJ1_init 6 = .ok (.putfield 7, 3) := dk_181 0 7 (dk_at dksJ1_init_0 6 rfl rfl)
theorem dJ1_init_9 : decode cJ1_init 9 = .ok (.return_, 1) := dk_177 (dk_at dksJ1_init_0 9 rfl rfl)
theorem q119 : (Jvm.Cond.initialized "java/util/AbstractList") ∈ lw_all := lw_g (lw_at lw_m1 5 rfl) rfl
theorem q188 : (Jvm.Cond.instanceMethod ({ cls := "java/util/AbstractList", name := "<init>", desc := "()V" } : Jvm.MethodName)) ∈ lw_all := lw_g (lw_at lw_m1 74 rfl) rfl
theorem q189 : (Jvm.Cond.code ({ cls := "java/util/AbstractList", name := "<init>", desc := "()V" } : Jvm.MethodName) prog_43_method_1_code (1 : Nat) (Option.none : Option Jvm.ClassFile.FieldType)) ∈ lw_all := lw_g (lw_at lw_m1 75 rfl) rfl
theorem q190 : (Jvm.Cond.methodLink "java/util/AbstractList" (1 : Nat) ({ cls := "java/util/AbstractCollection", name := "<init>", desc := "()V" } : Jvm.MethodName)) ∈ lw_all := lw_g (lw_at lw_m1 76 rfl) rfl
theorem q200 : (Jvm.Cond.fieldLink "java/util/AbstractList" (7 : Nat) "java/util/AbstractList" "modCount" "I") ∈ lw_all := lw_g (lw_at lw_m1 86 rfl) rfl
theorem q209 : (Jvm.Cond.soleField "java/util/AbstractList" "modCount") ∈ lw_all := lw_g (lw_at lw_m1 95 rfl) rfl

/-! java/util/ArrayList -/
set_option maxRecDepth 100000
def RJ2 : String := "java/util/ArrayList"
def TJ2 : u_T := fun k => match k with
  | 0 => ("java/util/AbstractList", "modCount", "I", false)
  | 1 => ("java/util/ArrayList", "elementData", "[Ljava/lang/Object;", false)
  | _ => ("java/util/ArrayList", "size", "I", false)
def tyJ2 : Nat → FieldType := fun k => match k with
  | 0 => .int
  | 1 => .array (.object "java/lang/Object")
  | _ => .int
abbrev wsJ20 : List Cond := u_ws RJ2 TJ2 3
theorem nmJ2 : ∀ a, a < 3 → ∀ b, b < 3 → a ≠ b → (TJ2 a).2.1 ≠ (TJ2 b).2.1 := by decide +kernel
theorem tyJ2_ok : ∀ k, k < 3 → parseFieldDescriptor (TJ2 k).2.2.1 = some (tyJ2 k) := by decide +kernel
abbrev cJ2_init : ByteArray := prog_45_method_2_code
def yJ2_init : MethodName := ⟨RJ2, "<init>", "()V"⟩
def dkwJ2_init_0 : List UInt8 := [42, 183, 0, 1, 42, 178, 0, 39, 181, 0, 9, 177]
abbrev dktJ2_init_0 : List UInt8 := dkwJ2_init_0 ++ []
theorem dksJ2_init_0 : cJ2_init.data.toList.drop 0 = dktJ2_init_0 := by decide +kernel
theorem dJ2_init_0 : decode cJ2_init 0 = .ok (.aload_n 0, 1) := dk_42 (dk_at dksJ2_init_0 0 rfl rfl)
theorem dJ2_init_1 : decode cJ2_init 1 = .ok (.invokespecial 1, 3) := dk_183 0 1 (dk_at dksJ2_init_0 1 rfl rfl)
theorem dJ2_init_4 : decode cJ2_init 4 = .ok (.aload_n 0, 1) := dk_42 (dk_at dksJ2_init_0 4 rfl rfl)
theorem dJ2_init_5 : decode cJ2_init 5 = .ok (.getstatic 39, 3) := dk_178 0 39 (dk_at dksJ2_init_0 5 rfl rfl)
theorem dJ2_init_8 : decode cJ2_init 8 = .ok (.putfield 9, 3) := dk_181 0 9 (dk_at dksJ2_init_0 8 rfl rfl)
theorem dJ2_init_11 : decode cJ2_init 11 = .ok (.return_, 1) := dk_177 (dk_at dksJ2_init_0 11 rfl rfl)
abbrev cJ2_iterator : ByteArray := prog_45_method_55_code
def yJ2_iterator : MethodName := ⟨RJ2, "iterator", "()Ljava/util/Iterator;"⟩
def dkwJ2_iterator_0 : List UInt8 := [187, 1, 11, 89, 42, 183, 1, 13, 176]
abbrev dktJ2_iterator_0 : List UInt8 := dkwJ2_iterator_0 ++ []
theorem dksJ2_iterator_0 : cJ2_iterator.data.toList.drop 0 = dktJ2_iterator_0 := by decide +kernel
theorem dJ2_iterator_0 : decode cJ2_iterator 0 = .ok (.new 267, 3) := dk_187 1 11 (dk_at dksJ2_iterator_0 0 rfl rfl)
theorem dJ2_iterator_3 : decode cJ2_iterator 3 = .ok (.dup, 1) := dk_89 (dk_at dksJ2_iterator_0 3 rfl rfl)
theorem dJ2_iterator_4 : decode cJ2_iterator 4 = .ok (.aload_n 0, 1) := dk_42 (dk_at dksJ2_iterator_0 4 rfl rfl)
theorem dJ2_iterator_5 : decode cJ2_iterator 5 = .ok (.invokespecial 269, 3) := dk_183 1 13 (dk_at dksJ2_iterator_0 5 rfl rfl)
theorem dJ2_iterator_8 : decode cJ2_iterator 8 = .ok (.areturn, 1) := dk_176 (dk_at dksJ2_iterator_0 8 rfl rfl)
abbrev cJ2_get : ByteArray := prog_45_method_20_code
def yJ2_get : MethodName := ⟨RJ2, "get", "(I)Ljava/lang/Object;"⟩
def dkwJ2_get_0 : List UInt8 := [27, 42, 180, 0, 48, 184, 0, 118, 87, 42, 27, 182, 0, 123, 176]
abbrev dktJ2_get_0 : List UInt8 := dkwJ2_get_0 ++ []
theorem dksJ2_get_0 : cJ2_get.data.toList.drop 0 = dktJ2_get_0 := by decide +kernel
theorem dJ2_get_0 : decode cJ2_get 0 = .ok (.iload_n 1, 1) := dk_27 (dk_at dksJ2_get_0 0 rfl rfl)
theorem dJ2_get_1 : decode cJ2_get 1 = .ok (.aload_n 0, 1) := dk_42 (dk_at dksJ2_get_0 1 rfl rfl)
theorem dJ2_get_2 : decode cJ2_get 2 = .ok (.getfield 48, 3) := dk_180 0 48 (dk_at dksJ2_get_0 2 rfl rfl)
theorem dJ2_get_5 : decode cJ2_get 5 = .ok (.invokestatic 118, 3) := dk_184 0 118 (dk_at dksJ2_get_0 5 rfl rfl)
theorem dJ2_get_8 : decode cJ2_get 8 = .ok (.pop, 1) := dk_87 (dk_at dksJ2_get_0 8 rfl rfl)
theorem dJ2_get_9 : decode cJ2_get 9 = .ok (.aload_n 0, 1) := dk_42 (dk_at dksJ2_get_0 9 rfl rfl)
theorem dJ2_get_10 : decode cJ2_get 10 = .ok (.iload_n 1, 1) := dk_27 (dk_at dksJ2_get_0 10 rfl rfl)
theorem dJ2_get_11 : decode cJ2_get 11 = .ok (.invokevirtual 123, 3) := dk_182 0 123 (dk_at dksJ2_get_0 11 rfl rfl)
theorem dJ2_get_14 : decode cJ2_get 14 = .ok (.areturn, 1) := dk_176 (dk_at dksJ2_get_0 14 rfl rfl)
abbrev cJ2_elementData : ByteArray := prog_45_method_18_code
def yJ2_elementData : MethodName := ⟨RJ2, "elementData", "(I)Ljava/lang/Object;"⟩
def dkwJ2_elementData_0 : List UInt8 := [42, 180, 0, 9, 27, 50, 176]
abbrev dktJ2_elementData_0 : List UInt8 := dkwJ2_elementData_0 ++ []
theorem dksJ2_elementData_0 : cJ2_elementData.data.toList.drop 0 = dktJ2_elementData_0 := by decide +kernel
theorem dJ2_elementData_0 : decode cJ2_elementData 0 = .ok (.aload_n 0, 1) := dk_42 (dk_at dksJ2_elementData_0 0 rfl rfl)
theorem dJ2_elementData_1 : decode cJ2_elementData 1 = .ok (.getfield 9, 3) := dk_180 0 9 (dk_at dksJ2_elementData_0 1 rfl rfl)
theorem dJ2_elementData_4 : decode cJ2_elementData 4 = .ok (.iload_n 1, 1) := dk_27 (dk_at dksJ2_elementData_0 4 rfl rfl)
theorem dJ2_elementData_5 : decode cJ2_elementData 5 = .ok (.aaload, 1) := dk_50 (dk_at dksJ2_elementData_0 5 rfl rfl)
theorem dJ2_elementData_6 : decode cJ2_elementData 6 = .ok (.areturn, 1) := dk_176 (dk_at dksJ2_elementData_0 6 rfl rfl)
abbrev cJ2_add : ByteArray := prog_45_method_25_code
def yJ2_add : MethodName := ⟨RJ2, "add", "(Ljava/lang/Object;)Z"⟩
def dkwJ2_add_1 : List UInt8 := [172]
abbrev dktJ2_add_1 : List UInt8 := dkwJ2_add_1 ++ []
def dkwJ2_add_0 : List UInt8 := [42, 89, 180, 0, 63, 4, 96, 181, 0, 63, 42, 43, 42, 180, 0, 9, 42, 180, 0, 48, 182, 0, 131, 4]
abbrev dktJ2_add_0 : List UInt8 := dkwJ2_add_0 ++ dktJ2_add_1
theorem dksJ2_add_0 : cJ2_add.data.toList.drop 0 = dktJ2_add_0 := by decide +kernel
theorem dksJ2_add_1 : cJ2_add.data.toList.drop 24 = dktJ2_add_1 := dk_seg dksJ2_add_0 24 rfl rfl
theorem dJ2_add_0 : decode cJ2_add 0 = .ok (.aload_n 0, 1) := dk_42 (dk_at dksJ2_add_0 0 rfl rfl)
theorem dJ2_add_1 : decode cJ2_add 1 = .ok (.dup, 1) := dk_89 (dk_at dksJ2_add_0 1 rfl rfl)
theorem dJ2_add_2 : decode cJ2_add 2 = .ok (.getfield 63, 3) := dk_180 0 63 (dk_at dksJ2_add_0 2 rfl rfl)
theorem dJ2_add_5 : decode cJ2_add 5 = .ok (.iconst 1, 1) := dk_4 (dk_at dksJ2_add_0 5 rfl rfl)
theorem dJ2_add_6 : decode cJ2_add 6 = .ok (.iadd, 1) := dk_96 (dk_at dksJ2_add_0 6 rfl rfl)
theorem dJ2_add_7 : decode cJ2_add 7 = .ok (.putfield 63, 3) := dk_181 0 63 (dk_at dksJ2_add_0 7 rfl rfl)
theorem dJ2_add_10 : decode cJ2_add 10 = .ok (.aload_n 0, 1) := dk_42 (dk_at dksJ2_add_0 10 rfl rfl)
theorem dJ2_add_11 : decode cJ2_add 11 = .ok (.aload_n 1, 1) := dk_43 (dk_at dksJ2_add_0 11 rfl rfl)
theorem dJ2_add_12 : decode cJ2_add 12 = .ok (.aload_n 0, 1) := dk_42 (dk_at dksJ2_add_0 12 rfl rfl)
theorem dJ2_add_13 : decode cJ2_add 13 = .ok (.getfield 9, 3) := dk_180 0 9 (dk_at dksJ2_add_0 13 rfl rfl)
theorem dJ2_add_16 : decode cJ2_add 16 = .ok (.aload_n 0, 1) := dk_42 (dk_at dksJ2_add_0 16 rfl rfl)
theorem dJ2_add_17 : decode cJ2_add 17 = .ok (.getfield 48, 3) := dk_180 0 48 (dk_at dksJ2_add_0 17 rfl rfl)
theorem dJ2_add_20 : decode cJ2_add 20 = .ok (.invokevirtual 131, 3) := dk_182 0 131 (dk_at dksJ2_add_0 20 rfl rfl)
theorem dJ2_add_23 : decode cJ2_add 23 = .ok (.iconst 1, 1) := dk_4 (dk_at dksJ2_add_0 23 rfl rfl)
theorem dJ2_add_24 : decode cJ2_add 24 = .ok (.ireturn, 1) := dk_172 (dk_at dksJ2_add_1 0 rfl rfl)
abbrev cJ2_add_2 : ByteArray := prog_45_method_24_code
def yJ2_add_2 : MethodName := ⟨RJ2, "add", "(Ljava/lang/Object;[Ljava/lang/Object;I)V"⟩
def dkwJ2_add_2_0 : List UInt8 := [29, 44, 190, 160, 0, 8, 42, 182, 0, 129, 77, 44, 29, 43, 83, 42, 29, 4, 96, 181, 0, 48, 177]
abbrev dktJ2_add_2_0 : List UInt8 := dkwJ2_add_2_0 ++ []
theorem dksJ2_add_2_0 : cJ2_add_2.data.toList.drop 0 = dktJ2_add_2_0 := by decide +kernel
theorem dJ2_add_2_0 : decode cJ2_add_2 0 = .ok (.iload_n 3, 1) := dk_29 (dk_at dksJ2_add_2_0 0 rfl rfl)
theorem dJ2_add_2_1 : decode cJ2_add_2 1 = .ok (.aload_n 2, 1) := dk_44 (dk_at dksJ2_add_2_0 1 rfl rfl)
theorem dJ2_add_2_2 : decode cJ2_add_2 2 = .ok (.arraylength, 1) := dk_190 (dk_at dksJ2_add_2_0 2 rfl rfl)
theorem dJ2_add_2_3 : decode cJ2_add_2 3 = .ok (.if_icmp .ne 8, 3) := dk_160 0 8 (dk_at dksJ2_add_2_0 3 rfl rfl)
theorem dJ2_add_2_6 : decode cJ2_add_2 6 = .ok (.aload_n 0, 1) := dk_42 (dk_at dksJ2_add_2_0 6 rfl rfl)
theorem dJ2_add_2_7 : decode cJ2_add_2 7 = .ok (.invokevirtual 129, 3) := dk_182 0 129 (dk_at dksJ2_add_2_0 7 rfl rfl)
theorem dJ2_add_2_10 : decode cJ2_add_2 10 = .ok (.astore_n 2, 1) := dk_77 (dk_at dksJ2_add_2_0 10 rfl rfl)
theorem dJ2_add_2_11 : decode cJ2_add_2 11 = .ok (.aload_n 2, 1) := dk_44 (dk_at dksJ2_add_2_0 11 rfl rfl)
theorem dJ2_add_2_12 : decode cJ2_add_2 12 = .ok (.iload_n 3, 1) := dk_29 (dk_at dksJ2_add_2_0 12 rfl rfl)
theorem dJ2_add_2_13 : decode cJ2_add_2 13 = .ok (.aload_n 1, 1) := dk_43 (dk_at dksJ2_add_2_0 13 rfl rfl)
theorem dJ2_add_2_14 : decode cJ2_add_2 14 = .ok (.aastore, 1) := dk_83 (dk_at dksJ2_add_2_0 14 rfl rfl)
theorem dJ2_add_2_15 : decode cJ2_add_2 15 = .ok (.aload_n 0, 1) := dk_42 (dk_at dksJ2_add_2_0 15 rfl rfl)
theorem dJ2_add_2_16 : decode cJ2_add_2 16 = .ok (.iload_n 3, 1) := dk_29 (dk_at dksJ2_add_2_0 16 rfl rfl)
theorem dJ2_add_2_17 : decode cJ2_add_2 17 = .ok (.iconst 1, 1) := dk_4 (dk_at dksJ2_add_2_0 17 rfl rfl)
theorem dJ2_add_2_18 : decode cJ2_add_2 18 = .ok (.iadd, 1) := dk_96 (dk_at dksJ2_add_2_0 18 rfl rfl)
theorem dJ2_add_2_19 : decode cJ2_add_2 19 = .ok (.putfield 48, 3) := dk_181 0 48 (dk_at dksJ2_add_2_0 19 rfl rfl)
theorem dJ2_add_2_22 : decode cJ2_add_2 22 = .ok (.return_, 1) := dk_177 (dk_at dksJ2_add_2_0 22 rfl rfl)
abbrev cJ2_grow : ByteArray := prog_45_method_7_code
def yJ2_grow : MethodName := ⟨RJ2, "grow", "()[Ljava/lang/Object;"⟩
def dkwJ2_grow_0 : List UInt8 := [42, 42, 180, 0, 48, 4, 96, 182, 0, 69, 176]
abbrev dktJ2_grow_0 : List UInt8 := dkwJ2_grow_0 ++ []
theorem dksJ2_grow_0 : cJ2_grow.data.toList.drop 0 = dktJ2_grow_0 := by decide +kernel
theorem dJ2_grow_0 : decode cJ2_grow 0 = .ok (.aload_n 0, 1) := dk_42 (dk_at dksJ2_grow_0 0 rfl rfl)
theorem dJ2_grow_1 : decode cJ2_grow 1 = .ok (.aload_n 0, 1) := dk_42 (dk_at dksJ2_grow_0 1 rfl rfl)
theorem dJ2_grow_2 : decode cJ2_grow 2 = .ok (.getfield 48, 3) := dk_180 0 48 (dk_at dksJ2_grow_0 2 rfl rfl)
theorem dJ2_grow_5 : decode cJ2_grow 5 = .ok (.iconst 1, 1) := dk_4 (dk_at dksJ2_grow_0 5 rfl rfl)
theorem dJ2_grow_6 : decode cJ2_grow 6 = .ok (.iadd, 1) := dk_96 (dk_at dksJ2_grow_0 6 rfl rfl)
theorem dJ2_grow_7 : decode cJ2_grow 7 = .ok (.invokevirtual 69, 3) := dk_182 0 69 (dk_at dksJ2_grow_0 7 rfl rfl)
theorem dJ2_grow_10 : decode cJ2_grow 10 = .ok (.areturn, 1) := dk_176 (dk_at dksJ2_grow_0 10 rfl rfl)
abbrev cJ2_grow_2 : ByteArray := prog_45_method_6_code
def yJ2_grow_2 : MethodName := ⟨RJ2, "grow", "(I)[Ljava/lang/Object;"⟩
def dkwJ2_grow_2_2 : List UInt8 := [27, 184, 0, 79, 189, 0, 7, 90, 181, 0, 9, 176]
abbrev dktJ2_grow_2_2 : List UInt8 := dkwJ2_grow_2_2 ++ []
def dkwJ2_grow_2_1 : List UInt8 := [28, 4, 122, 184, 0, 73, 62, 42, 42, 180, 0, 9, 29, 184, 0, 66, 90, 181, 0, 9, 176, 42, 16, 10]
abbrev dktJ2_grow_2_1 : List UInt8 := dkwJ2_grow_2_1 ++ dktJ2_grow_2_2
def dkwJ2_grow_2_0 : List UInt8 := [42, 180, 0, 9, 190, 61, 28, 157, 0, 13, 42, 180, 0, 9, 178, 0, 39, 165, 0, 28, 28, 27, 28, 100]
abbrev dktJ2_grow_2_0 : List UInt8 := dkwJ2_grow_2_0 ++ dktJ2_grow_2_1
theorem dksJ2_grow_2_0 : cJ2_grow_2.data.toList.drop 0 = dktJ2_grow_2_0 := by decide +kernel
theorem dksJ2_grow_2_1 : cJ2_grow_2.data.toList.drop 24 = dktJ2_grow_2_1 := dk_seg dksJ2_grow_2_0 24 rfl rfl
theorem dksJ2_grow_2_2 : cJ2_grow_2.data.toList.drop 48 = dktJ2_grow_2_2 := dk_seg dksJ2_grow_2_1 24 rfl rfl
theorem dJ2_grow_2_0 : decode cJ2_grow_2 0 = .ok (.aload_n 0, 1) := dk_42 (dk_at dksJ2_grow_2_0 0 rfl rfl)
theorem dJ2_grow_2_1 : decode cJ2_grow_2 1 = .ok (.getfield 9, 3) := dk_180 0 9 (dk_at dksJ2_grow_2_0 1 rfl rfl)
theorem dJ2_grow_2_4 : decode cJ2_grow_2 4 = .ok (.arraylength, 1) := dk_190 (dk_at dksJ2_grow_2_0 4 rfl rfl)
theorem dJ2_grow_2_5 : decode cJ2_grow_2 5 = .ok (.istore_n 2, 1) := dk_61 (dk_at dksJ2_grow_2_0 5 rfl rfl)
theorem dJ2_grow_2_6 : decode cJ2_grow_2 6 = .ok (.iload_n 2, 1) := dk_28 (dk_at dksJ2_grow_2_0 6 rfl rfl)
theorem dJ2_grow_2_7 : decode cJ2_grow_2 7 = .ok (.ifCond .gt 13, 3) := dk_157 0 13 (dk_at dksJ2_grow_2_0 7 rfl rfl)
theorem dJ2_grow_2_10 : decode cJ2_grow_2 10 = .ok (.aload_n 0, 1) := dk_42 (dk_at dksJ2_grow_2_0 10 rfl rfl)
theorem dJ2_grow_2_11 : decode cJ2_grow_2 11 = .ok (.getfield 9, 3) := dk_180 0 9 (dk_at dksJ2_grow_2_0 11 rfl rfl)
theorem dJ2_grow_2_14 : decode cJ2_grow_2 14 = .ok (.getstatic 39, 3) := dk_178 0 39 (dk_at dksJ2_grow_2_0 14 rfl rfl)
theorem dJ2_grow_2_17 : decode cJ2_grow_2 17 = .ok (.if_acmp .eq 28, 3) := dk_165 0 28 (dk_at dksJ2_grow_2_0 17 rfl rfl)
theorem dJ2_grow_2_20 : decode cJ2_grow_2 20 = .ok (.iload_n 2, 1) := dk_28 (dk_at dksJ2_grow_2_0 20 rfl rfl)
theorem dJ2_grow_2_21 : decode cJ2_grow_2 21 = .ok (.iload_n 1, 1) := dk_27 (dk_at dksJ2_grow_2_0 21 rfl rfl)
theorem dJ2_grow_2_22 : decode cJ2_grow_2 22 = .ok (.iload_n 2, 1) := dk_28 (dk_at dksJ2_grow_2_0 22 rfl rfl)
theorem dJ2_grow_2_23 : decode cJ2_grow_2 23 = .ok (.isub, 1) := dk_100 (dk_at dksJ2_grow_2_0 23 rfl rfl)
theorem dJ2_grow_2_24 : decode cJ2_grow_2 24 = .ok (.iload_n 2, 1) := dk_28 (dk_at dksJ2_grow_2_1 0 rfl rfl)
theorem dJ2_grow_2_25 : decode cJ2_grow_2 25 = .ok (.iconst 1, 1) := dk_4 (dk_at dksJ2_grow_2_1 1 rfl rfl)
theorem dJ2_grow_2_26 : decode cJ2_grow_2 26 = .ok (.ishr, 1) := dk_122 (dk_at dksJ2_grow_2_1 2 rfl rfl)
theorem dJ2_grow_2_27 : decode cJ2_grow_2 27 = .ok (.invokestatic 73, 3) := dk_184 0 73 (dk_at dksJ2_grow_2_1 3 rfl rfl)
theorem dJ2_grow_2_30 : decode cJ2_grow_2 30 = .ok (.istore_n 3, 1) := dk_62 (dk_at dksJ2_grow_2_1 6 rfl rfl)
theorem dJ2_grow_2_31 : decode cJ2_grow_2 31 = .ok (.aload_n 0, 1) := dk_42 (dk_at dksJ2_grow_2_1 7 rfl rfl)
theorem dJ2_grow_2_32 : decode cJ2_grow_2 32 = .ok (.aload_n 0, 1) := dk_42 (dk_at dksJ2_grow_2_1 8 rfl rfl)
theorem dJ2_grow_2_33 : decode cJ2_grow_2 33 = .ok (.getfield 9, 3) := dk_180 0 9 (dk_at dksJ2_grow_2_1 9 rfl rfl)
theorem dJ2_grow_2_36 : decode cJ2_grow_2 36 = .ok (.iload_n 3, 1) := dk_29 (dk_at dksJ2_grow_2_1 12 rfl rfl)
theorem dJ2_grow_2_37 : decode cJ2_grow_2 37 = .ok (.invokestatic 66, 3) := dk_184 0 66 (dk_at dksJ2_grow_2_1 13 rfl rfl)
theorem dJ2_grow_2_40 : decode cJ2_grow_2 40 = .ok (.dup_x1, 1) := dk_90 (dk_at dksJ2_grow_2_1 16 rfl rfl)
theorem dJ2_grow_2_41 : decode cJ2_grow_2 41 = .ok (.putfield 9, 3) := dk_181 0 9 (dk_at dksJ2_grow_2_1 17 rfl rfl)
theorem dJ2_grow_2_44 : decode cJ2_grow_2 44 = .ok (.areturn, 1) := dk_176 (dk_at dksJ2_grow_2_1 20 rfl rfl)
theorem dJ2_grow_2_45 : decode cJ2_grow_2 45 = .ok (.aload_n 0, 1) := dk_42 (dk_at dksJ2_grow_2_1 21 rfl rfl)
theorem dJ2_grow_2_46 : decode cJ2_grow_2 46 = .ok (.bipush 10, 2) := dk_16 10 (dk_at dksJ2_grow_2_1 22 rfl rfl)
theorem dJ2_grow_2_48 : decode cJ2_grow_2 48 = .ok (.iload_n 1, 1) := dk_27 (dk_at dksJ2_grow_2_2 0 rfl rfl)
theorem dJ2_grow_2_49 : decode cJ2_grow_2 49 = .ok (.invokestatic 79, 3) := dk_184 0 79 (dk_at dksJ2_grow_2_2 1 rfl rfl)
theorem dJ2_grow_2_52 : decode cJ2_grow_2 52 = .ok (.anewarray 7, 3) := dk_189 0 7 (dk_at dksJ2_grow_2_2 4 rfl rfl)
theorem dJ2_grow_2_55 : decode cJ2_grow_2 55 = .ok (.dup_x1, 1) := dk_90 (dk_at dksJ2_grow_2_2 7 rfl rfl)
theorem dJ2_grow_2_56 : decode cJ2_grow_2 56 = .ok (.putfield 9, 3) := dk_181 0 9 (dk_at dksJ2_grow_2_2 8 rfl rfl)
theorem dJ2_grow_2_59 : decode cJ2_grow_2 59 = .ok (.areturn, 1) := dk_176 (dk_at dksJ2_grow_2_2 11 rfl rfl)
abbrev cJ2_size : ByteArray := prog_45_method_8_code
def yJ2_size : MethodName := ⟨RJ2, "size", "()I"⟩
theorem dJ2_size_0 : decode cJ2_size 0 = .ok (.aload_n 0, 1) := by decide +kernel
theorem dJ2_size_1 : decode cJ2_size 1 = .ok (.getfield 48, 3) := by decide +kernel
theorem dJ2_size_4 : decode cJ2_size 4 = .ok (.ireturn, 1) := by decide +kernel
abbrev cJ2_add_3 : ByteArray := prog_45_method_26_code
def yJ2_add_3 : MethodName := ⟨RJ2, "add", "(ILjava/lang/Object;)V"⟩
def dkwJ2_add_3_2 : List UInt8 := [29, 27, 100, 184, 0, 112, 25, 4, 27, 44, 83, 42, 29, 4, 96, 181, 0, 48, 177]
abbrev dktJ2_add_3_2 : List UInt8 := dkwJ2_add_3_2 ++ []
def dkwJ2_add_3_1 : List UInt8 := [180, 0, 9, 89, 58, 4, 190, 160, 0, 9, 42, 182, 0, 129, 58, 4, 25, 4, 27, 25, 4, 27, 4, 96]
abbrev dktJ2_add_3_1 : List UInt8 := dkwJ2_add_3_1 ++ dktJ2_add_3_2
def dkwJ2_add_3_0 : List UInt8 := [42, 27, 182, 0, 135, 42, 89, 180, 0, 63, 4, 96, 181, 0, 63, 42, 180, 0, 48, 89, 62, 42]
abbrev dktJ2_add_3_0 : List UInt8 := dkwJ2_add_3_0 ++ dktJ2_add_3_1
theorem dksJ2_add_3_0 : cJ2_add_3.data.toList.drop 0 = dktJ2_add_3_0 := by decide +kernel
theorem dksJ2_add_3_1 : cJ2_add_3.data.toList.drop 22 = dktJ2_add_3_1 := dk_seg dksJ2_add_3_0 22 rfl rfl
theorem dksJ2_add_3_2 : cJ2_add_3.data.toList.drop 46 = dktJ2_add_3_2 := dk_seg dksJ2_add_3_1 24 rfl rfl
theorem dJ2_add_3_0 : decode cJ2_add_3 0 = .ok (.aload_n 0, 1) := dk_42 (dk_at dksJ2_add_3_0 0 rfl rfl)
theorem dJ2_add_3_1 : decode cJ2_add_3 1 = .ok (.iload_n 1, 1) := dk_27 (dk_at dksJ2_add_3_0 1 rfl rfl)
theorem dJ2_add_3_2 : decode cJ2_add_3 2 = .ok (.invokevirtual 135, 3) := dk_182 0 135 (dk_at dksJ2_add_3_0 2 rfl rfl)
theorem dJ2_add_3_5 : decode cJ2_add_3 5 = .ok (.aload_n 0, 1) := dk_42 (dk_at dksJ2_add_3_0 5 rfl rfl)
theorem dJ2_add_3_6 : decode cJ2_add_3 6 = .ok (.dup, 1) := dk_89 (dk_at dksJ2_add_3_0 6 rfl rfl)
theorem dJ2_add_3_7 : decode cJ2_add_3 7 = .ok (.getfield 63, 3) := dk_180 0 63 (dk_at dksJ2_add_3_0 7 rfl rfl)
theorem dJ2_add_3_10 : decode cJ2_add_3 10 = .ok (.iconst 1, 1) := dk_4 (dk_at dksJ2_add_3_0 10 rfl rfl)
theorem dJ2_add_3_11 : decode cJ2_add_3 11 = .ok (.iadd, 1) := dk_96 (dk_at dksJ2_add_3_0 11 rfl rfl)
theorem dJ2_add_3_12 : decode cJ2_add_3 12 = .ok (.putfield 63, 3) := dk_181 0 63 (dk_at dksJ2_add_3_0 12 rfl rfl)
theorem dJ2_add_3_15 : decode cJ2_add_3 15 = .ok (.aload_n 0, 1) := dk_42 (dk_at dksJ2_add_3_0 15 rfl rfl)
theorem dJ2_add_3_16 : decode cJ2_add_3 16 = .ok (.getfield 48, 3) := dk_180 0 48 (dk_at dksJ2_add_3_0 16 rfl rfl)
theorem dJ2_add_3_19 : decode cJ2_add_3 19 = .ok (.dup, 1) := dk_89 (dk_at dksJ2_add_3_0 19 rfl rfl)
theorem dJ2_add_3_20 : decode cJ2_add_3 20 = .ok (.istore_n 3, 1) := dk_62 (dk_at dksJ2_add_3_0 20 rfl rfl)
theorem dJ2_add_3_21 : decode cJ2_add_3 21 = .ok (.aload_n 0, 1) := dk_42 (dk_at dksJ2_add_3_0 21 rfl rfl)
theorem dJ2_add_3_22 : decode cJ2_add_3 22 = .ok (.getfield 9, 3) := dk_180 0 9 (dk_at dksJ2_add_3_1 0 rfl rfl)
theorem dJ2_add_3_25 : decode cJ2_add_3 25 = .ok (.dup, 1) := dk_89 (dk_at dksJ2_add_3_1 3 rfl rfl)
theorem dJ2_add_3_26 : decode cJ2_add_3 26 = .ok (.astore 4, 2) := dk_58 4 (dk_at dksJ2_add_3_1 4 rfl rfl)
theorem dJ2_add_3_28 : decode cJ2_add_3 28 = .ok (.arraylength, 1) := dk_190 (dk_at dksJ2_add_3_1 6 rfl rfl)
theorem dJ2_add_3_29 : decode cJ2_add_3 29 = .ok (.if_icmp .ne 9, 3) := dk_160 0 9 (dk_at dksJ2_add_3_1 7 rfl rfl)
theorem dJ2_add_3_32 : decode cJ2_add_3 32 = .ok (.aload_n 0, 1) := dk_42 (dk_at dksJ2_add_3_1 10 rfl rfl)
theorem dJ2_add_3_33 : decode cJ2_add_3 33 = .ok (.invokevirtual 129, 3) := dk_182 0 129 (dk_at dksJ2_add_3_1 11 rfl rfl)
theorem dJ2_add_3_36 : decode cJ2_add_3 36 = .ok (.astore 4, 2) := dk_58 4 (dk_at dksJ2_add_3_1 14 rfl rfl)
theorem dJ2_add_3_38 : decode cJ2_add_3 38 = .ok (.aload 4, 2) := dk_25 4 (dk_at dksJ2_add_3_1 16 rfl rfl)
theorem dJ2_add_3_40 : decode cJ2_add_3 40 = .ok (.iload_n 1, 1) := dk_27 (dk_at dksJ2_add_3_1 18 rfl rfl)
theorem dJ2_add_3_41 : decode cJ2_add_3 41 = .ok (.aload 4, 2) := dk_25 4 (dk_at dksJ2_add_3_1 19 rfl rfl)
theorem dJ2_add_3_43 : decode cJ2_add_3 43 = .ok (.iload_n 1, 1) := dk_27 (dk_at dksJ2_add_3_1 21 rfl rfl)
theorem dJ2_add_3_44 : decode cJ2_add_3 44 = .ok (.iconst 1, 1) := dk_4 (dk_at dksJ2_add_3_1 22 rfl rfl)
theorem dJ2_add_3_45 : decode cJ2_add_3 45 = .ok (.iadd, 1) := dk_96 (dk_at dksJ2_add_3_1 23 rfl rfl)
theorem dJ2_add_3_46 : decode cJ2_add_3 46 = .ok (.iload_n 3, 1) := dk_29 (dk_at dksJ2_add_3_2 0 rfl rfl)
theorem dJ2_add_3_47 : decode cJ2_add_3 47 = .ok (.iload_n 1, 1) := dk_27 (dk_at dksJ2_add_3_2 1 rfl rfl)
theorem dJ2_add_3_48 : decode cJ2_add_3 48 = .ok (.isub, 1) := dk_100 (dk_at dksJ2_add_3_2 2 rfl rfl)
theorem dJ2_add_3_49 : decode cJ2_add_3 49 = .ok (.invokestatic 112, 3) := dk_184 0 112 (dk_at dksJ2_add_3_2 3 rfl rfl)
theorem dJ2_add_3_52 : decode cJ2_add_3 52 = .ok (.aload 4, 2) := dk_25 4 (dk_at dksJ2_add_3_2 6 rfl rfl)
theorem dJ2_add_3_54 : decode cJ2_add_3 54 = .ok (.iload_n 1, 1) := dk_27 (dk_at dksJ2_add_3_2 8 rfl rfl)
theorem dJ2_add_3_55 : decode cJ2_add_3 55 = .ok (.aload_n 2, 1) := dk_44 (dk_at dksJ2_add_3_2 9 rfl rfl)
theorem dJ2_add_3_56 : decode cJ2_add_3 56 = .ok (.aastore, 1) := dk_83 (dk_at dksJ2_add_3_2 10 rfl rfl)
theorem dJ2_add_3_57 : decode cJ2_add_3 57 = .ok (.aload_n 0, 1) := dk_42 (dk_at dksJ2_add_3_2 11 rfl rfl)
theorem dJ2_add_3_58 : decode cJ2_add_3 58 = .ok (.iload_n 3, 1) := dk_29 (dk_at dksJ2_add_3_2 12 rfl rfl)
theorem dJ2_add_3_59 : decode cJ2_add_3 59 = .ok (.iconst 1, 1) := dk_4 (dk_at dksJ2_add_3_2 13 rfl rfl)
theorem dJ2_add_3_60 : decode cJ2_add_3 60 = .ok (.iadd, 1) := dk_96 (dk_at dksJ2_add_3_2 14 rfl rfl)
theorem dJ2_add_3_61 : decode cJ2_add_3 61 = .ok (.putfield 48, 3) := dk_181 0 48 (dk_at dksJ2_add_3_2 15 rfl rfl)
theorem dJ2_add_3_64 : decode cJ2_add_3 64 = .ok (.return_, 1) := dk_177 (dk_at dksJ2_add_3_2 18 rfl rfl)
abbrev cJ2_rangeCheckForAdd : ByteArray := prog_45_method_45_code
def yJ2_rangeCheckForAdd : MethodName := ⟨RJ2, "rangeCheckForAdd", "(I)V"⟩
def dkwJ2_rangeCheckForAdd_1 : List UInt8 := [191, 177]
abbrev dktJ2_rangeCheckForAdd_1 : List UInt8 := dkwJ2_rangeCheckForAdd_1 ++ []
def dkwJ2_rangeCheckForAdd_0 : List UInt8 := [27, 42, 180, 0, 48, 163, 0, 7, 27, 156, 0, 16, 187, 0, 187, 89, 42, 27, 182, 0, 198, 183, 0, 193]
abbrev dktJ2_rangeCheckForAdd_0 : List UInt8 := dkwJ2_rangeCheckForAdd_0 ++ dktJ2_rangeCheckForAdd_1
theorem dksJ2_rangeCheckForAdd_0 : cJ2_rangeCheckForAdd.data.toList.drop 0 = dktJ2_rangeCheckForAdd_0 := by decide +kernel
theorem dksJ2_rangeCheckForAdd_1 : cJ2_rangeCheckForAdd.data.toList.drop 24 = dktJ2_rangeCheckForAdd_1 := dk_seg dksJ2_rangeCheckForAdd_0 24 rfl rfl
theorem dJ2_rangeCheckForAdd_0 : decode cJ2_rangeCheckForAdd 0 = .ok (.iload_n 1, 1) := dk_27 (dk_at dksJ2_rangeCheckForAdd_0 0 rfl rfl)
theorem dJ2_rangeCheckForAdd_1 : decode cJ2_rangeCheckForAdd 1 = .ok (.aload_n 0, 1) := dk_42 (dk_at dksJ2_rangeCheckForAdd_0 1 rfl rfl)
theorem dJ2_rangeCheckForAdd_2 : decode cJ2_rangeCheckForAdd 2 = .ok (.getfield 48, 3) := dk_180 0 48 (dk_at dksJ2_rangeCheckForAdd_0 2 rfl rfl)
theorem dJ2_rangeCheckForAdd_5 : decode cJ2_rangeCheckForAdd 5 = .ok (.if_icmp .gt 7, 3) := dk_163 0 7 (dk_at dksJ2_rangeCheckForAdd_0 5 rfl rfl)
theorem dJ2_rangeCheckForAdd_8 : decode cJ2_rangeCheckForAdd 8 = .ok (.iload_n 1, 1) := dk_27 (dk_at dksJ2_rangeCheckForAdd_0 8 rfl rfl)
theorem dJ2_rangeCheckForAdd_9 : decode cJ2_rangeCheckForAdd 9 = .ok (.ifCond .ge 16, 3) := dk_156 0 16 (dk_at dksJ2_rangeCheckForAdd_0 9 rfl rfl)
theorem dJ2_rangeCheckForAdd_12 : decode cJ2_rangeCheckForAdd 12 = .ok (.new 187, 3) := dk_187 0 187 (dk_at dksJ2_rangeCheckForAdd_0 12 rfl rfl)
theorem dJ2_rangeCheckForAdd_15 : decode cJ2_rangeCheckForAdd 15 = .ok (.dup, 1) := dk_89 (dk_at dksJ2_rangeCheckForAdd_0 15 rfl rfl)
theorem dJ2_rangeCheckForAdd_16 : decode cJ2_rangeCheckForAdd 16 = .ok (.aload_n 0, 1) := dk_42 (dk_at dksJ2_rangeCheckForAdd_0 16 rfl rfl)
theorem dJ2_rangeCheckForAdd_17 : decode cJ2_rangeCheckForAdd 17 = .ok (.iload_n 1, 1) := dk_27 (dk_at dksJ2_rangeCheckForAdd_0 17 rfl rfl)
theorem dJ2_rangeCheckForAdd_18 : decode cJ2_rangeCheckForAdd 18 = .ok (.invokevirtual 198, 3) := dk_182 0 198 (dk_at dksJ2_rangeCheckForAdd_0 18 rfl rfl)
theorem dJ2_rangeCheckForAdd_21 : decode cJ2_rangeCheckForAdd 21 = .ok (.invokespecial 193, 3) := dk_183 0 193 (dk_at dksJ2_rangeCheckForAdd_0 21 rfl rfl)
theorem dJ2_rangeCheckForAdd_24 : decode cJ2_rangeCheckForAdd 24 = .ok (.athrow, 1) := dk_191 (dk_at dksJ2_rangeCheckForAdd_1 0 rfl rfl)
theorem dJ2_rangeCheckForAdd_25 : decode cJ2_rangeCheckForAdd 25 = .ok (.return_, 1) := dk_177 (dk_at dksJ2_rangeCheckForAdd_1 1 rfl rfl)
abbrev cJ2_outOfBoundsMsg : ByteArray := prog_45_method_46_code
def yJ2_outOfBoundsMsg : MethodName := ⟨RJ2, "outOfBoundsMsg", "(I)Ljava/lang/String;"⟩
def dkwJ2_outOfBoundsMsg_1 : List UInt8 := [180, 0, 48, 182, 0, 29, 182, 0, 32, 176]
abbrev dktJ2_outOfBoundsMsg_1 : List UInt8 := dkwJ2_outOfBoundsMsg_1 ++ []
def dkwJ2_outOfBoundsMsg_0 : List UInt8 := [187, 0, 20, 89, 183, 0, 22, 18, 201, 182, 0, 25, 27, 182, 0, 29, 18, 203, 182, 0, 25, 42]
abbrev dktJ2_outOfBoundsMsg_0 : List UInt8 := dkwJ2_outOfBoundsMsg_0 ++ dktJ2_outOfBoundsMsg_1
theorem dksJ2_outOfBoundsMsg_0 : cJ2_outOfBoundsMsg.data.toList.drop 0 = dktJ2_outOfBoundsMsg_0 := by decide +kernel
theorem dksJ2_outOfBoundsMsg_1 : cJ2_outOfBoundsMsg.data.toList.drop 22 = dktJ2_outOfBoundsMsg_1 := dk_seg dksJ2_outOfBoundsMsg_0 22 rfl rfl
theorem dJ2_outOfBoundsMsg_0 : decode cJ2_outOfBoundsMsg 0 = .ok (.new 20, 3) := dk_187 0 20 (dk_at dksJ2_outOfBoundsMsg_0 0 rfl rfl)
theorem dJ2_outOfBoundsMsg_3 : decode cJ2_outOfBoundsMsg 3 = .ok (.dup, 1) := dk_89 (dk_at dksJ2_outOfBoundsMsg_0 3 rfl rfl)
theorem dJ2_outOfBoundsMsg_4 : decode cJ2_outOfBoundsMsg 4 = .ok (.invokespecial 22, 3) := dk_183 0 22 (dk_at dksJ2_outOfBoundsMsg_0 4 rfl rfl)
theorem dJ2_outOfBoundsMsg_7 : decode cJ2_outOfBoundsMsg 7 = .ok (.ldc 201, 2) := dk_18 201 (dk_at dksJ2_outOfBoundsMsg_0 7 rfl rfl)
theorem dJ2_outOfBoundsMsg_9 : decode cJ2_outOfBoundsMsg 9 = .ok (.invokevirtual 25, 3) := dk_182 0 25 (dk_at dksJ2_outOfBoundsMsg_0 9 rfl rfl)
theorem dJ2_outOfBoundsMsg_12 : decode cJ2_outOfBoundsMsg 12 = .ok (.iload_n 1, 1) := dk_27 (dk_at dksJ2_outOfBoundsMsg_0 12 rfl rfl)
theorem dJ2_outOfBoundsMsg_13 : decode cJ2_outOfBoundsMsg 13 = .ok (.invokevirtual 29, 3) := dk_182 0 29 (dk_at dksJ2_outOfBoundsMsg_0 13 rfl rfl)
theorem dJ2_outOfBoundsMsg_16 : decode cJ2_outOfBoundsMsg 16 = .ok (.ldc 203, 2) := dk_18 203 (dk_at dksJ2_outOfBoundsMsg_0 16 rfl rfl)
theorem dJ2_outOfBoundsMsg_18 : decode cJ2_outOfBoundsMsg 18 = .ok (.invokevirtual 25, 3) := dk_182 0 25 (dk_at dksJ2_outOfBoundsMsg_0 18 rfl rfl)
theorem dJ2_outOfBoundsMsg_21 : decode cJ2_outOfBoundsMsg 21 = .ok (.aload_n 0, 1) := dk_42 (dk_at dksJ2_outOfBoundsMsg_0 21 rfl rfl)
theorem dJ2_outOfBoundsMsg_22 : decode cJ2_outOfBoundsMsg 22 = .ok (.getfield 48, 3) := dk_180 0 48 (dk_at dksJ2_outOfBoundsMsg_1 0 rfl rfl)
theorem dJ2_outOfBoundsMsg_25 : decode cJ2_outOfBoundsMsg 25 = .ok (.invokevirtual 29, 3) := dk_182 0 29 (dk_at dksJ2_outOfBoundsMsg_1 3 rfl rfl)
theorem dJ2_outOfBoundsMsg_28 : decode cJ2_outOfBoundsMsg 28 = .ok (.invokevirtual 32, 3) := dk_182 0 32 (dk_at dksJ2_outOfBoundsMsg_1 6 rfl rfl)
theorem dJ2_outOfBoundsMsg_31 : decode cJ2_outOfBoundsMsg 31 = .ok (.areturn, 1) := dk_176 (dk_at dksJ2_outOfBoundsMsg_1 9 rfl rfl)
abbrev cJ2_remove : ByteArray := prog_45_method_38_code
def yJ2_remove : MethodName := ⟨RJ2, "remove", "(Ljava/lang/Object;)Z"⟩
def dkwJ2_remove_3 : List UInt8 := [182, 0, 144, 4, 172]
abbrev dktJ2_remove_3 : List UInt8 := dkwJ2_remove_3 ++ []
def dkwJ2_remove_2 : List UInt8 := [21, 4, 50, 182, 0, 93, 153, 0, 6, 167, 0, 11, 132, 4, 1, 167, 255, 233, 3, 172, 42, 44, 21, 4]
abbrev dktJ2_remove_2 : List UInt8 := dkwJ2_remove_2 ++ dktJ2_remove_3
def dkwJ2_remove_1 : List UInt8 := [21, 4, 50, 199, 0, 6, 167, 0, 37, 132, 4, 1, 167, 255, 237, 21, 4, 29, 162, 0, 23, 43, 44]
abbrev dktJ2_remove_1 : List UInt8 := dkwJ2_remove_1 ++ dktJ2_remove_2
def dkwJ2_remove_0 : List UInt8 := [42, 180, 0, 9, 77, 42, 180, 0, 48, 62, 3, 54, 4, 43, 199, 0, 25, 21, 4, 29, 162, 0, 45, 44]
abbrev dktJ2_remove_0 : List UInt8 := dkwJ2_remove_0 ++ dktJ2_remove_1
theorem dksJ2_remove_0 : cJ2_remove.data.toList.drop 0 = dktJ2_remove_0 := by decide +kernel
theorem dksJ2_remove_1 : cJ2_remove.data.toList.drop 24 = dktJ2_remove_1 := dk_seg dksJ2_remove_0 24 rfl rfl
theorem dksJ2_remove_2 : cJ2_remove.data.toList.drop 47 = dktJ2_remove_2 := dk_seg dksJ2_remove_1 23 rfl rfl
theorem dksJ2_remove_3 : cJ2_remove.data.toList.drop 71 = dktJ2_remove_3 := dk_seg dksJ2_remove_2 24 rfl rfl
theorem dJ2_remove_0 : decode cJ2_remove 0 = .ok (.aload_n 0, 1) := dk_42 (dk_at dksJ2_remove_0 0 rfl rfl)
theorem dJ2_remove_1 : decode cJ2_remove 1 = .ok (.getfield 9, 3) := dk_180 0 9 (dk_at dksJ2_remove_0 1 rfl rfl)
theorem dJ2_remove_4 : decode cJ2_remove 4 = .ok (.astore_n 2, 1) := dk_77 (dk_at dksJ2_remove_0 4 rfl rfl)
theorem dJ2_remove_5 : decode cJ2_remove 5 = .ok (.aload_n 0, 1) := dk_42 (dk_at dksJ2_remove_0 5 rfl rfl)
theorem dJ2_remove_6 : decode cJ2_remove 6 = .ok (.getfield 48, 3) := dk_180 0 48 (dk_at dksJ2_remove_0 6 rfl rfl)
theorem dJ2_remove_9 : decode cJ2_remove 9 = .ok (.istore_n 3, 1) := dk_62 (dk_at dksJ2_remove_0 9 rfl rfl)
theorem dJ2_remove_10 : decode cJ2_remove 10 = .ok (.iconst 0, 1) := dk_3 (dk_at dksJ2_remove_0 10 rfl rfl)
theorem dJ2_remove_11 : decode cJ2_remove 11 = .ok (.istore 4, 2) := dk_54 4 (dk_at dksJ2_remove_0 11 rfl rfl)
theorem dJ2_remove_13 : decode cJ2_remove 13 = .ok (.aload_n 1, 1) := dk_43 (dk_at dksJ2_remove_0 13 rfl rfl)
theorem dJ2_remove_14 : decode cJ2_remove 14 = .ok (.ifnonnull 25, 3) := dk_199 0 25 (dk_at dksJ2_remove_0 14 rfl rfl)
theorem dJ2_remove_17 : decode cJ2_remove 17 = .ok (.iload 4, 2) := dk_21 4 (dk_at dksJ2_remove_0 17 rfl rfl)
theorem dJ2_remove_19 : decode cJ2_remove 19 = .ok (.iload_n 3, 1) := dk_29 (dk_at dksJ2_remove_0 19 rfl rfl)
theorem dJ2_remove_20 : decode cJ2_remove 20 = .ok (.if_icmp .ge 45, 3) := dk_162 0 45 (dk_at dksJ2_remove_0 20 rfl rfl)
theorem dJ2_remove_23 : decode cJ2_remove 23 = .ok (.aload_n 2, 1) := dk_44 (dk_at dksJ2_remove_0 23 rfl rfl)
theorem dJ2_remove_24 : decode cJ2_remove 24 = .ok (.iload 4, 2) := dk_21 4 (dk_at dksJ2_remove_1 0 rfl rfl)
theorem dJ2_remove_26 : decode cJ2_remove 26 = .ok (.aaload, 1) := dk_50 (dk_at dksJ2_remove_1 2 rfl rfl)
theorem dJ2_remove_27 : decode cJ2_remove 27 = .ok (.ifnonnull 6, 3) := dk_199 0 6 (dk_at dksJ2_remove_1 3 rfl rfl)
theorem dJ2_remove_30 : decode cJ2_remove 30 = .ok (.goto 37, 3) := dk_167 0 37 (dk_at dksJ2_remove_1 6 rfl rfl)
theorem dJ2_remove_33 : decode cJ2_remove 33 = .ok (.iinc 4 1, 3) := dk_132 4 1 (dk_at dksJ2_remove_1 9 rfl rfl)
theorem dJ2_remove_36 : decode cJ2_remove 36 = .ok (.goto (-19), 3) := dk_167 255 237 (dk_at dksJ2_remove_1 12 rfl rfl)
theorem dJ2_remove_39 : decode cJ2_remove 39 = .ok (.iload 4, 2) := dk_21 4 (dk_at dksJ2_remove_1 15 rfl rfl)
theorem dJ2_remove_41 : decode cJ2_remove 41 = .ok (.iload_n 3, 1) := dk_29 (dk_at dksJ2_remove_1 17 rfl rfl)
theorem dJ2_remove_42 : decode cJ2_remove 42 = .ok (.if_icmp .ge 23, 3) := dk_162 0 23 (dk_at dksJ2_remove_1 18 rfl rfl)
theorem dJ2_remove_45 : decode cJ2_remove 45 = .ok (.aload_n 1, 1) := dk_43 (dk_at dksJ2_remove_1 21 rfl rfl)
theorem dJ2_remove_46 : decode cJ2_remove 46 = .ok (.aload_n 2, 1) := dk_44 (dk_at dksJ2_remove_1 22 rfl rfl)
theorem dJ2_remove_47 : decode cJ2_remove 47 = .ok (.iload 4, 2) := dk_21 4 (dk_at dksJ2_remove_2 0 rfl rfl)
theorem dJ2_remove_49 : decode cJ2_remove 49 = .ok (.aaload, 1) := dk_50 (dk_at dksJ2_remove_2 2 rfl rfl)
theorem dJ2_remove_50 : decode cJ2_remove 50 = .ok (.invokevirtual 93, 3) := dk_182 0 93 (dk_at dksJ2_remove_2 3 rfl rfl)
theorem dJ2_remove_53 : decode cJ2_remove 53 = .ok (.ifCond .eq 6, 3) := dk_153 0 6 (dk_at dksJ2_remove_2 6 rfl rfl)
theorem dJ2_remove_56 : decode cJ2_remove 56 = .ok (.goto 11, 3) := dk_167 0 11 (dk_at dksJ2_remove_2 9 rfl rfl)
theorem dJ2_remove_59 : decode cJ2_remove 59 = .ok (.iinc 4 1, 3) := dk_132 4 1 (dk_at dksJ2_remove_2 12 rfl rfl)
theorem dJ2_remove_62 : decode cJ2_remove 62 = .ok (.goto (-23), 3) := dk_167 255 233 (dk_at dksJ2_remove_2 15 rfl rfl)
theorem dJ2_remove_65 : decode cJ2_remove 65 = .ok (.iconst 0, 1) := dk_3 (dk_at dksJ2_remove_2 18 rfl rfl)
theorem dJ2_remove_66 : decode cJ2_remove 66 = .ok (.ireturn, 1) := dk_172 (dk_at dksJ2_remove_2 19 rfl rfl)
theorem dJ2_remove_67 : decode cJ2_remove 67 = .ok (.aload_n 0, 1) := dk_42 (dk_at dksJ2_remove_2 20 rfl rfl)
theorem dJ2_remove_68 : decode cJ2_remove 68 = .ok (.aload_n 2, 1) := dk_44 (dk_at dksJ2_remove_2 21 rfl rfl)
theorem dJ2_remove_69 : decode cJ2_remove 69 = .ok (.iload 4, 2) := dk_21 4 (dk_at dksJ2_remove_2 22 rfl rfl)
theorem dJ2_remove_71 : decode cJ2_remove 71 = .ok (.invokevirtual 144, 3) := dk_182 0 144 (dk_at dksJ2_remove_3 0 rfl rfl)
theorem dJ2_remove_74 : decode cJ2_remove 74 = .ok (.iconst 1, 1) := dk_4 (dk_at dksJ2_remove_3 3 rfl rfl)
theorem dJ2_remove_75 : decode cJ2_remove 75 = .ok (.ireturn, 1) := dk_172 (dk_at dksJ2_remove_3 4 rfl rfl)
abbrev cJ2_fastRemove : ByteArray := prog_45_method_39_code
def yJ2_fastRemove : MethodName := ⟨RJ2, "fastRemove", "([Ljava/lang/Object;I)V"⟩
def dkwJ2_fastRemove_1 : List UInt8 := [4, 96, 43, 28, 29, 28, 100, 184, 0, 112, 43, 42, 29, 90, 181, 0, 48, 1, 83, 177]
abbrev dktJ2_fastRemove_1 : List UInt8 := dkwJ2_fastRemove_1 ++ []
def dkwJ2_fastRemove_0 : List UInt8 := [42, 89, 180, 0, 63, 4, 96, 181, 0, 63, 42, 180, 0, 48, 4, 100, 89, 62, 28, 164, 0, 15, 43, 28]
abbrev dktJ2_fastRemove_0 : List UInt8 := dkwJ2_fastRemove_0 ++ dktJ2_fastRemove_1
theorem dksJ2_fastRemove_0 : cJ2_fastRemove.data.toList.drop 0 = dktJ2_fastRemove_0 := by decide +kernel
theorem dksJ2_fastRemove_1 : cJ2_fastRemove.data.toList.drop 24 = dktJ2_fastRemove_1 := dk_seg dksJ2_fastRemove_0 24 rfl rfl
theorem dJ2_fastRemove_0 : decode cJ2_fastRemove 0 = .ok (.aload_n 0, 1) := dk_42 (dk_at dksJ2_fastRemove_0 0 rfl rfl)
theorem dJ2_fastRemove_1 : decode cJ2_fastRemove 1 = .ok (.dup, 1) := dk_89 (dk_at dksJ2_fastRemove_0 1 rfl rfl)
theorem dJ2_fastRemove_2 : decode cJ2_fastRemove 2 = .ok (.getfield 63, 3) := dk_180 0 63 (dk_at dksJ2_fastRemove_0 2 rfl rfl)
theorem dJ2_fastRemove_5 : decode cJ2_fastRemove 5 = .ok (.iconst 1, 1) := dk_4 (dk_at dksJ2_fastRemove_0 5 rfl rfl)
theorem dJ2_fastRemove_6 : decode cJ2_fastRemove 6 = .ok (.iadd, 1) := dk_96 (dk_at dksJ2_fastRemove_0 6 rfl rfl)
theorem dJ2_fastRemove_7 : decode cJ2_fastRemove 7 = .ok (.putfield 63, 3) := dk_181 0 63 (dk_at dksJ2_fastRemove_0 7 rfl rfl)
theorem dJ2_fastRemove_10 : decode cJ2_fastRemove 10 = .ok (.aload_n 0, 1) := dk_42 (dk_at dksJ2_fastRemove_0 10 rfl rfl)
theorem dJ2_fastRemove_11 : decode cJ2_fastRemove 11 = .ok (.getfield 48, 3) := dk_180 0 48 (dk_at dksJ2_fastRemove_0 11 rfl rfl)
theorem dJ2_fastRemove_14 : decode cJ2_fastRemove 14 = .ok (.iconst 1, 1) := dk_4 (dk_at dksJ2_fastRemove_0 14 rfl rfl)
theorem dJ2_fastRemove_15 : decode cJ2_fastRemove 15 = .ok (.isub, 1) := dk_100 (dk_at dksJ2_fastRemove_0 15 rfl rfl)
theorem dJ2_fastRemove_16 : decode cJ2_fastRemove 16 = .ok (.dup, 1) := dk_89 (dk_at dksJ2_fastRemove_0 16 rfl rfl)
theorem dJ2_fastRemove_17 : decode cJ2_fastRemove 17 = .ok (.istore_n 3, 1) := dk_62 (dk_at dksJ2_fastRemove_0 17 rfl rfl)
theorem dJ2_fastRemove_18 : decode cJ2_fastRemove 18 = .ok (.iload_n 2, 1) := dk_28 (dk_at dksJ2_fastRemove_0 18 rfl rfl)
theorem dJ2_fastRemove_19 : decode cJ2_fastRemove 19 = .ok (.if_icmp .le 15, 3) := dk_164 0 15 (dk_at dksJ2_fastRemove_0 19 rfl rfl)
theorem dJ2_fastRemove_22 : decode cJ2_fastRemove 22 = .ok (.aload_n 1, 1) := dk_43 (dk_at dksJ2_fastRemove_0 22 rfl rfl)
theorem dJ2_fastRemove_23 : decode cJ2_fastRemove 23 = .ok (.iload_n 2, 1) := dk_28 (dk_at dksJ2_fastRemove_0 23 rfl rfl)
theorem dJ2_fastRemove_24 : decode cJ2_fastRemove 24 = .ok (.iconst 1, 1) := dk_4 (dk_at dksJ2_fastRemove_1 0 rfl rfl)
theorem dJ2_fastRemove_25 : decode cJ2_fastRemove 25 = .ok (.iadd, 1) := dk_96 (dk_at dksJ2_fastRemove_1 1 rfl rfl)
theorem dJ2_fastRemove_26 : decode cJ2_fastRemove 26 = .ok (.aload_n 1, 1) := dk_43 (dk_at dksJ2_fastRemove_1 2 rfl rfl)
theorem dJ2_fastRemove_27 : decode cJ2_fastRemove 27 = .ok (.iload_n 2, 1) := dk_28 (dk_at dksJ2_fastRemove_1 3 rfl rfl)
theorem dJ2_fastRemove_28 : decode cJ2_fastRemove 28 = .ok (.iload_n 3, 1) := dk_29 (dk_at dksJ2_fastRemove_1 4 rfl rfl)
theorem dJ2_fastRemove_29 : decode cJ2_fastRemove 29 = .ok (.iload_n 2, 1) := dk_28 (dk_at dksJ2_fastRemove_1 5 rfl rfl)
theorem dJ2_fastRemove_30 : decode cJ2_fastRemove 30 = .ok (.isub, 1) := dk_100 (dk_at dksJ2_fastRemove_1 6 rfl rfl)
theorem dJ2_fastRemove_31 : decode cJ2_fastRemove 31 = .ok (.invokestatic 112, 3) := dk_184 0 112 (dk_at dksJ2_fastRemove_1 7 rfl rfl)
theorem dJ2_fastRemove_34 : decode cJ2_fastRemove 34 = .ok (.aload_n 1, 1) := dk_43 (dk_at dksJ2_fastRemove_1 10 rfl rfl)
theorem dJ2_fastRemove_35 : decode cJ2_fastRemove 35 = .ok (.aload_n 0, 1) := dk_42 (dk_at dksJ2_fastRemove_1 11 rfl rfl)
theorem dJ2_fastRemove_36 : decode cJ2_fastRemove 36 = .ok (.iload_n 3, 1) := dk_29 (dk_at dksJ2_fastRemove_1 12 rfl rfl)
theorem dJ2_fastRemove_37 : decode cJ2_fastRemove 37 = .ok (.dup_x1, 1) := dk_90 (dk_at dksJ2_fastRemove_1 13 rfl rfl)
theorem dJ2_fastRemove_38 : decode cJ2_fastRemove 38 = .ok (.putfield 48, 3) := dk_181 0 48 (dk_at dksJ2_fastRemove_1 14 rfl rfl)
theorem dJ2_fastRemove_41 : decode cJ2_fastRemove 41 = .ok (.aconst_null, 1) := dk_1 (dk_at dksJ2_fastRemove_1 17 rfl rfl)
theorem dJ2_fastRemove_42 : decode cJ2_fastRemove 42 = .ok (.aastore, 1) := dk_83 (dk_at dksJ2_fastRemove_1 18 rfl rfl)
theorem dJ2_fastRemove_43 : decode cJ2_fastRemove 43 = .ok (.return_, 1) := dk_177 (dk_at dksJ2_fastRemove_1 19 rfl rfl)
abbrev cJ2_set : ByteArray := prog_45_method_23_code
def yJ2_set : MethodName := ⟨RJ2, "set", "(ILjava/lang/Object;)Ljava/lang/Object;"⟩
def dkwJ2_set_0 : List UInt8 := [27, 42, 180, 0, 48, 184, 0, 118, 87, 42, 27, 182, 0, 123, 78, 42, 180, 0, 9, 27, 44, 83, 45, 176]
abbrev dktJ2_set_0 : List UInt8 := dkwJ2_set_0 ++ []
theorem dksJ2_set_0 : cJ2_set.data.toList.drop 0 = dktJ2_set_0 := by decide +kernel
theorem dJ2_set_0 : decode cJ2_set 0 = .ok (.iload_n 1, 1) := dk_27 (dk_at dksJ2_set_0 0 rfl rfl)
theorem dJ2_set_1 : decode cJ2_set 1 = .ok (.aload_n 0, 1) := dk_42 (dk_at dksJ2_set_0 1 rfl rfl)
theorem dJ2_set_2 : decode cJ2_set 2 = .ok (.getfield 48, 3) := dk_180 0 48 (dk_at dksJ2_set_0 2 rfl rfl)
theorem dJ2_set_5 : decode cJ2_set 5 = .ok (.invokestatic 118, 3) := dk_184 0 118 (dk_at dksJ2_set_0 5 rfl rfl)
theorem dJ2_set_8 : decode cJ2_set 8 = .ok (.pop, 1) := dk_87 (dk_at dksJ2_set_0 8 rfl rfl)
theorem dJ2_set_9 : decode cJ2_set 9 = .ok (.aload_n 0, 1) := dk_42 (dk_at dksJ2_set_0 9 rfl rfl)
theorem dJ2_set_10 : decode cJ2_set 10 = .ok (.iload_n 1, 1) := dk_27 (dk_at dksJ2_set_0 10 rfl rfl)
theorem dJ2_set_11 : decode cJ2_set 11 = .ok (.invokevirtual 123, 3) := dk_182 0 123 (dk_at dksJ2_set_0 11 rfl rfl)
theorem dJ2_set_14 : decode cJ2_set 14 = .ok (.astore_n 3, 1) := dk_78 (dk_at dksJ2_set_0 14 rfl rfl)
theorem dJ2_set_15 : decode cJ2_set 15 = .ok (.aload_n 0, 1) := dk_42 (dk_at dksJ2_set_0 15 rfl rfl)
theorem dJ2_set_16 : decode cJ2_set 16 = .ok (.getfield 9, 3) := dk_180 0 9 (dk_at dksJ2_set_0 16 rfl rfl)
theorem dJ2_set_19 : decode cJ2_set 19 = .ok (.iload_n 1, 1) := dk_27 (dk_at dksJ2_set_0 19 rfl rfl)
theorem dJ2_set_20 : decode cJ2_set 20 = .ok (.aload_n 2, 1) := dk_44 (dk_at dksJ2_set_0 20 rfl rfl)
theorem dJ2_set_21 : decode cJ2_set 21 = .ok (.aastore, 1) := dk_83 (dk_at dksJ2_set_0 21 rfl rfl)
theorem dJ2_set_22 : decode cJ2_set 22 = .ok (.aload_n 3, 1) := dk_45 (dk_at dksJ2_set_0 22 rfl rfl)
theorem dJ2_set_23 : decode cJ2_set 23 = .ok (.areturn, 1) := dk_176 (dk_at dksJ2_set_0 23 rfl rfl)
theorem q120 : (Jvm.Cond.initialized "java/util/ArrayList") ∈ lw_all := lw_g (lw_at lw_m1 6 rfl) rfl
theorem q183 : (Jvm.Cond.instantiable "java/util/ArrayList" (3 : Nat)) ∈ lw_all := lw_g (lw_at lw_m1 69 rfl) rfl
theorem q185 : (Jvm.Cond.instanceMethod ({ cls := "java/util/ArrayList", name := "<init>", desc := "()V" } : Jvm.MethodName)) ∈ lw_all := lw_g (lw_at lw_m1 71 rfl) rfl
theorem q186 : (Jvm.Cond.code ({ cls := "java/util/ArrayList", name := "<init>", desc := "()V" } : Jvm.MethodName) prog_45_method_2_code (1 : Nat) (Option.none : Option Jvm.ClassFile.FieldType)) ∈ lw_all := lw_g (lw_at lw_m1 72 rfl) rfl
theorem q187 : (Jvm.Cond.methodLink "java/util/ArrayList" (1 : Nat) ({ cls := "java/util/AbstractList", name := "<init>", desc := "()V" } : Jvm.MethodName)) ∈ lw_all := lw_g (lw_at lw_m1 73 rfl) rfl
theorem q194 : (Jvm.Cond.fieldLink "java/util/ArrayList" (39 : Nat) "java/util/ArrayList" "DEFAULTCAPACITY_EMPTY_ELEMENTDATA" "[Ljava/lang/Object;") ∈ lw_all := lw_g (lw_at lw_m1 80 rfl) rfl
theorem q195 : (Jvm.Cond.laysStatic "java/util/ArrayList" "DEFAULTCAPACITY_EMPTY_ELEMENTDATA" "[Ljava/lang/Object;") ∈ lw_tbl := lw_at lw_m1 81 rfl
theorem q196 : (Jvm.Cond.fieldLink "java/util/ArrayList" (9 : Nat) "java/util/ArrayList" "elementData" "[Ljava/lang/Object;") ∈ lw_all := lw_g (lw_at lw_m1 82 rfl) rfl
theorem q199 : (Jvm.Cond.fieldLink "java/util/ArrayList" (48 : Nat) "java/util/ArrayList" "size" "I") ∈ lw_all := lw_g (lw_at lw_m1 85 rfl) rfl
theorem q202 : (Jvm.Cond.sameField "java/util/ArrayList" "java/util/AbstractList" "modCount" "I") ∈ lw_all := lw_g (lw_at lw_m1 88 rfl) rfl
theorem q203 : (Jvm.Cond.fieldLink "java/util/ArrayList" (63 : Nat) "java/util/ArrayList" "modCount" "I") ∈ lw_all := lw_g (lw_at lw_m1 89 rfl) rfl
theorem q204 : (Jvm.Cond.lays "java/util/ArrayList" "java/util/ArrayList" "elementData" "[Ljava/lang/Object;") ∈ lw_all := lw_g (lw_at lw_m1 90 rfl) rfl
theorem q205 : (Jvm.Cond.soleField "java/util/ArrayList" "elementData") ∈ lw_all := lw_g (lw_at lw_m1 91 rfl) rfl
theorem q206 : (Jvm.Cond.lays "java/util/ArrayList" "java/util/ArrayList" "size" "I") ∈ lw_all := lw_g (lw_at lw_m1 92 rfl) rfl
theorem q207 : (Jvm.Cond.soleField "java/util/ArrayList" "size") ∈ lw_all := lw_g (lw_at lw_m1 93 rfl) rfl
theorem q208 : (Jvm.Cond.lays "java/util/ArrayList" "java/util/AbstractList" "modCount" "I") ∈ lw_all := lw_g (lw_at lw_m1 94 rfl) rfl
theorem q210 : (Jvm.Cond.superclass "java/util/ArrayList" "java/util/AbstractList") ∈ lw_all := lw_g (lw_at lw_m1 96 rfl) rfl
theorem q222 : (Jvm.Cond.castable "java/util/ArrayList" "java/util/List") ∈ lw_tbl := lw_at lw_m1 108 rfl
theorem q223 : (Jvm.Cond.selects "java/util/ArrayList" ({ cls := "java/util/List", name := "iterator", desc := "()Ljava/util/Iterator;" } : Jvm.MethodName) ({ cls := "java/util/ArrayList", name := "iterator", desc := "()Ljava/util/Iterator;" } : Jvm.MethodName)) ∈ lw_all := lw_g (lw_at lw_m1 109 rfl) rfl
theorem q224 : (Jvm.Cond.unhidden "java/util/ArrayList" "iterator" "()Ljava/util/Iterator;") ∈ lw_tbl := lw_at lw_m1 110 rfl
theorem q225 : (Jvm.Cond.instanceMethod ({ cls := "java/util/ArrayList", name := "iterator", desc := "()Ljava/util/Iterator;" } : Jvm.MethodName)) ∈ lw_all := lw_g (lw_at lw_m1 111 rfl) rfl
theorem q226 : (Jvm.Cond.publicMethod ({ cls := "java/util/ArrayList", name := "iterator", desc := "()Ljava/util/Iterator;" } : Jvm.MethodName)) ∈ lw_tbl := lw_at lw_m1 112 rfl
theorem q227 : (Jvm.Cond.code ({ cls := "java/util/ArrayList", name := "iterator", desc := "()Ljava/util/Iterator;" } : Jvm.MethodName) prog_45_method_55_code (1 : Nat) (Option.some (Jvm.ClassFile.FieldType.object "java/util/Iterator"))) ∈ lw_all := lw_g (lw_at lw_m1 113 rfl) rfl
theorem q228 : (Jvm.Cond.classLink "java/util/ArrayList" (267 : Nat) "java/util/ArrayList$Itr") ∈ lw_all := lw_g (lw_at lw_m1 114 rfl) rfl
theorem q230 : (Jvm.Cond.methodLink "java/util/ArrayList" (269 : Nat) ({ cls := "java/util/ArrayList$Itr", name := "<init>", desc := "(Ljava/util/ArrayList;)V" } : Jvm.MethodName)) ∈ lw_all := lw_g (lw_at lw_m1 116 rfl) rfl
theorem q393 : (Jvm.Cond.selects "java/util/ArrayList" ({ cls := "java/util/List", name := "get", desc := "(I)Ljava/lang/Object;" } : Jvm.MethodName) ({ cls := "java/util/ArrayList", name := "get", desc := "(I)Ljava/lang/Object;" } : Jvm.MethodName)) ∈ lw_all := lw_g (lw_at lw_m2 39 rfl) rfl
theorem q394 : (Jvm.Cond.unhidden "java/util/ArrayList" "get" "(I)Ljava/lang/Object;") ∈ lw_tbl := lw_at lw_m2 40 rfl
theorem q395 : (Jvm.Cond.instanceMethod ({ cls := "java/util/ArrayList", name := "get", desc := "(I)Ljava/lang/Object;" } : Jvm.MethodName)) ∈ lw_all := lw_g (lw_at lw_m2 41 rfl) rfl
theorem q396 : (Jvm.Cond.publicMethod ({ cls := "java/util/ArrayList", name := "get", desc := "(I)Ljava/lang/Object;" } : Jvm.MethodName)) ∈ lw_tbl := lw_at lw_m2 42 rfl
theorem q397 : (Jvm.Cond.code ({ cls := "java/util/ArrayList", name := "get", desc := "(I)Ljava/lang/Object;" } : Jvm.MethodName) prog_45_method_20_code (2 : Nat) (Option.some (Jvm.ClassFile.FieldType.object "java/lang/Object"))) ∈ lw_all := lw_g (lw_at lw_m2 43 rfl) rfl
theorem q398 : (Jvm.Cond.methodLink "java/util/ArrayList" (118 : Nat) ({ cls := "java/util/Objects", name := "checkIndex", desc := "(II)I" } : Jvm.MethodName)) ∈ lw_all := lw_g (lw_at lw_m2 44 rfl) rfl
theorem q404 : (Jvm.Cond.methodLink "java/util/ArrayList" (123 : Nat) ({ cls := "java/util/ArrayList", name := "elementData", desc := "(I)Ljava/lang/Object;" } : Jvm.MethodName)) ∈ lw_all := lw_g (lw_at lw_m2 50 rfl) rfl
theorem q405 : (Jvm.Cond.instanceMethod ({ cls := "java/util/ArrayList", name := "elementData", desc := "(I)Ljava/lang/Object;" } : Jvm.MethodName)) ∈ lw_all := lw_g (lw_at lw_m2 51 rfl) rfl
theorem q406 : (Jvm.Cond.selects "java/util/ArrayList" ({ cls := "java/util/ArrayList", name := "elementData", desc := "(I)Ljava/lang/Object;" } : Jvm.MethodName) ({ cls := "java/util/ArrayList", name := "elementData", desc := "(I)Ljava/lang/Object;" } : Jvm.MethodName)) ∈ lw_all := lw_g (lw_at lw_m2 52 rfl) rfl
theorem q407 : (Jvm.Cond.code ({ cls := "java/util/ArrayList", name := "elementData", desc := "(I)Ljava/lang/Object;" } : Jvm.MethodName) prog_45_method_18_code (2 : Nat) (Option.some (Jvm.ClassFile.FieldType.object "java/lang/Object"))) ∈ lw_all := lw_g (lw_at lw_m2 53 rfl) rfl
theorem q717 : (Jvm.Cond.selects "java/util/ArrayList" ({ cls := "java/util/List", name := "add", desc := "(Ljava/lang/Object;)Z" } : Jvm.MethodName) ({ cls := "java/util/ArrayList", name := "add", desc := "(Ljava/lang/Object;)Z" } : Jvm.MethodName)) ∈ lw_all := lw_g (lw_at lw_m3 123 rfl) rfl
theorem q718 : (Jvm.Cond.unhidden "java/util/ArrayList" "add" "(Ljava/lang/Object;)Z") ∈ lw_tbl := lw_at lw_m3 124 rfl
theorem q719 : (Jvm.Cond.instanceMethod ({ cls := "java/util/ArrayList", name := "add", desc := "(Ljava/lang/Object;)Z" } : Jvm.MethodName)) ∈ lw_all := lw_g (lw_at lw_m3 125 rfl) rfl
theorem q720 : (Jvm.Cond.publicMethod ({ cls := "java/util/ArrayList", name := "add", desc := "(Ljava/lang/Object;)Z" } : Jvm.MethodName)) ∈ lw_tbl := lw_at lw_m3 126 rfl
theorem q721 : (Jvm.Cond.code ({ cls := "java/util/ArrayList", name := "add", desc := "(Ljava/lang/Object;)Z" } : Jvm.MethodName) prog_45_method_25_code (2 : Nat) (Option.some Jvm.ClassFile.FieldType.boolean)) ∈ lw_all := lw_g (lw_at lw_m3 127 rfl) rfl
theorem q722 : (Jvm.Cond.methodLink "java/util/ArrayList" (131 : Nat) ({ cls := "java/util/ArrayList", name := "add", desc := "(Ljava/lang/Object;[Ljava/lang/Object;I)V" } : Jvm.MethodName)) ∈ lw_all := lw_g (lw_at lw_m3 128 rfl) rfl
theorem q723 : (Jvm.Cond.privateMethod ({ cls := "java/util/ArrayList", name := "add", desc := "(Ljava/lang/Object;[Ljava/lang/Object;I)V" } : Jvm.MethodName)) ∈ lw_tbl := lw_at lw_m3 129 rfl
theorem q724 : (Jvm.Cond.instanceMethod ({ cls := "java/util/ArrayList", name := "add", desc := "(Ljava/lang/Object;[Ljava/lang/Object;I)V" } : Jvm.MethodName)) ∈ lw_all := lw_g (lw_at lw_m3 130 rfl) rfl
theorem q725 : (Jvm.Cond.code ({ cls := "java/util/ArrayList", name := "add", desc := "(Ljava/lang/Object;[Ljava/lang/Object;I)V" } : Jvm.MethodName) prog_45_method_24_code (4 : Nat) (Option.none : Option Jvm.ClassFile.FieldType)) ∈ lw_all := lw_g (lw_at lw_m3 131 rfl) rfl
theorem q726 : (Jvm.Cond.methodLink "java/util/ArrayList" (129 : Nat) ({ cls := "java/util/ArrayList", name := "grow", desc := "()[Ljava/lang/Object;" } : Jvm.MethodName)) ∈ lw_all := lw_g (lw_at lw_m3 132 rfl) rfl
theorem q727 : (Jvm.Cond.privateMethod ({ cls := "java/util/ArrayList", name := "grow", desc := "()[Ljava/lang/Object;" } : Jvm.MethodName)) ∈ lw_tbl := lw_at lw_m3 133 rfl
theorem q728 : (Jvm.Cond.instanceMethod ({ cls := "java/util/ArrayList", name := "grow", desc := "()[Ljava/lang/Object;" } : Jvm.MethodName)) ∈ lw_all := lw_g (lw_at lw_m3 134 rfl) rfl
theorem q729 : (Jvm.Cond.code ({ cls := "java/util/ArrayList", name := "grow", desc := "()[Ljava/lang/Object;" } : Jvm.MethodName) prog_45_method_7_code (1 : Nat) (Option.some (Jvm.ClassFile.FieldType.array (Jvm.ClassFile.FieldType.object "java/lang/Object")))) ∈ lw_all := lw_g (lw_at lw_m3 135 rfl) rfl
theorem q730 : (Jvm.Cond.methodLink "java/util/ArrayList" (69 : Nat) ({ cls := "java/util/ArrayList", name := "grow", desc := "(I)[Ljava/lang/Object;" } : Jvm.MethodName)) ∈ lw_all := lw_g (lw_at lw_m3 136 rfl) rfl
theorem q731 : (Jvm.Cond.privateMethod ({ cls := "java/util/ArrayList", name := "grow", desc := "(I)[Ljava/lang/Object;" } : Jvm.MethodName)) ∈ lw_tbl := lw_at lw_m3 137 rfl
theorem q732 : (Jvm.Cond.instanceMethod ({ cls := "java/util/ArrayList", name := "grow", desc := "(I)[Ljava/lang/Object;" } : Jvm.MethodName)) ∈ lw_all := lw_g (lw_at lw_m3 138 rfl) rfl
theorem q733 : (Jvm.Cond.code ({ cls := "java/util/ArrayList", name := "grow", desc := "(I)[Ljava/lang/Object;" } : Jvm.MethodName) prog_45_method_6_code (4 : Nat) (Option.some (Jvm.ClassFile.FieldType.array (Jvm.ClassFile.FieldType.object "java/lang/Object")))) ∈ lw_all := lw_g (lw_at lw_m3 139 rfl) rfl
theorem q734 : (Jvm.Cond.methodLink "java/util/ArrayList" (73 : Nat) ({ cls := "jdk/internal/util/ArraysSupport", name := "newLength", desc := "(III)I" } : Jvm.MethodName)) ∈ lw_all := lw_g (lw_at lw_m3 140 rfl) rfl
theorem q735 : (Jvm.Cond.methodLink "java/util/ArrayList" (66 : Nat) ({ cls := "java/util/Arrays", name := "copyOf", desc := "([Ljava/lang/Object;I)[Ljava/lang/Object;" } : Jvm.MethodName)) ∈ lw_all := lw_g (lw_at lw_m3 141 rfl) rfl
theorem q762 : (Jvm.Cond.selects "java/util/ArrayList" ({ cls := "java/lang/Object", name := "getClass", desc := "()Ljava/lang/Class;" } : Jvm.MethodName) ({ cls := "java/lang/Object", name := "getClass", desc := "()Ljava/lang/Class;" } : Jvm.MethodName)) ∈ lw_all := lw_g (lw_at lw_m3 168 rfl) rfl
theorem q776 : (Jvm.Cond.methodLink "java/util/ArrayList" (79 : Nat) ({ cls := "java/lang/Math", name := "max", desc := "(II)I" } : Jvm.MethodName)) ∈ lw_all := lw_g (lw_at lw_m3 182 rfl) rfl
theorem q777 : (Jvm.Cond.classLink "java/util/ArrayList" (7 : Nat) "java/lang/Object") ∈ lw_all := lw_g (lw_at lw_m3 183 rfl) rfl
theorem q896 : (Jvm.Cond.selects "java/util/ArrayList" ({ cls := "java/util/List", name := "size", desc := "()I" } : Jvm.MethodName) ({ cls := "java/util/ArrayList", name := "size", desc := "()I" } : Jvm.MethodName)) ∈ lw_all := lw_g (lw_at lw_m4 62 rfl) rfl
theorem q897 : (Jvm.Cond.unhidden "java/util/ArrayList" "size" "()I") ∈ lw_tbl := lw_at lw_m4 63 rfl
theorem q898 : (Jvm.Cond.instanceMethod ({ cls := "java/util/ArrayList", name := "size", desc := "()I" } : Jvm.MethodName)) ∈ lw_all := lw_g (lw_at lw_m4 64 rfl) rfl
theorem q899 : (Jvm.Cond.publicMethod ({ cls := "java/util/ArrayList", name := "size", desc := "()I" } : Jvm.MethodName)) ∈ lw_tbl := lw_at lw_m4 65 rfl
theorem q900 : (Jvm.Cond.code ({ cls := "java/util/ArrayList", name := "size", desc := "()I" } : Jvm.MethodName) prog_45_method_8_code (1 : Nat) (Option.some Jvm.ClassFile.FieldType.int)) ∈ lw_all := lw_g (lw_at lw_m4 66 rfl) rfl
theorem q1162 : (Jvm.Cond.selects "java/util/ArrayList" ({ cls := "java/util/List", name := "add", desc := "(ILjava/lang/Object;)V" } : Jvm.MethodName) ({ cls := "java/util/ArrayList", name := "add", desc := "(ILjava/lang/Object;)V" } : Jvm.MethodName)) ∈ lw_all := lw_g (lw_at lw_m5 88 rfl) rfl
theorem q1163 : (Jvm.Cond.unhidden "java/util/ArrayList" "add" "(ILjava/lang/Object;)V") ∈ lw_tbl := lw_at lw_m5 89 rfl
theorem q1164 : (Jvm.Cond.instanceMethod ({ cls := "java/util/ArrayList", name := "add", desc := "(ILjava/lang/Object;)V" } : Jvm.MethodName)) ∈ lw_all := lw_g (lw_at lw_m5 90 rfl) rfl
theorem q1165 : (Jvm.Cond.publicMethod ({ cls := "java/util/ArrayList", name := "add", desc := "(ILjava/lang/Object;)V" } : Jvm.MethodName)) ∈ lw_tbl := lw_at lw_m5 91 rfl
theorem q1166 : (Jvm.Cond.code ({ cls := "java/util/ArrayList", name := "add", desc := "(ILjava/lang/Object;)V" } : Jvm.MethodName) prog_45_method_26_code (5 : Nat) (Option.none : Option Jvm.ClassFile.FieldType)) ∈ lw_all := lw_g (lw_at lw_m5 92 rfl) rfl
theorem q1167 : (Jvm.Cond.methodLink "java/util/ArrayList" (135 : Nat) ({ cls := "java/util/ArrayList", name := "rangeCheckForAdd", desc := "(I)V" } : Jvm.MethodName)) ∈ lw_all := lw_g (lw_at lw_m5 93 rfl) rfl
theorem q1168 : (Jvm.Cond.privateMethod ({ cls := "java/util/ArrayList", name := "rangeCheckForAdd", desc := "(I)V" } : Jvm.MethodName)) ∈ lw_tbl := lw_at lw_m5 94 rfl
theorem q1169 : (Jvm.Cond.instanceMethod ({ cls := "java/util/ArrayList", name := "rangeCheckForAdd", desc := "(I)V" } : Jvm.MethodName)) ∈ lw_all := lw_g (lw_at lw_m5 95 rfl) rfl
theorem q1170 : (Jvm.Cond.code ({ cls := "java/util/ArrayList", name := "rangeCheckForAdd", desc := "(I)V" } : Jvm.MethodName) prog_45_method_45_code (2 : Nat) (Option.none : Option Jvm.ClassFile.FieldType)) ∈ lw_all := lw_g (lw_at lw_m5 96 rfl) rfl
theorem q1171 : (Jvm.Cond.classLink "java/util/ArrayList" (187 : Nat) "java/lang/IndexOutOfBoundsException") ∈ lw_all := lw_g (lw_at lw_m5 97 rfl) rfl
theorem q1172 : (Jvm.Cond.methodLink "java/util/ArrayList" (198 : Nat) ({ cls := "java/util/ArrayList", name := "outOfBoundsMsg", desc := "(I)Ljava/lang/String;" } : Jvm.MethodName)) ∈ lw_all := lw_g (lw_at lw_m5 98 rfl) rfl
theorem q1173 : (Jvm.Cond.privateMethod ({ cls := "java/util/ArrayList", name := "outOfBoundsMsg", desc := "(I)Ljava/lang/String;" } : Jvm.MethodName)) ∈ lw_tbl := lw_at lw_m5 99 rfl
theorem q1174 : (Jvm.Cond.instanceMethod ({ cls := "java/util/ArrayList", name := "outOfBoundsMsg", desc := "(I)Ljava/lang/String;" } : Jvm.MethodName)) ∈ lw_all := lw_g (lw_at lw_m5 100 rfl) rfl
theorem q1175 : (Jvm.Cond.code ({ cls := "java/util/ArrayList", name := "outOfBoundsMsg", desc := "(I)Ljava/lang/String;" } : Jvm.MethodName) prog_45_method_46_code (2 : Nat) (Option.some (Jvm.ClassFile.FieldType.object "java/lang/String"))) ∈ lw_all := lw_g (lw_at lw_m5 101 rfl) rfl
theorem q1176 : (Jvm.Cond.classLink "java/util/ArrayList" (20 : Nat) "java/lang/StringBuilder") ∈ lw_all := lw_g (lw_at lw_m5 102 rfl) rfl
theorem q1177 : (Jvm.Cond.methodLink "java/util/ArrayList" (22 : Nat) ({ cls := "java/lang/StringBuilder", name := "<init>", desc := "()V" } : Jvm.MethodName)) ∈ lw_all := lw_g (lw_at lw_m5 103 rfl) rfl
theorem q1178 : (Jvm.Cond.stringRef "java/util/ArrayList" (201 : Nat) "Index: ") ∈ lw_tbl := lw_at lw_m5 104 rfl
theorem q1179 : (Jvm.Cond.methodLink "java/util/ArrayList" (25 : Nat) ({ cls := "java/lang/StringBuilder", name := "append", desc := "(Ljava/lang/String;)Ljava/lang/StringBuilder;" } : Jvm.MethodName)) ∈ lw_all := lw_g (lw_at lw_m5 105 rfl) rfl
theorem q1180 : (Jvm.Cond.methodLink "java/util/ArrayList" (29 : Nat) ({ cls := "java/lang/StringBuilder", name := "append", desc := "(I)Ljava/lang/StringBuilder;" } : Jvm.MethodName)) ∈ lw_all := lw_g (lw_at lw_m5 106 rfl) rfl
theorem q1181 : (Jvm.Cond.stringRef "java/util/ArrayList" (203 : Nat) ", Size: ") ∈ lw_tbl := lw_at lw_m5 107 rfl
theorem q1182 : (Jvm.Cond.methodLink "java/util/ArrayList" (32 : Nat) ({ cls := "java/lang/StringBuilder", name := "toString", desc := "()Ljava/lang/String;" } : Jvm.MethodName)) ∈ lw_all := lw_g (lw_at lw_m5 108 rfl) rfl
theorem q1183 : (Jvm.Cond.methodLink "java/util/ArrayList" (193 : Nat) ({ cls := "java/lang/IndexOutOfBoundsException", name := "<init>", desc := "(Ljava/lang/String;)V" } : Jvm.MethodName)) ∈ lw_all := lw_g (lw_at lw_m5 109 rfl) rfl
theorem q1184 : (Jvm.Cond.methodLink "java/util/ArrayList" (112 : Nat) ({ cls := "java/lang/System", name := "arraycopy", desc := "(Ljava/lang/Object;ILjava/lang/Object;II)V" } : Jvm.MethodName)) ∈ lw_all := lw_g (lw_at lw_m5 110 rfl) rfl
theorem q1823 : (Jvm.Cond.selects "java/util/ArrayList" ({ cls := "java/util/List", name := "remove", desc := "(Ljava/lang/Object;)Z" } : Jvm.MethodName) ({ cls := "java/util/ArrayList", name := "remove", desc := "(Ljava/lang/Object;)Z" } : Jvm.MethodName)) ∈ lw_all := lw_g (lw_at lw_m8 29 rfl) rfl
theorem q1824 : (Jvm.Cond.unhidden "java/util/ArrayList" "remove" "(Ljava/lang/Object;)Z") ∈ lw_tbl := lw_at lw_m8 30 rfl
theorem q1825 : (Jvm.Cond.instanceMethod ({ cls := "java/util/ArrayList", name := "remove", desc := "(Ljava/lang/Object;)Z" } : Jvm.MethodName)) ∈ lw_all := lw_g (lw_at lw_m8 31 rfl) rfl
theorem q1826 : (Jvm.Cond.publicMethod ({ cls := "java/util/ArrayList", name := "remove", desc := "(Ljava/lang/Object;)Z" } : Jvm.MethodName)) ∈ lw_tbl := lw_at lw_m8 32 rfl
theorem q1827 : (Jvm.Cond.code ({ cls := "java/util/ArrayList", name := "remove", desc := "(Ljava/lang/Object;)Z" } : Jvm.MethodName) prog_45_method_38_code (5 : Nat) (Option.some Jvm.ClassFile.FieldType.boolean)) ∈ lw_all := lw_g (lw_at lw_m8 33 rfl) rfl
theorem q1829 : (Jvm.Cond.methodLink "java/util/ArrayList" (93 : Nat) ({ cls := "java/lang/Object", name := "equals", desc := "(Ljava/lang/Object;)Z" } : Jvm.MethodName)) ∈ lw_all := lw_g (lw_at lw_m8 35 rfl) rfl
theorem q1862 : (Jvm.Cond.methodLink "java/util/ArrayList" (144 : Nat) ({ cls := "java/util/ArrayList", name := "fastRemove", desc := "([Ljava/lang/Object;I)V" } : Jvm.MethodName)) ∈ lw_all := lw_g (lw_at lw_m8 68 rfl) rfl
theorem q1863 : (Jvm.Cond.privateMethod ({ cls := "java/util/ArrayList", name := "fastRemove", desc := "([Ljava/lang/Object;I)V" } : Jvm.MethodName)) ∈ lw_tbl := lw_at lw_m8 69 rfl
theorem q1864 : (Jvm.Cond.instanceMethod ({ cls := "java/util/ArrayList", name := "fastRemove", desc := "([Ljava/lang/Object;I)V" } : Jvm.MethodName)) ∈ lw_all := lw_g (lw_at lw_m8 70 rfl) rfl
theorem q1865 : (Jvm.Cond.code ({ cls := "java/util/ArrayList", name := "fastRemove", desc := "([Ljava/lang/Object;I)V" } : Jvm.MethodName) prog_45_method_39_code (4 : Nat) (Option.none : Option Jvm.ClassFile.FieldType)) ∈ lw_all := lw_g (lw_at lw_m8 71 rfl) rfl
theorem q1888 : (Jvm.Cond.selects "java/util/ArrayList" ({ cls := "java/util/List", name := "set", desc := "(ILjava/lang/Object;)Ljava/lang/Object;" } : Jvm.MethodName) ({ cls := "java/util/ArrayList", name := "set", desc := "(ILjava/lang/Object;)Ljava/lang/Object;" } : Jvm.MethodName)) ∈ lw_all := lw_g (lw_at lw_m8 94 rfl) rfl
theorem q1889 : (Jvm.Cond.unhidden "java/util/ArrayList" "set" "(ILjava/lang/Object;)Ljava/lang/Object;") ∈ lw_tbl := lw_at lw_m8 95 rfl
theorem q1890 : (Jvm.Cond.instanceMethod ({ cls := "java/util/ArrayList", name := "set", desc := "(ILjava/lang/Object;)Ljava/lang/Object;" } : Jvm.MethodName)) ∈ lw_all := lw_g (lw_at lw_m8 96 rfl) rfl
theorem q1891 : (Jvm.Cond.publicMethod ({ cls := "java/util/ArrayList", name := "set", desc := "(ILjava/lang/Object;)Ljava/lang/Object;" } : Jvm.MethodName)) ∈ lw_tbl := lw_at lw_m8 97 rfl
theorem q1892 : (Jvm.Cond.code ({ cls := "java/util/ArrayList", name := "set", desc := "(ILjava/lang/Object;)Ljava/lang/Object;" } : Jvm.MethodName) prog_45_method_23_code (4 : Nat) (Option.some (Jvm.ClassFile.FieldType.object "java/lang/Object"))) ∈ lw_all := lw_g (lw_at lw_m8 98 rfl) rfl
theorem q3237 : (Jvm.Cond.castable "java/util/ArrayList" "java/lang/Object") ∈ lw_tbl := lw_at lw_m14 3 rfl
theorem in_J2 : ∀ w ∈ wsJ20, w ∈ lw_all := lw_in wsJ20 [208, 204, 206] (by decide +kernel) (by decide +kernel)

/-! java/util/ArrayList$Itr -/
set_option maxRecDepth 100000
def RJ3 : String := "java/util/ArrayList$Itr"
def TJ3 : u_T := fun k => match k with
  | 0 => ("java/util/ArrayList$Itr", "cursor", "I", false)
  | 1 => ("java/util/ArrayList$Itr", "lastRet", "I", false)
  | 2 => ("java/util/ArrayList$Itr", "expectedModCount", "I", false)
  | _ => ("java/util/ArrayList$Itr", "this$0", "Ljava/util/ArrayList;", true)
def tyJ3 : Nat → FieldType := fun k => match k with
  | 0 => .int
  | 1 => .int
  | 2 => .int
  | _ => .object "java/util/ArrayList"
abbrev wsJ30 : List Cond := u_ws RJ3 TJ3 4
theorem nmJ3 : ∀ a, a < 4 → ∀ b, b < 4 → a ≠ b → (TJ3 a).2.1 ≠ (TJ3 b).2.1 := by decide +kernel
theorem tyJ3_ok : ∀ k, k < 4 → parseFieldDescriptor (TJ3 k).2.2.1 = some (tyJ3 k) := by decide +kernel
abbrev cJ3_init : ByteArray := prog_46_method_1_code
def yJ3_init : MethodName := ⟨RJ3, "<init>", "(Ljava/util/ArrayList;)V"⟩
def dkwJ3_init_1 : List UInt8 := [181, 0, 22, 177]
abbrev dktJ3_init_1 : List UInt8 := dkwJ3_init_1 ++ []
def dkwJ3_init_0 : List UInt8 := [42, 43, 181, 0, 1, 42, 183, 0, 7, 42, 2, 181, 0, 13, 42, 42, 180, 0, 1, 180, 0, 17]
abbrev dktJ3_init_0 : List UInt8 := dkwJ3_init_0 ++ dktJ3_init_1
theorem dksJ3_init_0 : cJ3_init.data.toList.drop 0 = dktJ3_init_0 := by decide +kernel
theorem dksJ3_init_1 : cJ3_init.data.toList.drop 22 = dktJ3_init_1 := dk_seg dksJ3_init_0 22 rfl rfl
theorem dJ3_init_0 : decode cJ3_init 0 = .ok (.aload_n 0, 1) := dk_42 (dk_at dksJ3_init_0 0 rfl rfl)
theorem dJ3_init_1 : decode cJ3_init 1 = .ok (.aload_n 1, 1) := dk_43 (dk_at dksJ3_init_0 1 rfl rfl)
theorem dJ3_init_2 : decode cJ3_init 2 = .ok (.putfield 1, 3) := dk_181 0 1 (dk_at dksJ3_init_0 2 rfl rfl)
theorem dJ3_init_5 : decode cJ3_init 5 = .ok (.aload_n 0, 1) := dk_42 (dk_at dksJ3_init_0 5 rfl rfl)
theorem dJ3_init_6 : decode cJ3_init 6 = .ok (.invokespecial 7, 3) := dk_183 0 7 (dk_at dksJ3_init_0 6 rfl rfl)
theorem dJ3_init_9 : decode cJ3_init 9 = .ok (.aload_n 0, 1) := dk_42 (dk_at dksJ3_init_0 9 rfl rfl)
theorem dJ3_init_10 : decode cJ3_init 10 = .ok (.iconst (-1), 1) := dk_2 (dk_at dksJ3_init_0 10 rfl rfl)
theorem dJ3_init_11 : decode cJ3_init 11 = .ok (.putfield 13, 3) := dk_181 0 13 (dk_at dksJ3_init_0 11 rfl rfl)
theorem dJ3_init_14 : decode cJ3_init 14 = .ok (.aload_n 0, 1) := dk_42 (dk_at dksJ3_init_0 14 rfl rfl)
theorem dJ3_init_15 : decode cJ3_init 15 = .ok (.aload_n 0, 1) := dk_42 (dk_at dksJ3_init_0 15 rfl rfl)
theorem dJ3_init_16 : decode cJ3_init 16 = .ok (.getfield 1, 3) := dk_180 0 1 (dk_at dksJ3_init_0 16 rfl rfl)
theorem dJ3_init_19 : decode cJ3_init 19 = .ok (.getfield 17, 3) := dk_180 0 17 (dk_at dksJ3_init_0 19 rfl rfl)
theorem dJ3_init_22 : decode cJ3_init 22 = .ok (.putfield 22, 3) := dk_181 0 22 (dk_at dksJ3_init_1 0 rfl rfl)
theorem dJ3_init_25 : decode cJ3_init 25 = .ok (.return_, 1) := dk_177 (dk_at dksJ3_init_1 3 rfl rfl)
abbrev cJ3_hasNext : ByteArray := prog_46_method_2_code
def yJ3_hasNext : MethodName := ⟨RJ3, "hasNext", "()Z"⟩
def dkwJ3_hasNext_0 : List UInt8 := [42, 180, 0, 25, 42, 180, 0, 1, 180, 0, 28, 159, 0, 7, 4, 167, 0, 4, 3, 172]
abbrev dktJ3_hasNext_0 : List UInt8 := dkwJ3_hasNext_0 ++ []
theorem dksJ3_hasNext_0 : cJ3_hasNext.data.toList.drop 0 = dktJ3_hasNext_0 := by decide +kernel
theorem dJ3_hasNext_0 : decode cJ3_hasNext 0 = .ok (.aload_n 0, 1) := dk_42 (dk_at dksJ3_hasNext_0 0 rfl rfl)
theorem dJ3_hasNext_1 : decode cJ3_hasNext 1 = .ok (.getfield 25, 3) := dk_180 0 25 (dk_at dksJ3_hasNext_0 1 rfl rfl)
theorem dJ3_hasNext_4 : decode cJ3_hasNext 4 = .ok (.aload_n 0, 1) := dk_42 (dk_at dksJ3_hasNext_0 4 rfl rfl)
theorem dJ3_hasNext_5 : decode cJ3_hasNext 5 = .ok (.getfield 1, 3) := dk_180 0 1 (dk_at dksJ3_hasNext_0 5 rfl rfl)
theorem dJ3_hasNext_8 : decode cJ3_hasNext 8 = .ok (.getfield 28, 3) := dk_180 0 28 (dk_at dksJ3_hasNext_0 8 rfl rfl)
theorem dJ3_hasNext_11 : decode cJ3_hasNext 11 = .ok (.if_icmp .eq 7, 3) := dk_159 0 7 (dk_at dksJ3_hasNext_0 11 rfl rfl)
theorem dJ3_hasNext_14 : decode cJ3_hasNext 14 = .ok (.iconst 1, 1) := dk_4 (dk_at dksJ3_hasNext_0 14 rfl rfl)
theorem dJ3_hasNext_15 : decode cJ3_hasNext 15 = .ok (.goto 4, 3) := dk_167 0 4 (dk_at dksJ3_hasNext_0 15 rfl rfl)
theorem dJ3_hasNext_18 : decode cJ3_hasNext 18 = .ok (.iconst 0, 1) := dk_3 (dk_at dksJ3_hasNext_0 18 rfl rfl)
theorem dJ3_hasNext_19 : decode cJ3_hasNext 19 = .ok (.ireturn, 1) := dk_172 (dk_at dksJ3_hasNext_0 19 rfl rfl)
abbrev cJ3_next : ByteArray := prog_46_method_3_code
def yJ3_next : MethodName := ⟨RJ3, "next", "()Ljava/lang/Object;"⟩
def dkwJ3_next_2 : List UInt8 := [183, 0, 43, 191, 42, 27, 4, 96, 181, 0, 25, 44, 42, 27, 90, 181, 0, 13, 50, 176]
abbrev dktJ3_next_2 : List UInt8 := dkwJ3_next_2 ++ []
def dkwJ3_next_1 : List UInt8 := [183, 0, 36, 191, 42, 180, 0, 1, 180, 0, 37, 77, 27, 44, 190, 161, 0, 11, 187, 0, 41, 89]
abbrev dktJ3_next_1 : List UInt8 := dkwJ3_next_1 ++ dktJ3_next_2
def dkwJ3_next_0 : List UInt8 := [42, 182, 0, 31, 42, 180, 0, 25, 60, 27, 42, 180, 0, 1, 180, 0, 28, 161, 0, 11, 187, 0, 34, 89]
abbrev dktJ3_next_0 : List UInt8 := dkwJ3_next_0 ++ dktJ3_next_1
theorem dksJ3_next_0 : cJ3_next.data.toList.drop 0 = dktJ3_next_0 := by decide +kernel
theorem dksJ3_next_1 : cJ3_next.data.toList.drop 24 = dktJ3_next_1 := dk_seg dksJ3_next_0 24 rfl rfl
theorem dksJ3_next_2 : cJ3_next.data.toList.drop 46 = dktJ3_next_2 := dk_seg dksJ3_next_1 22 rfl rfl
theorem dJ3_next_0 : decode cJ3_next 0 = .ok (.aload_n 0, 1) := dk_42 (dk_at dksJ3_next_0 0 rfl rfl)
theorem dJ3_next_1 : decode cJ3_next 1 = .ok (.invokevirtual 31, 3) := dk_182 0 31 (dk_at dksJ3_next_0 1 rfl rfl)
theorem dJ3_next_4 : decode cJ3_next 4 = .ok (.aload_n 0, 1) := dk_42 (dk_at dksJ3_next_0 4 rfl rfl)
theorem dJ3_next_5 : decode cJ3_next 5 = .ok (.getfield 25, 3) := dk_180 0 25 (dk_at dksJ3_next_0 5 rfl rfl)
theorem dJ3_next_8 : decode cJ3_next 8 = .ok (.istore_n 1, 1) := dk_60 (dk_at dksJ3_next_0 8 rfl rfl)
theorem dJ3_next_9 : decode cJ3_next 9 = .ok (.iload_n 1, 1) := dk_27 (dk_at dksJ3_next_0 9 rfl rfl)
theorem dJ3_next_10 : decode cJ3_next 10 = .ok (.aload_n 0, 1) := dk_42 (dk_at dksJ3_next_0 10 rfl rfl)
theorem dJ3_next_11 : decode cJ3_next 11 = .ok (.getfield 1, 3) := dk_180 0 1 (dk_at dksJ3_next_0 11 rfl rfl)
theorem dJ3_next_14 : decode cJ3_next 14 = .ok (.getfield 28, 3) := dk_180 0 28 (dk_at dksJ3_next_0 14 rfl rfl)
theorem dJ3_next_17 : decode cJ3_next 17 = .ok (.if_icmp .lt 11, 3) := dk_161 0 11 (dk_at dksJ3_next_0 17 rfl rfl)
theorem dJ3_next_20 : decode cJ3_next 20 = .ok (.new 34, 3) := dk_187 0 34 (dk_at dksJ3_next_0 20 rfl rfl)
theorem dJ3_next_23 : decode cJ3_next 23 = .ok (.dup, 1) := dk_89 (dk_at dksJ3_next_0 23 rfl rfl)
theorem dJ3_next_24 : decode cJ3_next 24 = .ok (.invokespecial 36, 3) := dk_183 0 36 (dk_at dksJ3_next_1 0 rfl rfl)
theorem dJ3_next_27 : decode cJ3_next 27 = .ok (.athrow, 1) := dk_191 (dk_at dksJ3_next_1 3 rfl rfl)
theorem dJ3_next_28 : decode cJ3_next 28 = .ok (.aload_n 0, 1) := dk_42 (dk_at dksJ3_next_1 4 rfl rfl)
theorem dJ3_next_29 : decode cJ3_next 29 = .ok (.getfield 1, 3) := dk_180 0 1 (dk_at dksJ3_next_1 5 rfl rfl)
theorem dJ3_next_32 : decode cJ3_next 32 = .ok (.getfield 37, 3) := dk_180 0 37 (dk_at dksJ3_next_1 8 rfl rfl)
theorem dJ3_next_35 : decode cJ3_next 35 = .ok (.astore_n 2, 1) := dk_77 (dk_at dksJ3_next_1 11 rfl rfl)
theorem dJ3_next_36 : decode cJ3_next 36 = .ok (.iload_n 1, 1) := dk_27 (dk_at dksJ3_next_1 12 rfl rfl)
theorem dJ3_next_37 : decode cJ3_next 37 = .ok (.aload_n 2, 1) := dk_44 (dk_at dksJ3_next_1 13 rfl rfl)
theorem dJ3_next_38 : decode cJ3_next 38 = .ok (.arraylength, 1) := dk_190 (dk_at dksJ3_next_1 14 rfl rfl)
theorem dJ3_next_39 : decode cJ3_next 39 = .ok (.if_icmp .lt 11, 3) := dk_161 0 11 (dk_at dksJ3_next_1 15 rfl rfl)
theorem dJ3_next_42 : decode cJ3_next 42 = .ok (.new 41, 3) := dk_187 0 41 (dk_at dksJ3_next_1 18 rfl rfl)
theorem dJ3_next_45 : decode cJ3_next 45 = .ok (.dup, 1) := dk_89 (dk_at dksJ3_next_1 21 rfl rfl)
theorem dJ3_next_46 : decode cJ3_next 46 = .ok (.invokespecial 43, 3) := dk_183 0 43 (dk_at dksJ3_next_2 0 rfl rfl)
theorem dJ3_next_49 : decode cJ3_next 49 = .ok (.athrow, 1) := dk_191 (dk_at dksJ3_next_2 3 rfl rfl)
theorem dJ3_next_50 : decode cJ3_next 50 = .ok (.aload_n 0, 1) := dk_42 (dk_at dksJ3_next_2 4 rfl rfl)
theorem dJ3_next_51 : decode cJ3_next 51 = .ok (.iload_n 1, 1) := dk_27 (dk_at dksJ3_next_2 5 rfl rfl)
theorem dJ3_next_52 : decode cJ3_next 52 = .ok (.iconst 1, 1) := dk_4 (dk_at dksJ3_next_2 6 rfl rfl)
theorem dJ3_next_53 : decode cJ3_next 53 = .ok (.iadd, 1) := dk_96 (dk_at dksJ3_next_2 7 rfl rfl)
theorem dJ3_next_54 : decode cJ3_next 54 = .ok (.putfield 25, 3) := dk_181 0 25 (dk_at dksJ3_next_2 8 rfl rfl)
theorem dJ3_next_57 : decode cJ3_next 57 = .ok (.aload_n 2, 1) := dk_44 (dk_at dksJ3_next_2 11 rfl rfl)
theorem dJ3_next_58 : decode cJ3_next 58 = .ok (.aload_n 0, 1) := dk_42 (dk_at dksJ3_next_2 12 rfl rfl)
theorem dJ3_next_59 : decode cJ3_next 59 = .ok (.iload_n 1, 1) := dk_27 (dk_at dksJ3_next_2 13 rfl rfl)
theorem dJ3_next_60 : decode cJ3_next 60 = .ok (.dup_x1, 1) := dk_90 (dk_at dksJ3_next_2 14 rfl rfl)
theorem dJ3_next_61 : decode cJ3_next 61 = .ok (.putfield 13, 3) := dk_181 0 13 (dk_at dksJ3_next_2 15 rfl rfl)
theorem dJ3_next_64 : decode cJ3_next 64 = .ok (.aaload, 1) := dk_50 (dk_at dksJ3_next_2 18 rfl rfl)
theorem dJ3_next_65 : decode cJ3_next 65 = .ok (.areturn, 1) := dk_176 (dk_at dksJ3_next_2 19 rfl rfl)
abbrev cJ3_checkForComodification : ByteArray := prog_46_method_6_code
def yJ3_checkForComodification : MethodName := ⟨RJ3, "checkForComodification", "()V"⟩
def dkwJ3_checkForComodification_0 : List UInt8 := [42, 180, 0, 1, 180, 0, 17, 42, 180, 0, 22, 159, 0, 11, 187, 0, 41, 89, 183, 0, 43, 191, 177]
abbrev dktJ3_checkForComodification_0 : List UInt8 := dkwJ3_checkForComodification_0 ++ []
theorem dksJ3_checkForComodification_0 : cJ3_checkForComodification.data.toList.drop 0 = dktJ3_checkForComodification_0 := by decide +kernel
theorem dJ3_checkForComodification_0 : decode cJ3_checkForComodification 0 = .ok (.aload_n 0, 1) := dk_42 (dk_at dksJ3_checkForComodification_0 0 rfl rfl)
theorem dJ3_checkForComodification_1 : decode cJ3_checkForComodification 1 = .ok (.getfield 1, 3) := dk_180 0 1 (dk_at dksJ3_checkForComodification_0 1 rfl rfl)
theorem dJ3_checkForComodification_4 : decode cJ3_checkForComodification 4 = .ok (.getfield 17, 3) := dk_180 0 17 (dk_at dksJ3_checkForComodification_0 4 rfl rfl)
theorem dJ3_checkForComodification_7 : decode cJ3_checkForComodification 7 = .ok (.aload_n 0, 1) := dk_42 (dk_at dksJ3_checkForComodification_0 7 rfl rfl)
theorem dJ3_checkForComodification_8 : decode cJ3_checkForComodification 8 = .ok (.getfield 22, 3) := dk_180 0 22 (dk_at dksJ3_checkForComodification_0 8 rfl rfl)
theorem dJ3_checkForComodification_11 : decode cJ3_checkForComodification 11 = .ok (.if_icmp .eq 11, 3) := dk_159 0 11 (dk_at dksJ3_checkForComodification_0 11 rfl rfl)
theorem dJ3_checkForComodification_14 : decode cJ3_checkForComodification 14 = .ok (.new 41, 3) := dk_187 0 41 (dk_at dksJ3_checkForComodification_0 14 rfl rfl)
theorem dJ3_checkForComodification_17 : decode cJ3_checkForComodification 17 = .ok (.dup, 1) := dk_89 (dk_at dksJ3_checkForComodification_0 17 rfl rfl)
theorem dJ3_checkForComodification_18 : decode cJ3_checkForComodification 18 = .ok (.invokespecial 43, 3) := dk_183 0 43 (dk_at dksJ3_checkForComodification_0 18 rfl rfl)
theorem dJ3_checkForComodification_21 : decode cJ3_checkForComodification 21 = .ok (.athrow, 1) := dk_191 (dk_at dksJ3_checkForComodification_0 21 rfl rfl)
theorem dJ3_checkForComodification_22 : decode cJ3_checkForComodification 22 = .ok (.return_, 1) := dk_177 (dk_at dksJ3_checkForComodification_0 22 rfl rfl)
theorem q121 : (Jvm.Cond.initialized "java/util/ArrayList$Itr") ∈ lw_all := lw_g (lw_at lw_m1 7 rfl) rfl
theorem q197 : (Jvm.Cond.fieldLink "java/util/ArrayList$Itr" (37 : Nat) "java/util/ArrayList" "elementData" "[Ljava/lang/Object;") ∈ lw_all := lw_g (lw_at lw_m1 83 rfl) rfl
theorem q198 : (Jvm.Cond.fieldLinkNest "java/util/ArrayList$Itr" (28 : Nat) "java/util/ArrayList" "size" "I" "java/util/ArrayList") ∈ lw_tbl := lw_at lw_m1 84 rfl
theorem q201 : (Jvm.Cond.fieldLink "java/util/ArrayList$Itr" (17 : Nat) "java/util/ArrayList" "modCount" "I") ∈ lw_all := lw_g (lw_at lw_m1 87 rfl) rfl
theorem q229 : (Jvm.Cond.instantiable "java/util/ArrayList$Itr" (4 : Nat)) ∈ lw_all := lw_g (lw_at lw_m1 115 rfl) rfl
theorem q231 : (Jvm.Cond.instanceMethod ({ cls := "java/util/ArrayList$Itr", name := "<init>", desc := "(Ljava/util/ArrayList;)V" } : Jvm.MethodName)) ∈ lw_all := lw_g (lw_at lw_m1 117 rfl) rfl
theorem q232 : (Jvm.Cond.code ({ cls := "java/util/ArrayList$Itr", name := "<init>", desc := "(Ljava/util/ArrayList;)V" } : Jvm.MethodName) prog_46_method_1_code (2 : Nat) (Option.none : Option Jvm.ClassFile.FieldType)) ∈ lw_all := lw_g (lw_at lw_m1 118 rfl) rfl
theorem q233 : (Jvm.Cond.methodLink "java/util/ArrayList$Itr" (7 : Nat) ({ cls := "java/lang/Object", name := "<init>", desc := "()V" } : Jvm.MethodName)) ∈ lw_all := lw_g (lw_at lw_m1 119 rfl) rfl
theorem q234 : (Jvm.Cond.fieldLink "java/util/ArrayList$Itr" (25 : Nat) "java/util/ArrayList$Itr" "cursor" "I") ∈ lw_all := lw_g (lw_at lw_m1 120 rfl) rfl
theorem q235 : (Jvm.Cond.fieldLink "java/util/ArrayList$Itr" (13 : Nat) "java/util/ArrayList$Itr" "lastRet" "I") ∈ lw_all := lw_g (lw_at lw_m1 121 rfl) rfl
theorem q236 : (Jvm.Cond.fieldLink "java/util/ArrayList$Itr" (22 : Nat) "java/util/ArrayList$Itr" "expectedModCount" "I") ∈ lw_all := lw_g (lw_at lw_m1 122 rfl) rfl
theorem q237 : (Jvm.Cond.fieldLink "java/util/ArrayList$Itr" (1 : Nat) "java/util/ArrayList$Itr" "this$0" "Ljava/util/ArrayList;") ∈ lw_all := lw_g (lw_at lw_m1 123 rfl) rfl
theorem q238 : (Jvm.Cond.lays "java/util/ArrayList$Itr" "java/util/ArrayList$Itr" "cursor" "I") ∈ lw_all := lw_g (lw_at lw_m1 124 rfl) rfl
theorem q239 : (Jvm.Cond.soleField "java/util/ArrayList$Itr" "cursor") ∈ lw_all := lw_g (lw_at lw_m1 125 rfl) rfl
theorem q240 : (Jvm.Cond.lays "java/util/ArrayList$Itr" "java/util/ArrayList$Itr" "lastRet" "I") ∈ lw_all := lw_g (lw_at lw_m1 126 rfl) rfl
theorem q241 : (Jvm.Cond.soleField "java/util/ArrayList$Itr" "lastRet") ∈ lw_all := lw_g (lw_at lw_m1 127 rfl) rfl
theorem q242 : (Jvm.Cond.lays "java/util/ArrayList$Itr" "java/util/ArrayList$Itr" "expectedModCount" "I") ∈ lw_all := lw_g (lw_at lw_m1 128 rfl) rfl
theorem q243 : (Jvm.Cond.soleField "java/util/ArrayList$Itr" "expectedModCount") ∈ lw_all := lw_g (lw_at lw_m1 129 rfl) rfl
theorem q244 : (Jvm.Cond.laysFinal "java/util/ArrayList$Itr" "java/util/ArrayList$Itr" "this$0" "Ljava/util/ArrayList;") ∈ lw_all := lw_g (lw_at lw_m1 130 rfl) rfl
theorem q245 : (Jvm.Cond.soleField "java/util/ArrayList$Itr" "this$0") ∈ lw_all := lw_g (lw_at lw_m1 131 rfl) rfl
theorem q246 : (Jvm.Cond.superclass "java/util/ArrayList$Itr" "java/lang/Object") ∈ lw_all := lw_g (lw_at lw_m1 132 rfl) rfl
theorem q290 : (Jvm.Cond.castable "java/util/ArrayList$Itr" "java/util/Iterator") ∈ lw_tbl := lw_at lw_m1 176 rfl
theorem q291 : (Jvm.Cond.selects "java/util/ArrayList$Itr" ({ cls := "java/util/Iterator", name := "hasNext", desc := "()Z" } : Jvm.MethodName) ({ cls := "java/util/ArrayList$Itr", name := "hasNext", desc := "()Z" } : Jvm.MethodName)) ∈ lw_all := lw_g (lw_at lw_m1 177 rfl) rfl
theorem q292 : (Jvm.Cond.unhidden "java/util/ArrayList$Itr" "hasNext" "()Z") ∈ lw_tbl := lw_at lw_m1 178 rfl
theorem q293 : (Jvm.Cond.instanceMethod ({ cls := "java/util/ArrayList$Itr", name := "hasNext", desc := "()Z" } : Jvm.MethodName)) ∈ lw_all := lw_g (lw_at lw_m1 179 rfl) rfl
theorem q294 : (Jvm.Cond.publicMethod ({ cls := "java/util/ArrayList$Itr", name := "hasNext", desc := "()Z" } : Jvm.MethodName)) ∈ lw_tbl := lw_at lw_m1 180 rfl
theorem q295 : (Jvm.Cond.code ({ cls := "java/util/ArrayList$Itr", name := "hasNext", desc := "()Z" } : Jvm.MethodName) prog_46_method_2_code (1 : Nat) (Option.some Jvm.ClassFile.FieldType.boolean)) ∈ lw_all := lw_g (lw_at lw_m1 181 rfl) rfl
theorem q306 : (Jvm.Cond.selects "java/util/ArrayList$Itr" ({ cls := "java/util/Iterator", name := "next", desc := "()Ljava/lang/Object;" } : Jvm.MethodName) ({ cls := "java/util/ArrayList$Itr", name := "next", desc := "()Ljava/lang/Object;" } : Jvm.MethodName)) ∈ lw_all := lw_g (lw_at lw_m1 192 rfl) rfl
theorem q307 : (Jvm.Cond.unhidden "java/util/ArrayList$Itr" "next" "()Ljava/lang/Object;") ∈ lw_tbl := lw_at lw_m1 193 rfl
theorem q308 : (Jvm.Cond.instanceMethod ({ cls := "java/util/ArrayList$Itr", name := "next", desc := "()Ljava/lang/Object;" } : Jvm.MethodName)) ∈ lw_all := lw_g (lw_at lw_m1 194 rfl) rfl
theorem q309 : (Jvm.Cond.publicMethod ({ cls := "java/util/ArrayList$Itr", name := "next", desc := "()Ljava/lang/Object;" } : Jvm.MethodName)) ∈ lw_tbl := lw_at lw_m1 195 rfl
theorem q310 : (Jvm.Cond.code ({ cls := "java/util/ArrayList$Itr", name := "next", desc := "()Ljava/lang/Object;" } : Jvm.MethodName) prog_46_method_3_code (3 : Nat) (Option.some (Jvm.ClassFile.FieldType.object "java/lang/Object"))) ∈ lw_all := lw_g (lw_at lw_m1 196 rfl) rfl
theorem q311 : (Jvm.Cond.methodLink "java/util/ArrayList$Itr" (31 : Nat) ({ cls := "java/util/ArrayList$Itr", name := "checkForComodification", desc := "()V" } : Jvm.MethodName)) ∈ lw_all := lw_g (lw_at lw_m1 197 rfl) rfl
theorem q312 : (Jvm.Cond.instanceMethod ({ cls := "java/util/ArrayList$Itr", name := "checkForComodification", desc := "()V" } : Jvm.MethodName)) ∈ lw_all := lw_g (lw_at lw_m1 198 rfl) rfl
theorem q313 : (Jvm.Cond.selects "java/util/ArrayList$Itr" ({ cls := "java/util/ArrayList$Itr", name := "checkForComodification", desc := "()V" } : Jvm.MethodName) ({ cls := "java/util/ArrayList$Itr", name := "checkForComodification", desc := "()V" } : Jvm.MethodName)) ∈ lw_all := lw_g (lw_at lw_m1 199 rfl) rfl
theorem q314 : (Jvm.Cond.code ({ cls := "java/util/ArrayList$Itr", name := "checkForComodification", desc := "()V" } : Jvm.MethodName) prog_46_method_6_code (1 : Nat) (Option.none : Option Jvm.ClassFile.FieldType)) ∈ lw_all := lw_g (lw_at lw_m1 200 rfl) rfl
theorem q315 : (Jvm.Cond.classLink "java/util/ArrayList$Itr" (34 : Nat) "java/util/NoSuchElementException") ∈ lw_all := lw_g (lw_at lw_m1 201 rfl) rfl
theorem q361 : (Jvm.Cond.methodLink "java/util/ArrayList$Itr" (36 : Nat) ({ cls := "java/util/NoSuchElementException", name := "<init>", desc := "()V" } : Jvm.MethodName)) ∈ lw_all := lw_g (lw_at lw_m2 7 rfl) rfl
theorem q763 : (Jvm.Cond.selects "java/util/ArrayList$Itr" ({ cls := "java/lang/Object", name := "getClass", desc := "()Ljava/lang/Class;" } : Jvm.MethodName) ({ cls := "java/lang/Object", name := "getClass", desc := "()Ljava/lang/Class;" } : Jvm.MethodName)) ∈ lw_all := lw_g (lw_at lw_m3 169 rfl) rfl
theorem q3238 : (Jvm.Cond.castable "java/util/ArrayList$Itr" "java/lang/Object") ∈ lw_tbl := lw_at lw_m14 4 rfl
theorem in_J3 : ∀ w ∈ wsJ30, w ∈ lw_all := lw_in wsJ30 [238, 240, 242, 244] (by decide +kernel) (by decide +kernel)

/-! java/util/ImmutableCollections$ListItr -/
set_option maxRecDepth 100000
def RJ4 : String := "java/util/ImmutableCollections$ListItr"
def TJ4 : u_T := fun k => match k with
  | 0 => ("java/util/ImmutableCollections$ListItr", "list", "Ljava/util/List;", true)
  | 1 => ("java/util/ImmutableCollections$ListItr", "size", "I", true)
  | 2 => ("java/util/ImmutableCollections$ListItr", "isListIterator", "Z", true)
  | _ => ("java/util/ImmutableCollections$ListItr", "cursor", "I", false)
def tyJ4 : Nat → FieldType := fun k => match k with
  | 0 => .object "java/util/List"
  | 1 => .int
  | 2 => .boolean
  | _ => .int
abbrev wsJ40 : List Cond := u_ws RJ4 TJ4 4
theorem nmJ4 : ∀ a, a < 4 → ∀ b, b < 4 → a ≠ b → (TJ4 a).2.1 ≠ (TJ4 b).2.1 := by decide +kernel
theorem tyJ4_ok : ∀ k, k < 4 → parseFieldDescriptor (TJ4 k).2.2.1 = some (tyJ4 k) := by decide +kernel
abbrev cJ4_init : ByteArray := prog_54_method_1_code
def yJ4_init : MethodName := ⟨RJ4, "<init>", "(Ljava/util/List;I)V"⟩
def dkwJ4_init_1 : List UInt8 := [177]
abbrev dktJ4_init_1 : List UInt8 := dkwJ4_init_1 ++ []
def dkwJ4_init_0 : List UInt8 := [42, 183, 0, 1, 42, 43, 181, 0, 7, 42, 28, 181, 0, 13, 42, 3, 181, 0, 17, 42, 3, 181, 0, 20]
abbrev dktJ4_init_0 : List UInt8 := dkwJ4_init_0 ++ dktJ4_init_1
theorem dksJ4_init_0 : cJ4_init.data.toList.drop 0 = dktJ4_init_0 := by decide +kernel
theorem dksJ4_init_1 : cJ4_init.data.toList.drop 24 = dktJ4_init_1 := dk_seg dksJ4_init_0 24 rfl rfl
theorem dJ4_init_0 : decode cJ4_init 0 = .ok (.aload_n 0, 1) := dk_42 (dk_at dksJ4_init_0 0 rfl rfl)
theorem dJ4_init_1 : decode cJ4_init 1 = .ok (.invokespecial 1, 3) := dk_183 0 1 (dk_at dksJ4_init_0 1 rfl rfl)
theorem dJ4_init_4 : decode cJ4_init 4 = .ok (.aload_n 0, 1) := dk_42 (dk_at dksJ4_init_0 4 rfl rfl)
theorem dJ4_init_5 : decode cJ4_init 5 = .ok (.aload_n 1, 1) := dk_43 (dk_at dksJ4_init_0 5 rfl rfl)
theorem dJ4_init_6 : decode cJ4_init 6 = .ok (.putfield 7, 3) := dk_181 0 7 (dk_at dksJ4_init_0 6 rfl rfl)
theorem dJ4_init_9 : decode cJ4_init 9 = .ok (.aload_n 0, 1) := dk_42 (dk_at dksJ4_init_0 9 rfl rfl)
theorem dJ4_init_10 : decode cJ4_init 10 = .ok (.iload_n 2, 1) := dk_28 (dk_at dksJ4_init_0 10 rfl rfl)
theorem dJ4_init_11 : decode cJ4_init 11 = .ok (.putfield 13, 3) := dk_181 0 13 (dk_at dksJ4_init_0 11 rfl rfl)
theorem dJ4_init_14 : decode cJ4_init 14 = .ok (.aload_n 0, 1) := dk_42 (dk_at dksJ4_init_0 14 rfl rfl)
theorem dJ4_init_15 : decode cJ4_init 15 = .ok (.iconst 0, 1) := dk_3 (dk_at dksJ4_init_0 15 rfl rfl)
theorem dJ4_init_16 : decode cJ4_init 16 = .ok (.putfield 17, 3) := dk_181 0 17 (dk_at dksJ4_init_0 16 rfl rfl)
theorem dJ4_init_19 : decode cJ4_init 19 = .ok (.aload_n 0, 1) := dk_42 (dk_at dksJ4_init_0 19 rfl rfl)
theorem dJ4_init_20 : decode cJ4_init 20 = .ok (.iconst 0, 1) := dk_3 (dk_at dksJ4_init_0 20 rfl rfl)
theorem dJ4_init_21 : decode cJ4_init 21 = .ok (.putfield 20, 3) := dk_181 0 20 (dk_at dksJ4_init_0 21 rfl rfl)
theorem dJ4_init_24 : decode cJ4_init 24 = .ok (.return_, 1) := dk_177 (dk_at dksJ4_init_1 0 rfl rfl)
abbrev cJ4_hasNext : ByteArray := prog_54_method_3_code
def yJ4_hasNext : MethodName := ⟨RJ4, "hasNext", "()Z"⟩
def dkwJ4_hasNext_0 : List UInt8 := [42, 180, 0, 17, 42, 180, 0, 13, 159, 0, 7, 4, 167, 0, 4, 3, 172]
abbrev dktJ4_hasNext_0 : List UInt8 := dkwJ4_hasNext_0 ++ []
theorem dksJ4_hasNext_0 : cJ4_hasNext.data.toList.drop 0 = dktJ4_hasNext_0 := by decide +kernel
theorem dJ4_hasNext_0 : decode cJ4_hasNext 0 = .ok (.aload_n 0, 1) := dk_42 (dk_at dksJ4_hasNext_0 0 rfl rfl)
theorem dJ4_hasNext_1 : decode cJ4_hasNext 1 = .ok (.getfield 17, 3) := dk_180 0 17 (dk_at dksJ4_hasNext_0 1 rfl rfl)
theorem dJ4_hasNext_4 : decode cJ4_hasNext 4 = .ok (.aload_n 0, 1) := dk_42 (dk_at dksJ4_hasNext_0 4 rfl rfl)
theorem dJ4_hasNext_5 : decode cJ4_hasNext 5 = .ok (.getfield 13, 3) := dk_180 0 13 (dk_at dksJ4_hasNext_0 5 rfl rfl)
theorem dJ4_hasNext_8 : decode cJ4_hasNext 8 = .ok (.if_icmp .eq 7, 3) := dk_159 0 7 (dk_at dksJ4_hasNext_0 8 rfl rfl)
theorem dJ4_hasNext_11 : decode cJ4_hasNext 11 = .ok (.iconst 1, 1) := dk_4 (dk_at dksJ4_hasNext_0 11 rfl rfl)
theorem dJ4_hasNext_12 : decode cJ4_hasNext 12 = .ok (.goto 4, 3) := dk_167 0 4 (dk_at dksJ4_hasNext_0 12 rfl rfl)
theorem dJ4_hasNext_15 : decode cJ4_hasNext 15 = .ok (.iconst 0, 1) := dk_3 (dk_at dksJ4_hasNext_0 15 rfl rfl)
theorem dJ4_hasNext_16 : decode cJ4_hasNext 16 = .ok (.ireturn, 1) := dk_172 (dk_at dksJ4_hasNext_0 16 rfl rfl)
abbrev cJ4_next : ByteArray := prog_54_method_4_code
def yJ4_next : MethodName := ⟨RJ4, "next", "()Ljava/lang/Object;"⟩
def dkwJ4_next_1 : List UInt8 := [176, 76, 187, 0, 32, 89, 183, 0, 34, 191]
abbrev dktJ4_next_1 : List UInt8 := dkwJ4_next_1 ++ []
def dkwJ4_next_0 : List UInt8 := [42, 180, 0, 17, 60, 42, 180, 0, 7, 27, 185, 0, 24, 2, 0, 77, 42, 27, 4, 96, 181, 0, 17, 44]
abbrev dktJ4_next_0 : List UInt8 := dkwJ4_next_0 ++ dktJ4_next_1
theorem dksJ4_next_0 : cJ4_next.data.toList.drop 0 = dktJ4_next_0 := by decide +kernel
theorem dksJ4_next_1 : cJ4_next.data.toList.drop 24 = dktJ4_next_1 := dk_seg dksJ4_next_0 24 rfl rfl
theorem dJ4_next_0 : decode cJ4_next 0 = .ok (.aload_n 0, 1) := dk_42 (dk_at dksJ4_next_0 0 rfl rfl)
theorem dJ4_next_1 : decode cJ4_next 1 = .ok (.getfield 17, 3) := dk_180 0 17 (dk_at dksJ4_next_0 1 rfl rfl)
theorem dJ4_next_4 : decode cJ4_next 4 = .ok (.istore_n 1, 1) := dk_60 (dk_at dksJ4_next_0 4 rfl rfl)
theorem dJ4_next_5 : decode cJ4_next 5 = .ok (.aload_n 0, 1) := dk_42 (dk_at dksJ4_next_0 5 rfl rfl)
theorem dJ4_next_6 : decode cJ4_next 6 = .ok (.getfield 7, 3) := dk_180 0 7 (dk_at dksJ4_next_0 6 rfl rfl)
theorem dJ4_next_9 : decode cJ4_next 9 = .ok (.iload_n 1, 1) := dk_27 (dk_at dksJ4_next_0 9 rfl rfl)
theorem dJ4_next_10 : decode cJ4_next 10 = .ok (.invokeinterface 24 2, 5) := by decide +kernel
theorem dJ4_next_15 : decode cJ4_next 15 = .ok (.astore_n 2, 1) := dk_77 (dk_at dksJ4_next_0 15 rfl rfl)
theorem dJ4_next_16 : decode cJ4_next 16 = .ok (.aload_n 0, 1) := dk_42 (dk_at dksJ4_next_0 16 rfl rfl)
theorem dJ4_next_17 : decode cJ4_next 17 = .ok (.iload_n 1, 1) := dk_27 (dk_at dksJ4_next_0 17 rfl rfl)
theorem dJ4_next_18 : decode cJ4_next 18 = .ok (.iconst 1, 1) := dk_4 (dk_at dksJ4_next_0 18 rfl rfl)
theorem dJ4_next_19 : decode cJ4_next 19 = .ok (.iadd, 1) := dk_96 (dk_at dksJ4_next_0 19 rfl rfl)
theorem dJ4_next_20 : decode cJ4_next 20 = .ok (.putfield 17, 3) := dk_181 0 17 (dk_at dksJ4_next_0 20 rfl rfl)
theorem dJ4_next_23 : decode cJ4_next 23 = .ok (.aload_n 2, 1) := dk_44 (dk_at dksJ4_next_0 23 rfl rfl)
theorem dJ4_next_24 : decode cJ4_next 24 = .ok (.areturn, 1) := dk_176 (dk_at dksJ4_next_1 0 rfl rfl)
theorem dJ4_next_25 : decode cJ4_next 25 = .ok (.astore_n 1, 1) := dk_76 (dk_at dksJ4_next_1 1 rfl rfl)
theorem dJ4_next_26 : decode cJ4_next 26 = .ok (.new 32, 3) := dk_187 0 32 (dk_at dksJ4_next_1 2 rfl rfl)
theorem dJ4_next_29 : decode cJ4_next 29 = .ok (.dup, 1) := dk_89 (dk_at dksJ4_next_1 5 rfl rfl)
theorem dJ4_next_30 : decode cJ4_next 30 = .ok (.invokespecial 34, 3) := dk_183 0 34 (dk_at dksJ4_next_1 6 rfl rfl)
theorem dJ4_next_33 : decode cJ4_next 33 = .ok (.athrow, 1) := dk_191 (dk_at dksJ4_next_1 9 rfl rfl)
theorem q122 : (Jvm.Cond.initialized "java/util/ImmutableCollections$ListItr") ∈ lw_all := lw_g (lw_at lw_m1 8 rfl) rfl
theorem q254 : (Jvm.Cond.instantiable "java/util/ImmutableCollections$ListItr" (4 : Nat)) ∈ lw_all := lw_g (lw_at lw_m1 140 rfl) rfl
theorem q267 : (Jvm.Cond.instanceMethod ({ cls := "java/util/ImmutableCollections$ListItr", name := "<init>", desc := "(Ljava/util/List;I)V" } : Jvm.MethodName)) ∈ lw_all := lw_g (lw_at lw_m1 153 rfl) rfl
theorem q268 : (Jvm.Cond.code ({ cls := "java/util/ImmutableCollections$ListItr", name := "<init>", desc := "(Ljava/util/List;I)V" } : Jvm.MethodName) prog_54_method_1_code (3 : Nat) (Option.none : Option Jvm.ClassFile.FieldType)) ∈ lw_all := lw_g (lw_at lw_m1 154 rfl) rfl
theorem q269 : (Jvm.Cond.methodLink "java/util/ImmutableCollections$ListItr" (1 : Nat) ({ cls := "java/lang/Object", name := "<init>", desc := "()V" } : Jvm.MethodName)) ∈ lw_all := lw_g (lw_at lw_m1 155 rfl) rfl
theorem q270 : (Jvm.Cond.fieldLink "java/util/ImmutableCollections$ListItr" (7 : Nat) "java/util/ImmutableCollections$ListItr" "list" "Ljava/util/List;") ∈ lw_all := lw_g (lw_at lw_m1 156 rfl) rfl
theorem q271 : (Jvm.Cond.fieldLink "java/util/ImmutableCollections$ListItr" (13 : Nat) "java/util/ImmutableCollections$ListItr" "size" "I") ∈ lw_all := lw_g (lw_at lw_m1 157 rfl) rfl
theorem q272 : (Jvm.Cond.fieldLink "java/util/ImmutableCollections$ListItr" (20 : Nat) "java/util/ImmutableCollections$ListItr" "isListIterator" "Z") ∈ lw_all := lw_g (lw_at lw_m1 158 rfl) rfl
theorem q273 : (Jvm.Cond.fieldLink "java/util/ImmutableCollections$ListItr" (17 : Nat) "java/util/ImmutableCollections$ListItr" "cursor" "I") ∈ lw_all := lw_g (lw_at lw_m1 159 rfl) rfl
theorem q274 : (Jvm.Cond.laysFinal "java/util/ImmutableCollections$ListItr" "java/util/ImmutableCollections$ListItr" "list" "Ljava/util/List;") ∈ lw_all := lw_g (lw_at lw_m1 160 rfl) rfl
theorem q275 : (Jvm.Cond.soleField "java/util/ImmutableCollections$ListItr" "list") ∈ lw_all := lw_g (lw_at lw_m1 161 rfl) rfl
theorem q276 : (Jvm.Cond.laysFinal "java/util/ImmutableCollections$ListItr" "java/util/ImmutableCollections$ListItr" "size" "I") ∈ lw_all := lw_g (lw_at lw_m1 162 rfl) rfl
theorem q277 : (Jvm.Cond.soleField "java/util/ImmutableCollections$ListItr" "size") ∈ lw_all := lw_g (lw_at lw_m1 163 rfl) rfl
theorem q278 : (Jvm.Cond.laysFinal "java/util/ImmutableCollections$ListItr" "java/util/ImmutableCollections$ListItr" "isListIterator" "Z") ∈ lw_all := lw_g (lw_at lw_m1 164 rfl) rfl
theorem q279 : (Jvm.Cond.soleField "java/util/ImmutableCollections$ListItr" "isListIterator") ∈ lw_all := lw_g (lw_at lw_m1 165 rfl) rfl
theorem q280 : (Jvm.Cond.lays "java/util/ImmutableCollections$ListItr" "java/util/ImmutableCollections$ListItr" "cursor" "I") ∈ lw_all := lw_g (lw_at lw_m1 166 rfl) rfl
theorem q281 : (Jvm.Cond.soleField "java/util/ImmutableCollections$ListItr" "cursor") ∈ lw_all := lw_g (lw_at lw_m1 167 rfl) rfl
theorem q282 : (Jvm.Cond.superclass "java/util/ImmutableCollections$ListItr" "java/lang/Object") ∈ lw_all := lw_g (lw_at lw_m1 168 rfl) rfl
theorem q296 : (Jvm.Cond.castable "java/util/ImmutableCollections$ListItr" "java/util/Iterator") ∈ lw_tbl := lw_at lw_m1 182 rfl
theorem q297 : (Jvm.Cond.selects "java/util/ImmutableCollections$ListItr" ({ cls := "java/util/Iterator", name := "hasNext", desc := "()Z" } : Jvm.MethodName) ({ cls := "java/util/ImmutableCollections$ListItr", name := "hasNext", desc := "()Z" } : Jvm.MethodName)) ∈ lw_all := lw_g (lw_at lw_m1 183 rfl) rfl
theorem q298 : (Jvm.Cond.unhidden "java/util/ImmutableCollections$ListItr" "hasNext" "()Z") ∈ lw_tbl := lw_at lw_m1 184 rfl
theorem q299 : (Jvm.Cond.instanceMethod ({ cls := "java/util/ImmutableCollections$ListItr", name := "hasNext", desc := "()Z" } : Jvm.MethodName)) ∈ lw_all := lw_g (lw_at lw_m1 185 rfl) rfl
theorem q300 : (Jvm.Cond.publicMethod ({ cls := "java/util/ImmutableCollections$ListItr", name := "hasNext", desc := "()Z" } : Jvm.MethodName)) ∈ lw_tbl := lw_at lw_m1 186 rfl
theorem q301 : (Jvm.Cond.code ({ cls := "java/util/ImmutableCollections$ListItr", name := "hasNext", desc := "()Z" } : Jvm.MethodName) prog_54_method_3_code (1 : Nat) (Option.some Jvm.ClassFile.FieldType.boolean)) ∈ lw_all := lw_g (lw_at lw_m1 187 rfl) rfl
theorem q384 : (Jvm.Cond.selects "java/util/ImmutableCollections$ListItr" ({ cls := "java/util/Iterator", name := "next", desc := "()Ljava/lang/Object;" } : Jvm.MethodName) ({ cls := "java/util/ImmutableCollections$ListItr", name := "next", desc := "()Ljava/lang/Object;" } : Jvm.MethodName)) ∈ lw_all := lw_g (lw_at lw_m2 30 rfl) rfl
theorem q385 : (Jvm.Cond.unhidden "java/util/ImmutableCollections$ListItr" "next" "()Ljava/lang/Object;") ∈ lw_tbl := lw_at lw_m2 31 rfl
theorem q386 : (Jvm.Cond.instanceMethod ({ cls := "java/util/ImmutableCollections$ListItr", name := "next", desc := "()Ljava/lang/Object;" } : Jvm.MethodName)) ∈ lw_all := lw_g (lw_at lw_m2 32 rfl) rfl
theorem q387 : (Jvm.Cond.publicMethod ({ cls := "java/util/ImmutableCollections$ListItr", name := "next", desc := "()Ljava/lang/Object;" } : Jvm.MethodName)) ∈ lw_tbl := lw_at lw_m2 33 rfl
theorem q388 : (Jvm.Cond.codeWith ({ cls := "java/util/ImmutableCollections$ListItr", name := "next", desc := "()Ljava/lang/Object;" } : Jvm.MethodName) prog_54_method_4_code (3 : Nat) (Option.some (Jvm.ClassFile.FieldType.object "java/lang/Object")) [((0 : Nat), (24 : Nat), (25 : Nat), (30 : Nat))]) ∈ lw_all := lw_g (lw_at lw_m2 34 rfl) rfl
theorem q389 : (Jvm.Cond.interfaceEntry "java/util/ImmutableCollections$ListItr" (24 : Nat)) ∈ lw_tbl := lw_at lw_m2 35 rfl
theorem q390 : (Jvm.Cond.methodLink "java/util/ImmutableCollections$ListItr" (24 : Nat) ({ cls := "java/util/List", name := "get", desc := "(I)Ljava/lang/Object;" } : Jvm.MethodName)) ∈ lw_all := lw_g (lw_at lw_m2 36 rfl) rfl
theorem q710 : (Jvm.Cond.classLink "java/util/ImmutableCollections$ListItr" (32 : Nat) "java/util/NoSuchElementException") ∈ lw_all := lw_g (lw_at lw_m3 116 rfl) rfl
theorem q711 : (Jvm.Cond.methodLink "java/util/ImmutableCollections$ListItr" (34 : Nat) ({ cls := "java/util/NoSuchElementException", name := "<init>", desc := "()V" } : Jvm.MethodName)) ∈ lw_all := lw_g (lw_at lw_m3 117 rfl) rfl
theorem q765 : (Jvm.Cond.selects "java/util/ImmutableCollections$ListItr" ({ cls := "java/lang/Object", name := "getClass", desc := "()Ljava/lang/Class;" } : Jvm.MethodName) ({ cls := "java/lang/Object", name := "getClass", desc := "()Ljava/lang/Class;" } : Jvm.MethodName)) ∈ lw_all := lw_g (lw_at lw_m3 171 rfl) rfl
theorem q3258 : (Jvm.Cond.castable "java/util/ImmutableCollections$ListItr" "java/lang/Object") ∈ lw_tbl := lw_at lw_m14 24 rfl
theorem in_J4 : ∀ w ∈ wsJ40, w ∈ lw_all := lw_in wsJ40 [274, 276, 278, 280] (by decide +kernel) (by decide +kernel)

/-! java/util/ImmutableCollections -/
set_option maxRecDepth 100000
def RJ5 : String := "java/util/ImmutableCollections"
abbrev cJ5_uoe : ByteArray := prog_50_method_2_code
def yJ5_uoe : MethodName := ⟨RJ5, "uoe", "()Ljava/lang/UnsupportedOperationException;"⟩
def dkwJ5_uoe_0 : List UInt8 := [187, 0, 7, 89, 183, 0, 9, 176]
abbrev dktJ5_uoe_0 : List UInt8 := dkwJ5_uoe_0 ++ []
theorem dksJ5_uoe_0 : cJ5_uoe.data.toList.drop 0 = dktJ5_uoe_0 := by decide +kernel
theorem dJ5_uoe_0 : decode cJ5_uoe 0 = .ok (.new 7, 3) := dk_187 0 7 (dk_at dksJ5_uoe_0 0 rfl rfl)
theorem dJ5_uoe_3 : decode cJ5_uoe 3 = .ok (.dup, 1) := dk_89 (dk_at dksJ5_uoe_0 3 rfl rfl)
theorem dJ5_uoe_4 : decode cJ5_uoe 4 = .ok (.invokespecial 9, 3) := dk_183 0 9 (dk_at dksJ5_uoe_0 4 rfl rfl)
theorem dJ5_uoe_7 : decode cJ5_uoe 7 = .ok (.areturn, 1) := dk_176 (dk_at dksJ5_uoe_0 7 rfl rfl)
abbrev cJ5_listFromTrustedArray : ByteArray := prog_50_method_5_code
def yJ5_listFromTrustedArray : MethodName := ⟨RJ5, "listFromTrustedArray", "([Ljava/lang/Object;)Ljava/util/List;"⟩
def dkwJ5_listFromTrustedArray_5 : List UInt8 := [3, 50, 42, 4, 50, 183, 0, 67, 167, 0, 12, 187, 0, 12, 89, 42, 3, 183, 0, 43, 176]
abbrev dktJ5_listFromTrustedArray_5 : List UInt8 := dkwJ5_listFromTrustedArray_5 ++ []
def dkwJ5_listFromTrustedArray_4 : List UInt8 := [178, 0, 60, 167, 0, 41, 187, 0, 10, 89, 42, 3, 50, 183, 0, 64, 167, 0, 28, 187, 0, 10, 89, 42]
abbrev dktJ5_listFromTrustedArray_4 : List UInt8 := dkwJ5_listFromTrustedArray_4 ++ dktJ5_listFromTrustedArray_5
def dkwJ5_listFromTrustedArray_3 : List UInt8 := [170, 0, 0, 0, 0, 61, 0, 0, 0, 0, 0, 0, 0, 2, 0, 0, 0, 26, 0, 0, 0, 32, 0, 0, 0, 45]
abbrev dktJ5_listFromTrustedArray_3 : List UInt8 := dkwJ5_listFromTrustedArray_3 ++ dktJ5_listFromTrustedArray_4
def dkwJ5_listFromTrustedArray_2 : List UInt8 := [132, 3, 1, 167, 255, 237, 42, 190]
abbrev dktJ5_listFromTrustedArray_2 : List UInt8 := dkwJ5_listFromTrustedArray_2 ++ dktJ5_listFromTrustedArray_3
def dkwJ5_listFromTrustedArray_1 : List UInt8 := [76, 43, 190, 61, 3, 62, 29, 28, 162, 0, 20, 43, 29, 50, 58, 4, 25, 4, 184, 0, 37, 87]
abbrev dktJ5_listFromTrustedArray_1 : List UInt8 := dkwJ5_listFromTrustedArray_1 ++ dktJ5_listFromTrustedArray_2
def dkwJ5_listFromTrustedArray_0 : List UInt8 := [178, 0, 46, 154, 0, 20, 42, 182, 0, 51, 18, 55, 165, 0, 11, 187, 0, 57, 89, 183, 0, 59, 191, 42]
abbrev dktJ5_listFromTrustedArray_0 : List UInt8 := dkwJ5_listFromTrustedArray_0 ++ dktJ5_listFromTrustedArray_1
theorem dksJ5_listFromTrustedArray_0 : cJ5_listFromTrustedArray.data.toList.drop 0 = dktJ5_listFromTrustedArray_0 := by decide +kernel
theorem dksJ5_listFromTrustedArray_1 : cJ5_listFromTrustedArray.data.toList.drop 24 = dktJ5_listFromTrustedArray_1 := dk_seg dksJ5_listFromTrustedArray_0 24 rfl rfl
theorem dksJ5_listFromTrustedArray_2 : cJ5_listFromTrustedArray.data.toList.drop 46 = dktJ5_listFromTrustedArray_2 := dk_seg dksJ5_listFromTrustedArray_1 22 rfl rfl
theorem dksJ5_listFromTrustedArray_3 : cJ5_listFromTrustedArray.data.toList.drop 54 = dktJ5_listFromTrustedArray_3 := dk_seg dksJ5_listFromTrustedArray_2 8 rfl rfl
theorem dksJ5_listFromTrustedArray_4 : cJ5_listFromTrustedArray.data.toList.drop 80 = dktJ5_listFromTrustedArray_4 := dk_seg dksJ5_listFromTrustedArray_3 26 rfl rfl
theorem dksJ5_listFromTrustedArray_5 : cJ5_listFromTrustedArray.data.toList.drop 104 = dktJ5_listFromTrustedArray_5 := dk_seg dksJ5_listFromTrustedArray_4 24 rfl rfl
theorem dJ5_listFromTrustedArray_0 : decode cJ5_listFromTrustedArray 0 = .ok (.getstatic 46, 3) := dk_178 0 46 (dk_at dksJ5_listFromTrustedArray_0 0 rfl rfl)
theorem dJ5_listFromTrustedArray_3 : decode cJ5_listFromTrustedArray 3 = .ok (.ifCond .ne 20, 3) := dk_154 0 20 (dk_at dksJ5_listFromTrustedArray_0 3 rfl rfl)
theorem dJ5_listFromTrustedArray_6 : decode cJ5_listFromTrustedArray 6 = .ok (.aload_n 0, 1) := dk_42 (dk_at dksJ5_listFromTrustedArray_0 6 rfl rfl)
theorem dJ5_listFromTrustedArray_7 : decode cJ5_listFromTrustedArray 7 = .ok (.invokevirtual 51, 3) := dk_182 0 51 (dk_at dksJ5_listFromTrustedArray_0 7 rfl rfl)
theorem dJ5_listFromTrustedArray_10 : decode cJ5_listFromTrustedArray 10 = .ok (.ldc 55, 2) := dk_18 55 (dk_at dksJ5_listFromTrustedArray_0 10 rfl rfl)
theorem dJ5_listFromTrustedArray_12 : decode cJ5_listFromTrustedArray 12 = .ok (.if_acmp .eq 11, 3) := dk_165 0 11 (dk_at dksJ5_listFromTrustedArray_0 12 rfl rfl)
theorem dJ5_listFromTrustedArray_15 : decode cJ5_listFromTrustedArray 15 = .ok (.new 57, 3) := dk_187 0 57 (dk_at dksJ5_listFromTrustedArray_0 15 rfl rfl)
theorem dJ5_listFromTrustedArray_18 : decode cJ5_listFromTrustedArray 18 = .ok (.dup, 1) := dk_89 (dk_at dksJ5_listFromTrustedArray_0 18 rfl rfl)
theorem dJ5_listFromTrustedArray_19 : decode cJ5_listFromTrustedArray 19 = .ok (.invokespecial 59, 3) := dk_183 0 59 (dk_at dksJ5_listFromTrustedArray_0 19 rfl rfl)
theorem dJ5_listFromTrustedArray_22 : decode cJ5_listFromTrustedArray 22 = .ok (.athrow, 1) := dk_191 (dk_at dksJ5_listFromTrustedArray_0 22 rfl rfl)
theorem dJ5_listFromTrustedArray_23 : decode cJ5_listFromTrustedArray 23 = .ok (.aload_n 0, 1) := dk_42 (dk_at dksJ5_listFromTrustedArray_0 23 rfl rfl)
theorem dJ5_listFromTrustedArray_24 : decode cJ5_listFromTrustedArray 24 = .ok (.astore_n 1, 1) := dk_76 (dk_at dksJ5_listFromTrustedArray_1 0 rfl rfl)
theorem dJ5_listFromTrustedArray_25 : decode cJ5_listFromTrustedArray 25 = .ok (.aload_n 1, 1) := dk_43 (dk_at dksJ5_listFromTrustedArray_1 1 rfl rfl)
theorem dJ5_listFromTrustedArray_26 : decode cJ5_listFromTrustedArray 26 = .ok (.arraylength, 1) := dk_190 (dk_at dksJ5_listFromTrustedArray_1 2 rfl rfl)
theorem dJ5_listFromTrustedArray_27 : decode cJ5_listFromTrustedArray 27 = .ok (.istore_n 2, 1) := dk_61 (dk_at dksJ5_listFromTrustedArray_1 3 rfl rfl)
theorem dJ5_listFromTrustedArray_28 : decode cJ5_listFromTrustedArray 28 = .ok (.iconst 0, 1) := dk_3 (dk_at dksJ5_listFromTrustedArray_1 4 rfl rfl)
theorem dJ5_listFromTrustedArray_29 : decode cJ5_listFromTrustedArray 29 = .ok (.istore_n 3, 1) := dk_62 (dk_at dksJ5_listFromTrustedArray_1 5 rfl rfl)
theorem dJ5_listFromTrustedArray_30 : decode cJ5_listFromTrustedArray 30 = .ok (.iload_n 3, 1) := dk_29 (dk_at dksJ5_listFromTrustedArray_1 6 rfl rfl)
theorem dJ5_listFromTrustedArray_31 : decode cJ5_listFromTrustedArray 31 = .ok (.iload_n 2, 1) := dk_28 (dk_at dksJ5_listFromTrustedArray_1 7 rfl rfl)
theorem dJ5_listFromTrustedArray_32 : decode cJ5_listFromTrustedArray 32 = .ok (.if_icmp .ge 20, 3) := dk_162 0 20 (dk_at dksJ5_listFromTrustedArray_1 8 rfl rfl)
theorem dJ5_listFromTrustedArray_35 : decode cJ5_listFromTrustedArray 35 = .ok (.aload_n 1, 1) := dk_43 (dk_at dksJ5_listFromTrustedArray_1 11 rfl rfl)
theorem dJ5_listFromTrustedArray_36 : decode cJ5_listFromTrustedArray 36 = .ok (.iload_n 3, 1) := dk_29 (dk_at dksJ5_listFromTrustedArray_1 12 rfl rfl)
theorem dJ5_listFromTrustedArray_37 : decode cJ5_listFromTrustedArray 37 = .ok (.aaload, 1) := dk_50 (dk_at dksJ5_listFromTrustedArray_1 13 rfl rfl)
theorem dJ5_listFromTrustedArray_38 : decode cJ5_listFromTrustedArray 38 = .ok (.astore 4, 2) := dk_58 4 (dk_at dksJ5_listFromTrustedArray_1 14 rfl rfl)
theorem dJ5_listFromTrustedArray_40 : decode cJ5_listFromTrustedArray 40 = .ok (.aload 4, 2) := dk_25 4 (dk_at dksJ5_listFromTrustedArray_1 16 rfl rfl)
theorem dJ5_listFromTrustedArray_42 : decode cJ5_listFromTrustedArray 42 = .ok (.invokestatic 37, 3) := dk_184 0 37 (dk_at dksJ5_listFromTrustedArray_1 18 rfl rfl)
theorem dJ5_listFromTrustedArray_45 : decode cJ5_listFromTrustedArray 45 = .ok (.pop, 1) := dk_87 (dk_at dksJ5_listFromTrustedArray_1 21 rfl rfl)
theorem dJ5_listFromTrustedArray_46 : decode cJ5_listFromTrustedArray 46 = .ok (.iinc 3 1, 3) := dk_132 3 1 (dk_at dksJ5_listFromTrustedArray_2 0 rfl rfl)
theorem dJ5_listFromTrustedArray_49 : decode cJ5_listFromTrustedArray 49 = .ok (.goto (-19), 3) := dk_167 255 237 (dk_at dksJ5_listFromTrustedArray_2 3 rfl rfl)
theorem dJ5_listFromTrustedArray_52 : decode cJ5_listFromTrustedArray 52 = .ok (.aload_n 0, 1) := dk_42 (dk_at dksJ5_listFromTrustedArray_2 6 rfl rfl)
theorem dJ5_listFromTrustedArray_53 : decode cJ5_listFromTrustedArray 53 = .ok (.arraylength, 1) := dk_190 (dk_at dksJ5_listFromTrustedArray_2 7 rfl rfl)
theorem dJ5_listFromTrustedArray_54 : decode cJ5_listFromTrustedArray 54 = .ok (.tableswitch 61 0 2 #[26, 32, 45], 26) := by decide +kernel
theorem dJ5_listFromTrustedArray_80 : decode cJ5_listFromTrustedArray 80 = .ok (.getstatic 60, 3) := dk_178 0 60 (dk_at dksJ5_listFromTrustedArray_4 0 rfl rfl)
theorem dJ5_listFromTrustedArray_83 : decode cJ5_listFromTrustedArray 83 = .ok (.goto 41, 3) := dk_167 0 41 (dk_at dksJ5_listFromTrustedArray_4 3 rfl rfl)
theorem dJ5_listFromTrustedArray_86 : decode cJ5_listFromTrustedArray 86 = .ok (.new 10, 3) := dk_187 0 10 (dk_at dksJ5_listFromTrustedArray_4 6 rfl rfl)
theorem dJ5_listFromTrustedArray_89 : decode cJ5_listFromTrustedArray 89 = .ok (.dup, 1) := dk_89 (dk_at dksJ5_listFromTrustedArray_4 9 rfl rfl)
theorem dJ5_listFromTrustedArray_90 : decode cJ5_listFromTrustedArray 90 = .ok (.aload_n 0, 1) := dk_42 (dk_at dksJ5_listFromTrustedArray_4 10 rfl rfl)
theorem dJ5_listFromTrustedArray_91 : decode cJ5_listFromTrustedArray 91 = .ok (.iconst 0, 1) := dk_3 (dk_at dksJ5_listFromTrustedArray_4 11 rfl rfl)
theorem dJ5_listFromTrustedArray_92 : decode cJ5_listFromTrustedArray 92 = .ok (.aaload, 1) := dk_50 (dk_at dksJ5_listFromTrustedArray_4 12 rfl rfl)
theorem dJ5_listFromTrustedArray_93 : decode cJ5_listFromTrustedArray 93 = .ok (.invokespecial 64, 3) := dk_183 0 64 (dk_at dksJ5_listFromTrustedArray_4 13 rfl rfl)
theorem dJ5_listFromTrustedArray_96 : decode cJ5_listFromTrustedArray 96 = .ok (.goto 28, 3) := dk_167 0 28 (dk_at dksJ5_listFromTrustedArray_4 16 rfl rfl)
theorem dJ5_listFromTrustedArray_99 : decode cJ5_listFromTrustedArray 99 = .ok (.new 10, 3) := dk_187 0 10 (dk_at dksJ5_listFromTrustedArray_4 19 rfl rfl)
theorem dJ5_listFromTrustedArray_102 : decode cJ5_listFromTrustedArray 102 = .ok (.dup, 1) := dk_89 (dk_at dksJ5_listFromTrustedArray_4 22 rfl rfl)
theorem dJ5_listFromTrustedArray_103 : decode cJ5_listFromTrustedArray 103 = .ok (.aload_n 0, 1) := dk_42 (dk_at dksJ5_listFromTrustedArray_4 23 rfl rfl)
theorem dJ5_listFromTrustedArray_104 : decode cJ5_listFromTrustedArray 104 = .ok (.iconst 0, 1) := dk_3 (dk_at dksJ5_listFromTrustedArray_5 0 rfl rfl)
theorem dJ5_listFromTrustedArray_105 : decode cJ5_listFromTrustedArray 105 = .ok (.aaload, 1) := dk_50 (dk_at dksJ5_listFromTrustedArray_5 1 rfl rfl)
theorem dJ5_listFromTrustedArray_106 : decode cJ5_listFromTrustedArray 106 = .ok (.aload_n 0, 1) := dk_42 (dk_at dksJ5_listFromTrustedArray_5 2 rfl rfl)
theorem dJ5_listFromTrustedArray_107 : decode cJ5_listFromTrustedArray 107 = .ok (.iconst 1, 1) := dk_4 (dk_at dksJ5_listFromTrustedArray_5 3 rfl rfl)
theorem dJ5_listFromTrustedArray_108 : decode cJ5_listFromTrustedArray 108 = .ok (.aaload, 1) := dk_50 (dk_at dksJ5_listFromTrustedArray_5 4 rfl rfl)
theorem dJ5_listFromTrustedArray_109 : decode cJ5_listFromTrustedArray 109 = .ok (.invokespecial 67, 3) := dk_183 0 67 (dk_at dksJ5_listFromTrustedArray_5 5 rfl rfl)
theorem dJ5_listFromTrustedArray_112 : decode cJ5_listFromTrustedArray 112 = .ok (.goto 12, 3) := dk_167 0 12 (dk_at dksJ5_listFromTrustedArray_5 8 rfl rfl)
theorem dJ5_listFromTrustedArray_115 : decode cJ5_listFromTrustedArray 115 = .ok (.new 12, 3) := dk_187 0 12 (dk_at dksJ5_listFromTrustedArray_5 11 rfl rfl)
theorem dJ5_listFromTrustedArray_118 : decode cJ5_listFromTrustedArray 118 = .ok (.dup, 1) := dk_89 (dk_at dksJ5_listFromTrustedArray_5 14 rfl rfl)
theorem dJ5_listFromTrustedArray_119 : decode cJ5_listFromTrustedArray 119 = .ok (.aload_n 0, 1) := dk_42 (dk_at dksJ5_listFromTrustedArray_5 15 rfl rfl)
theorem dJ5_listFromTrustedArray_120 : decode cJ5_listFromTrustedArray 120 = .ok (.iconst 0, 1) := dk_3 (dk_at dksJ5_listFromTrustedArray_5 16 rfl rfl)
theorem dJ5_listFromTrustedArray_121 : decode cJ5_listFromTrustedArray 121 = .ok (.invokespecial 43, 3) := dk_183 0 43 (dk_at dksJ5_listFromTrustedArray_5 17 rfl rfl)
theorem dJ5_listFromTrustedArray_124 : decode cJ5_listFromTrustedArray 124 = .ok (.areturn, 1) := dk_176 (dk_at dksJ5_listFromTrustedArray_5 20 rfl rfl)
theorem q123 : (Jvm.Cond.initialized "java/util/ImmutableCollections") ∈ lw_all := lw_g (lw_at lw_m1 9 rfl) rfl
theorem q262 : (Jvm.Cond.laysStatic "java/util/ImmutableCollections" "EMPTY" "Ljava/lang/Object;") ∈ lw_tbl := lw_at lw_m1 148 rfl
theorem q784 : (Jvm.Cond.static ({ cls := "java/util/ImmutableCollections", name := "uoe", desc := "()Ljava/lang/UnsupportedOperationException;" } : Jvm.MethodName)) ∈ lw_all := lw_g (lw_at lw_m3 190 rfl) rfl
theorem q785 : (Jvm.Cond.code ({ cls := "java/util/ImmutableCollections", name := "uoe", desc := "()Ljava/lang/UnsupportedOperationException;" } : Jvm.MethodName) prog_50_method_2_code (0 : Nat) (Option.some (Jvm.ClassFile.FieldType.object "java/lang/UnsupportedOperationException"))) ∈ lw_all := lw_g (lw_at lw_m3 191 rfl) rfl
theorem q786 : (Jvm.Cond.classLink "java/util/ImmutableCollections" (7 : Nat) "java/lang/UnsupportedOperationException") ∈ lw_all := lw_g (lw_at lw_m3 192 rfl) rfl
theorem q795 : (Jvm.Cond.methodLink "java/util/ImmutableCollections" (9 : Nat) ({ cls := "java/lang/UnsupportedOperationException", name := "<init>", desc := "()V" } : Jvm.MethodName)) ∈ lw_all := lw_g (lw_at lw_m3 201 rfl) rfl
theorem q2020 : (Jvm.Cond.static ({ cls := "java/util/ImmutableCollections", name := "listFromTrustedArray", desc := "([Ljava/lang/Object;)Ljava/util/List;" } : Jvm.MethodName)) ∈ lw_all := lw_g (lw_at lw_m8 226 rfl) rfl
theorem q2021 : (Jvm.Cond.code ({ cls := "java/util/ImmutableCollections", name := "listFromTrustedArray", desc := "([Ljava/lang/Object;)Ljava/util/List;" } : Jvm.MethodName) prog_50_method_5_code (5 : Nat) (Option.some (Jvm.ClassFile.FieldType.object "java/util/List"))) ∈ lw_all := lw_g (lw_at lw_m8 227 rfl) rfl
theorem q2022 : (Jvm.Cond.fieldLink "java/util/ImmutableCollections" (46 : Nat) "java/util/ImmutableCollections" "$assertionsDisabled" "Z") ∈ lw_all := lw_g (lw_at lw_m8 228 rfl) rfl
theorem q2023 : (Jvm.Cond.laysStatic "java/util/ImmutableCollections" "$assertionsDisabled" "Z") ∈ lw_tbl := lw_at lw_m8 229 rfl
theorem q2024 : (Jvm.Cond.methodLink "java/util/ImmutableCollections" (51 : Nat) ({ cls := "java/lang/Object", name := "getClass", desc := "()Ljava/lang/Class;" } : Jvm.MethodName)) ∈ lw_all := lw_g (lw_at lw_m8 230 rfl) rfl
theorem q2025 : (Jvm.Cond.classLink "java/util/ImmutableCollections" (55 : Nat) "[Ljava/lang/Object;") ∈ lw_all := lw_g (lw_at lw_m8 231 rfl) rfl
theorem q2026 : (Jvm.Cond.methodLink "java/util/ImmutableCollections" (37 : Nat) ({ cls := "java/util/Objects", name := "requireNonNull", desc := "(Ljava/lang/Object;)Ljava/lang/Object;" } : Jvm.MethodName)) ∈ lw_all := lw_g (lw_at lw_m8 232 rfl) rfl
theorem q2029 : (Jvm.Cond.fieldLink "java/util/ImmutableCollections" (60 : Nat) "java/util/ImmutableCollections" "EMPTY_LIST" "Ljava/util/ImmutableCollections$ListN;") ∈ lw_all := lw_g (lw_at lw_m8 235 rfl) rfl
theorem q2030 : (Jvm.Cond.laysStatic "java/util/ImmutableCollections" "EMPTY_LIST" "Ljava/util/ImmutableCollections$ListN;") ∈ lw_tbl := lw_at lw_m8 236 rfl
theorem q2031 : (Jvm.Cond.classLink "java/util/ImmutableCollections" (10 : Nat) "java/util/ImmutableCollections$List12") ∈ lw_all := lw_g (lw_at lw_m8 237 rfl) rfl
theorem q2033 : (Jvm.Cond.methodLink "java/util/ImmutableCollections" (64 : Nat) ({ cls := "java/util/ImmutableCollections$List12", name := "<init>", desc := "(Ljava/lang/Object;)V" } : Jvm.MethodName)) ∈ lw_all := lw_g (lw_at lw_m8 239 rfl) rfl
theorem q2051 : (Jvm.Cond.methodLink "java/util/ImmutableCollections" (67 : Nat) ({ cls := "java/util/ImmutableCollections$List12", name := "<init>", desc := "(Ljava/lang/Object;Ljava/lang/Object;)V" } : Jvm.MethodName)) ∈ lw_all := lw_g (lw_at lw_m9 17 rfl) rfl
theorem q2054 : (Jvm.Cond.classLink "java/util/ImmutableCollections" (12 : Nat) "java/util/ImmutableCollections$ListN") ∈ lw_all := lw_g (lw_at lw_m9 20 rfl) rfl
theorem q2056 : (Jvm.Cond.methodLinkNest "java/util/ImmutableCollections" (43 : Nat) ({ cls := "java/util/ImmutableCollections$ListN", name := "<init>", desc := "([Ljava/lang/Object;Z)V" } : Jvm.MethodName) "java/util/ImmutableCollections") ∈ lw_tbl := lw_at lw_m9 22 rfl

/-! java/lang/Throwable -/
set_option maxRecDepth 100000
def RJ6 : String := "java/lang/Throwable"
def TJ6 : u_T := fun k => match k with
  | 0 => ("java/lang/Throwable", "cause", "Ljava/lang/Throwable;", false)
  | 1 => ("java/lang/Throwable", "stackTrace", "[Ljava/lang/StackTraceElement;", false)
  | 2 => ("java/lang/Throwable", "suppressedExceptions", "Ljava/util/List;", false)
  | 3 => ("java/lang/Throwable", "detailMessage", "Ljava/lang/String;", false)
  | _ => ("java/lang/Throwable", "backtrace", "Ljava/lang/Object;", false)
def tyJ6 : Nat → FieldType := fun k => match k with
  | 0 => .object "java/lang/Throwable"
  | 1 => .array (.object "java/lang/StackTraceElement")
  | 2 => .object "java/util/List"
  | 3 => .object "java/lang/String"
  | _ => .object "java/lang/Object"
abbrev wsJ60 : List Cond := u_ws RJ6 TJ6 5
theorem nmJ6 : ∀ a, a < 5 → ∀ b, b < 5 → a ≠ b → (TJ6 a).2.1 ≠ (TJ6 b).2.1 := by decide +kernel
theorem tyJ6_ok : ∀ k, k < 5 → parseFieldDescriptor (TJ6 k).2.2.1 = some (tyJ6 k) := by decide +kernel
abbrev cJ6_init : ByteArray := prog_38_method_1_code
def yJ6_init : MethodName := ⟨RJ6, "<init>", "()V"⟩
def dkwJ6_init_1 : List UInt8 := [182, 0, 27, 87, 177]
abbrev dktJ6_init_1 : List UInt8 := dkwJ6_init_1 ++ []
def dkwJ6_init_0 : List UInt8 := [42, 183, 0, 1, 42, 42, 181, 0, 7, 42, 178, 0, 13, 181, 0, 17, 42, 178, 0, 20, 181, 0, 24, 42]
abbrev dktJ6_init_0 : List UInt8 := dkwJ6_init_0 ++ dktJ6_init_1
theorem dksJ6_init_0 : cJ6_init.data.toList.drop 0 = dktJ6_init_0 := by decide +kernel
theorem dksJ6_init_1 : cJ6_init.data.toList.drop 24 = dktJ6_init_1 := dk_seg dksJ6_init_0 24 rfl rfl
theorem dJ6_init_0 : decode cJ6_init 0 = .ok (.aload_n 0, 1) := dk_42 (dk_at dksJ6_init_0 0 rfl rfl)
theorem dJ6_init_1 : decode cJ6_init 1 = .ok (.invokespecial 1, 3) := dk_183 0 1 (dk_at dksJ6_init_0 1 rfl rfl)
theorem dJ6_init_4 : decode cJ6_init 4 = .ok (.aload_n 0, 1) := dk_42 (dk_at dksJ6_init_0 4 rfl rfl)
theorem dJ6_init_5 : decode cJ6_init 5 = .ok (.aload_n 0, 1) := dk_42 (dk_at dksJ6_init_0 5 rfl rfl)
theorem dJ6_init_6 : decode cJ6_init 6 = .ok (.putfield 7, 3) := dk_181 0 7 (dk_at dksJ6_init_0 6 rfl rfl)
theorem dJ6_init_9 : decode cJ6_init 9 = .ok (.aload_n 0, 1) := dk_42 (dk_at dksJ6_init_0 9 rfl rfl)
theorem dJ6_init_10 : decode cJ6_init 10 = .ok (.getstatic 13, 3) := dk_178 0 13 (dk_at dksJ6_init_0 10 rfl rfl)
theorem dJ6_init_13 : decode cJ6_init 13 = .ok (.putfield 17, 3) := dk_181 0 17 (dk_at dksJ6_init_0 13 rfl rfl)
theorem dJ6_init_16 : decode cJ6_init 16 = .ok (.aload_n 0, 1) := dk_42 (dk_at dksJ6_init_0 16 rfl rfl)
theorem dJ6_init_17 : decode cJ6_init 17 = .ok (.getstatic 20, 3) := dk_178 0 20 (dk_at dksJ6_init_0 17 rfl rfl)
theorem dJ6_init_20 : decode cJ6_init 20 = .ok (.putfield 24, 3) := dk_181 0 24 (dk_at dksJ6_init_0 20 rfl rfl)
theorem dJ6_init_23 : decode cJ6_init 23 = .ok (.aload_n 0, 1) := dk_42 (dk_at dksJ6_init_0 23 rfl rfl)
theorem dJ6_init_24 : decode cJ6_init 24 = .ok (.invokevirtual 27, 3) := dk_182 0 27 (dk_at dksJ6_init_1 0 rfl rfl)
theorem dJ6_init_27 : decode cJ6_init 27 = .ok (.pop, 1) := dk_87 (dk_at dksJ6_init_1 3 rfl rfl)
theorem dJ6_init_28 : decode cJ6_init 28 = .ok (.return_, 1) := dk_177 (dk_at dksJ6_init_1 4 rfl rfl)
abbrev cJ6_init_2 : ByteArray := prog_38_method_2_code
def yJ6_init_2 : MethodName := ⟨RJ6, "<init>", "(Ljava/lang/String;)V"⟩
def dkwJ6_init_2_1 : List UInt8 := [182, 0, 27, 87, 42, 43, 181, 0, 31, 177]
abbrev dktJ6_init_2_1 : List UInt8 := dkwJ6_init_2_1 ++ []
def dkwJ6_init_2_0 : List UInt8 := [42, 183, 0, 1, 42, 42, 181, 0, 7, 42, 178, 0, 13, 181, 0, 17, 42, 178, 0, 20, 181, 0, 24, 42]
abbrev dktJ6_init_2_0 : List UInt8 := dkwJ6_init_2_0 ++ dktJ6_init_2_1
theorem dksJ6_init_2_0 : cJ6_init_2.data.toList.drop 0 = dktJ6_init_2_0 := by decide +kernel
theorem dksJ6_init_2_1 : cJ6_init_2.data.toList.drop 24 = dktJ6_init_2_1 := dk_seg dksJ6_init_2_0 24 rfl rfl
theorem dJ6_init_2_0 : decode cJ6_init_2 0 = .ok (.aload_n 0, 1) := dk_42 (dk_at dksJ6_init_2_0 0 rfl rfl)
theorem dJ6_init_2_1 : decode cJ6_init_2 1 = .ok (.invokespecial 1, 3) := dk_183 0 1 (dk_at dksJ6_init_2_0 1 rfl rfl)
theorem dJ6_init_2_4 : decode cJ6_init_2 4 = .ok (.aload_n 0, 1) := dk_42 (dk_at dksJ6_init_2_0 4 rfl rfl)
theorem dJ6_init_2_5 : decode cJ6_init_2 5 = .ok (.aload_n 0, 1) := dk_42 (dk_at dksJ6_init_2_0 5 rfl rfl)
theorem dJ6_init_2_6 : decode cJ6_init_2 6 = .ok (.putfield 7, 3) := dk_181 0 7 (dk_at dksJ6_init_2_0 6 rfl rfl)
theorem dJ6_init_2_9 : decode cJ6_init_2 9 = .ok (.aload_n 0, 1) := dk_42 (dk_at dksJ6_init_2_0 9 rfl rfl)
theorem dJ6_init_2_10 : decode cJ6_init_2 10 = .ok (.getstatic 13, 3) := dk_178 0 13 (dk_at dksJ6_init_2_0 10 rfl rfl)
theorem dJ6_init_2_13 : decode cJ6_init_2 13 = .ok (.putfield 17, 3) := dk_181 0 17 (dk_at dksJ6_init_2_0 13 rfl rfl)
theorem dJ6_init_2_16 : decode cJ6_init_2 16 = .ok (.aload_n 0, 1) := dk_42 (dk_at dksJ6_init_2_0 16 rfl rfl)
theorem dJ6_init_2_17 : decode cJ6_init_2 17 = .ok (.getstatic 20, 3) := dk_178 0 20 (dk_at dksJ6_init_2_0 17 rfl rfl)
theorem dJ6_init_2_20 : decode cJ6_init_2 20 = .ok (.putfield 24, 3) := dk_181 0 24 (dk_at dksJ6_init_2_0 20 rfl rfl)
theorem dJ6_init_2_23 : decode cJ6_init_2 23 = .ok (.aload_n 0, 1) := dk_42 (dk_at dksJ6_init_2_0 23 rfl rfl)
theorem dJ6_init_2_24 : decode cJ6_init_2 24 = .ok (.invokevirtual 27, 3) := dk_182 0 27 (dk_at dksJ6_init_2_1 0 rfl rfl)
theorem dJ6_init_2_27 : decode cJ6_init_2 27 = .ok (.pop, 1) := dk_87 (dk_at dksJ6_init_2_1 3 rfl rfl)
theorem dJ6_init_2_28 : decode cJ6_init_2 28 = .ok (.aload_n 0, 1) := dk_42 (dk_at dksJ6_init_2_1 4 rfl rfl)
theorem dJ6_init_2_29 : decode cJ6_init_2 29 = .ok (.aload_n 1, 1) := dk_43 (dk_at dksJ6_init_2_1 5 rfl rfl)
theorem dJ6_init_2_30 : decode cJ6_init_2 30 = .ok (.putfield 31, 3) := dk_181 0 31 (dk_at dksJ6_init_2_1 6 rfl rfl)
theorem dJ6_init_2_33 : decode cJ6_init_2 33 = .ok (.return_, 1) := dk_177 (dk_at dksJ6_init_2_1 9 rfl rfl)
abbrev cJ6_toString : ByteArray := prog_38_method_11_code
def yJ6_toString : MethodName := ⟨RJ6, "toString", "()Ljava/lang/String;"⟩
def dkwJ6_toString_1 : List UInt8 := [43, 182, 0, 49, 18, 81, 182, 0, 49, 44, 182, 0, 49, 182, 0, 60, 167, 0, 4, 43, 176]
abbrev dktJ6_toString_1 : List UInt8 := dkwJ6_toString_1 ++ []
def dkwJ6_toString_0 : List UInt8 := [42, 182, 0, 69, 182, 0, 73, 76, 42, 182, 0, 78, 77, 44, 198, 0, 29, 187, 0, 44, 89, 183, 0, 46]
abbrev dktJ6_toString_0 : List UInt8 := dkwJ6_toString_0 ++ dktJ6_toString_1
theorem dksJ6_toString_0 : cJ6_toString.data.toList.drop 0 = dktJ6_toString_0 := by decide +kernel
theorem dksJ6_toString_1 : cJ6_toString.data.toList.drop 24 = dktJ6_toString_1 := dk_seg dksJ6_toString_0 24 rfl rfl
theorem dJ6_toString_0 : decode cJ6_toString 0 = .ok (.aload_n 0, 1) := dk_42 (dk_at dksJ6_toString_0 0 rfl rfl)
theorem dJ6_toString_1 : decode cJ6_toString 1 = .ok (.invokevirtual 69, 3) := dk_182 0 69 (dk_at dksJ6_toString_0 1 rfl rfl)
theorem dJ6_toString_4 : decode cJ6_toString 4 = .ok (.invokevirtual 73, 3) := dk_182 0 73 (dk_at dksJ6_toString_0 4 rfl rfl)
theorem dJ6_toString_7 : decode cJ6_toString 7 = .ok (.astore_n 1, 1) := dk_76 (dk_at dksJ6_toString_0 7 rfl rfl)
theorem dJ6_toString_8 : decode cJ6_toString 8 = .ok (.aload_n 0, 1) := dk_42 (dk_at dksJ6_toString_0 8 rfl rfl)
theorem dJ6_toString_9 : decode cJ6_toString 9 = .ok (.invokevirtual 78, 3) := dk_182 0 78 (dk_at dksJ6_toString_0 9 rfl rfl)
theorem dJ6_toString_12 : decode cJ6_toString 12 = .ok (.astore_n 2, 1) := dk_77 (dk_at dksJ6_toString_0 12 rfl rfl)
theorem dJ6_toString_13 : decode cJ6_toString 13 = .ok (.aload_n 2, 1) := dk_44 (dk_at dksJ6_toString_0 13 rfl rfl)
theorem dJ6_toString_14 : decode cJ6_toString 14 = .ok (.ifnull 29, 3) := dk_198 0 29 (dk_at dksJ6_toString_0 14 rfl rfl)
theorem dJ6_toString_17 : decode cJ6_toString 17 = .ok (.new 44, 3) := dk_187 0 44 (dk_at dksJ6_toString_0 17 rfl rfl)
theorem dJ6_toString_20 : decode cJ6_toString 20 = .ok (.dup, 1) := dk_89 (dk_at dksJ6_toString_0 20 rfl rfl)
theorem dJ6_toString_21 : decode cJ6_toString 21 = .ok (.invokespecial 46, 3) := dk_183 0 46 (dk_at dksJ6_toString_0 21 rfl rfl)
theorem dJ6_toString_24 : decode cJ6_toString 24 = .ok (.aload_n 1, 1) := dk_43 (dk_at dksJ6_toString_1 0 rfl rfl)
theorem dJ6_toString_25 : decode cJ6_toString 25 = .ok (.invokevirtual 49, 3) := dk_182 0 49 (dk_at dksJ6_toString_1 1 rfl rfl)
theorem dJ6_toString_28 : decode cJ6_toString 28 = .ok (.ldc 81, 2) := dk_18 81 (dk_at dksJ6_toString_1 4 rfl rfl)
theorem dJ6_toString_30 : decode cJ6_toString 30 = .ok (.invokevirtual 49, 3) := dk_182 0 49 (dk_at dksJ6_toString_1 6 rfl rfl)
theorem dJ6_toString_33 : decode cJ6_toString 33 = .ok (.aload_n 2, 1) := dk_44 (dk_at dksJ6_toString_1 9 rfl rfl)
theorem dJ6_toString_34 : decode cJ6_toString 34 = .ok (.invokevirtual 49, 3) := dk_182 0 49 (dk_at dksJ6_toString_1 10 rfl rfl)
theorem dJ6_toString_37 : decode cJ6_toString 37 = .ok (.invokevirtual 60, 3) := dk_182 0 60 (dk_at dksJ6_toString_1 13 rfl rfl)
theorem dJ6_toString_40 : decode cJ6_toString 40 = .ok (.goto 4, 3) := dk_167 0 4 (dk_at dksJ6_toString_1 16 rfl rfl)
theorem dJ6_toString_43 : decode cJ6_toString 43 = .ok (.aload_n 1, 1) := dk_43 (dk_at dksJ6_toString_1 19 rfl rfl)
theorem dJ6_toString_44 : decode cJ6_toString 44 = .ok (.areturn, 1) := dk_176 (dk_at dksJ6_toString_1 20 rfl rfl)
abbrev cJ6_getLocalizedMessage : ByteArray := prog_38_method_7_code
def yJ6_getLocalizedMessage : MethodName := ⟨RJ6, "getLocalizedMessage", "()Ljava/lang/String;"⟩
theorem dJ6_getLocalizedMessage_0 : decode cJ6_getLocalizedMessage 0 = .ok (.aload_n 0, 1) := by decide +kernel
theorem dJ6_getLocalizedMessage_1 : decode cJ6_getLocalizedMessage 1 = .ok (.invokevirtual 39, 3) := by decide +kernel
theorem dJ6_getLocalizedMessage_4 : decode cJ6_getLocalizedMessage 4 = .ok (.areturn, 1) := by decide +kernel
abbrev cJ6_getMessage : ByteArray := prog_38_method_6_code
def yJ6_getMessage : MethodName := ⟨RJ6, "getMessage", "()Ljava/lang/String;"⟩
theorem dJ6_getMessage_0 : decode cJ6_getMessage 0 = .ok (.aload_n 0, 1) := by decide +kernel
theorem dJ6_getMessage_1 : decode cJ6_getMessage 1 = .ok (.getfield 31, 3) := by decide +kernel
theorem dJ6_getMessage_4 : decode cJ6_getMessage 4 = .ok (.areturn, 1) := by decide +kernel
theorem q124 : (Jvm.Cond.initialized "java/lang/Throwable") ∈ lw_all := lw_g (lw_at lw_m1 10 rfl) rfl
theorem q322 : (Jvm.Cond.declares ({ cls := "java/lang/Throwable", name := "<init>", desc := "()V" } : Jvm.MethodName)) ∈ lw_tbl := lw_at lw_m1 208 rfl
theorem q323 : (Jvm.Cond.declares ({ cls := "java/lang/Throwable", name := "<init>", desc := "(Ljava/lang/String;)V" } : Jvm.MethodName)) ∈ lw_tbl := lw_at lw_m1 209 rfl
theorem q327 : (Jvm.Cond.lays "java/lang/Throwable" "java/lang/Throwable" "cause" "Ljava/lang/Throwable;") ∈ lw_all := lw_g (lw_at lw_m1 213 rfl) rfl
theorem q329 : (Jvm.Cond.lays "java/lang/Throwable" "java/lang/Throwable" "stackTrace" "[Ljava/lang/StackTraceElement;") ∈ lw_all := lw_g (lw_at lw_m1 215 rfl) rfl
theorem q331 : (Jvm.Cond.lays "java/lang/Throwable" "java/lang/Throwable" "suppressedExceptions" "Ljava/util/List;") ∈ lw_all := lw_g (lw_at lw_m1 217 rfl) rfl
theorem q333 : (Jvm.Cond.lays "java/lang/Throwable" "java/lang/Throwable" "detailMessage" "Ljava/lang/String;") ∈ lw_all := lw_g (lw_at lw_m1 219 rfl) rfl
theorem q335 : (Jvm.Cond.lays "java/lang/Throwable" "java/lang/Throwable" "backtrace" "Ljava/lang/Object;") ∈ lw_all := lw_g (lw_at lw_m1 221 rfl) rfl
theorem q336 : (Jvm.Cond.fieldLink "java/lang/Throwable" (198 : Nat) "java/lang/Throwable" "backtrace" "Ljava/lang/Object;") ∈ lw_all := lw_g (lw_at lw_m1 222 rfl) rfl
theorem q337 : (Jvm.Cond.superclass "java/lang/Throwable" "java/lang/Object") ∈ lw_all := lw_g (lw_at lw_m1 223 rfl) rfl
theorem q338 : (Jvm.Cond.instanceMethod ({ cls := "java/lang/Throwable", name := "<init>", desc := "()V" } : Jvm.MethodName)) ∈ lw_all := lw_g (lw_at lw_m1 224 rfl) rfl
theorem q339 : (Jvm.Cond.code ({ cls := "java/lang/Throwable", name := "<init>", desc := "()V" } : Jvm.MethodName) prog_38_method_1_code (1 : Nat) (Option.none : Option Jvm.ClassFile.FieldType)) ∈ lw_all := lw_g (lw_at lw_m1 225 rfl) rfl
theorem q340 : (Jvm.Cond.methodLink "java/lang/Throwable" (1 : Nat) ({ cls := "java/lang/Object", name := "<init>", desc := "()V" } : Jvm.MethodName)) ∈ lw_all := lw_g (lw_at lw_m1 226 rfl) rfl
theorem q341 : (Jvm.Cond.fieldLink "java/lang/Throwable" (13 : Nat) "java/lang/Throwable" "UNASSIGNED_STACK" "[Ljava/lang/StackTraceElement;") ∈ lw_all := lw_g (lw_at lw_m1 227 rfl) rfl
theorem q342 : (Jvm.Cond.laysStatic "java/lang/Throwable" "UNASSIGNED_STACK" "[Ljava/lang/StackTraceElement;") ∈ lw_tbl := lw_at lw_m1 228 rfl
theorem q343 : (Jvm.Cond.fieldLink "java/lang/Throwable" (20 : Nat) "java/lang/Throwable" "SUPPRESSED_SENTINEL" "Ljava/util/List;") ∈ lw_all := lw_g (lw_at lw_m1 229 rfl) rfl
theorem q344 : (Jvm.Cond.laysStatic "java/lang/Throwable" "SUPPRESSED_SENTINEL" "Ljava/util/List;") ∈ lw_tbl := lw_at lw_m1 230 rfl
theorem q345 : (Jvm.Cond.methodLink "java/lang/Throwable" (27 : Nat) ({ cls := "java/lang/Throwable", name := "fillInStackTrace", desc := "()Ljava/lang/Throwable;" } : Jvm.MethodName)) ∈ lw_all := lw_g (lw_at lw_m1 231 rfl) rfl
theorem q346 : (Jvm.Cond.instanceMethod ({ cls := "java/lang/Throwable", name := "fillInStackTrace", desc := "()Ljava/lang/Throwable;" } : Jvm.MethodName)) ∈ lw_all := lw_g (lw_at lw_m1 232 rfl) rfl
theorem q347 : (Jvm.Cond.sameMethod "java/lang/Throwable" "java/lang/Throwable" "fillInStackTrace" "()Ljava/lang/Throwable;") ∈ lw_all := lw_g (lw_at lw_m1 233 rfl) rfl
theorem q355 : (Jvm.Cond.codeSync ({ cls := "java/lang/Throwable", name := "fillInStackTrace", desc := "()Ljava/lang/Throwable;" } : Jvm.MethodName) prog_38_method_18_code (1 : Nat) (Option.some (Jvm.ClassFile.FieldType.object "java/lang/Throwable"))) ∈ lw_all := lw_g (lw_at lw_m2 1 rfl) rfl
theorem q356 : (Jvm.Cond.methodLink "java/lang/Throwable" (202 : Nat) ({ cls := "java/lang/Throwable", name := "fillInStackTrace", desc := "(I)Ljava/lang/Throwable;" } : Jvm.MethodName)) ∈ lw_all := lw_g (lw_at lw_m2 2 rfl) rfl
theorem q357 : (Jvm.Cond.privateMethod ({ cls := "java/lang/Throwable", name := "fillInStackTrace", desc := "(I)Ljava/lang/Throwable;" } : Jvm.MethodName)) ∈ lw_tbl := lw_at lw_m2 3 rfl
theorem q358 : (Jvm.Cond.instanceMethod ({ cls := "java/lang/Throwable", name := "fillInStackTrace", desc := "(I)Ljava/lang/Throwable;" } : Jvm.MethodName)) ∈ lw_all := lw_g (lw_at lw_m2 4 rfl) rfl
theorem q359 : (Jvm.Cond.instantiable "java/lang/Throwable" (6 : Nat)) ∈ lw_all := lw_g (lw_at lw_m2 5 rfl) rfl
theorem q360 : (Jvm.Cond.native ({ cls := "java/lang/Throwable", name := "fillInStackTrace", desc := "(I)Ljava/lang/Throwable;" } : Jvm.MethodName)) ∈ lw_all := lw_g (lw_at lw_m2 6 rfl) rfl
theorem q371 : (Jvm.Cond.fieldLink "java/lang/Throwable" (198 : Nat) "java/lang/Throwable" "backtrace" "Ljava/lang/Object;") ∈ lw_all := lw_g (lw_at lw_m2 17 rfl) rfl
theorem q372 : (Jvm.Cond.fieldLink "java/lang/Throwable" (31 : Nat) "java/lang/Throwable" "detailMessage" "Ljava/lang/String;") ∈ lw_all := lw_g (lw_at lw_m2 18 rfl) rfl
theorem q373 : (Jvm.Cond.fieldLink "java/lang/Throwable" (7 : Nat) "java/lang/Throwable" "cause" "Ljava/lang/Throwable;") ∈ lw_all := lw_g (lw_at lw_m2 19 rfl) rfl
theorem q374 : (Jvm.Cond.fieldLink "java/lang/Throwable" (17 : Nat) "java/lang/Throwable" "stackTrace" "[Ljava/lang/StackTraceElement;") ∈ lw_all := lw_g (lw_at lw_m2 20 rfl) rfl
theorem q375 : (Jvm.Cond.fieldLink "java/lang/Throwable" (24 : Nat) "java/lang/Throwable" "suppressedExceptions" "Ljava/util/List;") ∈ lw_all := lw_g (lw_at lw_m2 21 rfl) rfl
theorem q376 : (Jvm.Cond.soleField "java/lang/Throwable" "backtrace") ∈ lw_all := lw_g (lw_at lw_m2 22 rfl) rfl
theorem q377 : (Jvm.Cond.soleField "java/lang/Throwable" "detailMessage") ∈ lw_all := lw_g (lw_at lw_m2 23 rfl) rfl
theorem q378 : (Jvm.Cond.soleField "java/lang/Throwable" "cause") ∈ lw_all := lw_g (lw_at lw_m2 24 rfl) rfl
theorem q379 : (Jvm.Cond.soleField "java/lang/Throwable" "stackTrace") ∈ lw_all := lw_g (lw_at lw_m2 25 rfl) rfl
theorem q381 : (Jvm.Cond.soleField "java/lang/Throwable" "depth") ∈ lw_all := lw_g (lw_at lw_m2 27 rfl) rfl
theorem q382 : (Jvm.Cond.soleField "java/lang/Throwable" "suppressedExceptions") ∈ lw_all := lw_g (lw_at lw_m2 28 rfl) rfl
theorem q669 : (Jvm.Cond.instanceMethod ({ cls := "java/lang/Throwable", name := "<init>", desc := "(Ljava/lang/String;)V" } : Jvm.MethodName)) ∈ lw_all := lw_g (lw_at lw_m3 75 rfl) rfl
theorem q670 : (Jvm.Cond.code ({ cls := "java/lang/Throwable", name := "<init>", desc := "(Ljava/lang/String;)V" } : Jvm.MethodName) prog_38_method_2_code (2 : Nat) (Option.none : Option Jvm.ClassFile.FieldType)) ∈ lw_all := lw_g (lw_at lw_m3 76 rfl) rfl
theorem q2459 : (Jvm.Cond.instanceMethod ({ cls := "java/lang/Throwable", name := "toString", desc := "()Ljava/lang/String;" } : Jvm.MethodName)) ∈ lw_all := lw_g (lw_at lw_m10 185 rfl) rfl
theorem q2460 : (Jvm.Cond.code ({ cls := "java/lang/Throwable", name := "toString", desc := "()Ljava/lang/String;" } : Jvm.MethodName) prog_38_method_11_code (3 : Nat) (Option.some (Jvm.ClassFile.FieldType.object "java/lang/String"))) ∈ lw_all := lw_g (lw_at lw_m10 186 rfl) rfl
theorem q2461 : (Jvm.Cond.methodLink "java/lang/Throwable" (69 : Nat) ({ cls := "java/lang/Object", name := "getClass", desc := "()Ljava/lang/Class;" } : Jvm.MethodName)) ∈ lw_all := lw_g (lw_at lw_m10 187 rfl) rfl
theorem q2462 : (Jvm.Cond.methodLink "java/lang/Throwable" (78 : Nat) ({ cls := "java/lang/Throwable", name := "getLocalizedMessage", desc := "()Ljava/lang/String;" } : Jvm.MethodName)) ∈ lw_all := lw_g (lw_at lw_m10 188 rfl) rfl
theorem q2463 : (Jvm.Cond.instanceMethod ({ cls := "java/lang/Throwable", name := "getLocalizedMessage", desc := "()Ljava/lang/String;" } : Jvm.MethodName)) ∈ lw_all := lw_g (lw_at lw_m10 189 rfl) rfl
theorem q2464 : (Jvm.Cond.sameMethod "java/lang/Throwable" "java/lang/Throwable" "getLocalizedMessage" "()Ljava/lang/String;") ∈ lw_all := lw_g (lw_at lw_m10 190 rfl) rfl
theorem q2473 : (Jvm.Cond.code ({ cls := "java/lang/Throwable", name := "getLocalizedMessage", desc := "()Ljava/lang/String;" } : Jvm.MethodName) prog_38_method_7_code (1 : Nat) (Option.some (Jvm.ClassFile.FieldType.object "java/lang/String"))) ∈ lw_all := lw_g (lw_at lw_m10 199 rfl) rfl
theorem q2474 : (Jvm.Cond.methodLink "java/lang/Throwable" (39 : Nat) ({ cls := "java/lang/Throwable", name := "getMessage", desc := "()Ljava/lang/String;" } : Jvm.MethodName)) ∈ lw_all := lw_g (lw_at lw_m10 200 rfl) rfl
theorem q2475 : (Jvm.Cond.instanceMethod ({ cls := "java/lang/Throwable", name := "getMessage", desc := "()Ljava/lang/String;" } : Jvm.MethodName)) ∈ lw_all := lw_g (lw_at lw_m10 201 rfl) rfl
theorem q2476 : (Jvm.Cond.sameMethod "java/lang/Throwable" "java/lang/Throwable" "getMessage" "()Ljava/lang/String;") ∈ lw_all := lw_g (lw_at lw_m10 202 rfl) rfl
theorem q2485 : (Jvm.Cond.code ({ cls := "java/lang/Throwable", name := "getMessage", desc := "()Ljava/lang/String;" } : Jvm.MethodName) prog_38_method_6_code (1 : Nat) (Option.some (Jvm.ClassFile.FieldType.object "java/lang/String"))) ∈ lw_all := lw_g (lw_at lw_m10 211 rfl) rfl
theorem q2486 : (Jvm.Cond.classLink "java/lang/Throwable" (44 : Nat) "java/lang/StringBuilder") ∈ lw_all := lw_g (lw_at lw_m10 212 rfl) rfl
theorem q2487 : (Jvm.Cond.methodLink "java/lang/Throwable" (46 : Nat) ({ cls := "java/lang/StringBuilder", name := "<init>", desc := "()V" } : Jvm.MethodName)) ∈ lw_all := lw_g (lw_at lw_m10 213 rfl) rfl
theorem q2488 : (Jvm.Cond.methodLink "java/lang/Throwable" (49 : Nat) ({ cls := "java/lang/StringBuilder", name := "append", desc := "(Ljava/lang/String;)Ljava/lang/StringBuilder;" } : Jvm.MethodName)) ∈ lw_all := lw_g (lw_at lw_m10 214 rfl) rfl
theorem q2489 : (Jvm.Cond.stringRef "java/lang/Throwable" (81 : Nat) ": ") ∈ lw_tbl := lw_at lw_m10 215 rfl
theorem q2490 : (Jvm.Cond.methodLink "java/lang/Throwable" (60 : Nat) ({ cls := "java/lang/StringBuilder", name := "toString", desc := "()Ljava/lang/String;" } : Jvm.MethodName)) ∈ lw_all := lw_g (lw_at lw_m10 216 rfl) rfl
theorem q3217 : (Jvm.Cond.sameMethod "java/lang/Throwable" "java/lang/Throwable" "fillInStackTrace" "(I)Ljava/lang/Throwable;") ∈ lw_all := lw_g (lw_at lw_m13 223 rfl) rfl
theorem q3262 : (Jvm.Cond.castable "java/lang/Throwable" "java/lang/Object") ∈ lw_tbl := lw_at lw_m14 28 rfl
theorem in_J6 : ∀ w ∈ wsJ60, w ∈ lw_all := lw_in wsJ60 [327, 329, 331, 333, 335] (by decide +kernel) (by decide +kernel)

/-! java/lang/Exception -/
set_option maxRecDepth 100000
def RJ7 : String := "java/lang/Exception"
abbrev cJ7_init : ByteArray := prog_21_method_1_code
def yJ7_init : MethodName := ⟨RJ7, "<init>", "()V"⟩
theorem dJ7_init_0 : decode cJ7_init 0 = .ok (.aload_n 0, 1) := by decide +kernel
theorem dJ7_init_1 : decode cJ7_init 1 = .ok (.invokespecial 1, 3) := by decide +kernel
theorem dJ7_init_4 : decode cJ7_init 4 = .ok (.return_, 1) := by decide +kernel
abbrev cJ7_init_2 : ByteArray := prog_21_method_2_code
def yJ7_init_2 : MethodName := ⟨RJ7, "<init>", "(Ljava/lang/String;)V"⟩
def dkwJ7_init_2_0 : List UInt8 := [42, 43, 183, 0, 7, 177]
abbrev dktJ7_init_2_0 : List UInt8 := dkwJ7_init_2_0 ++ []
theorem dksJ7_init_2_0 : cJ7_init_2.data.toList.drop 0 = dktJ7_init_2_0 := by decide +kernel
theorem dJ7_init_2_0 : decode cJ7_init_2 0 = .ok (.aload_n 0, 1) := dk_42 (dk_at dksJ7_init_2_0 0 rfl rfl)
theorem dJ7_init_2_1 : decode cJ7_init_2 1 = .ok (.aload_n 1, 1) := dk_43 (dk_at dksJ7_init_2_0 1 rfl rfl)
theorem dJ7_init_2_2 : decode cJ7_init_2 2 = .ok (.invokespecial 7, 3) := dk_183 0 7 (dk_at dksJ7_init_2_0 2 rfl rfl)
theorem dJ7_init_2_5 : decode cJ7_init_2 5 = .ok (.return_, 1) := dk_177 (dk_at dksJ7_init_2_0 5 rfl rfl)
theorem q125 : (Jvm.Cond.initialized "java/lang/Exception") ∈ lw_all := lw_g (lw_at lw_m1 11 rfl) rfl
theorem q320 : (Jvm.Cond.declares ({ cls := "java/lang/Exception", name := "<init>", desc := "()V" } : Jvm.MethodName)) ∈ lw_tbl := lw_at lw_m1 206 rfl
theorem q321 : (Jvm.Cond.declares ({ cls := "java/lang/Exception", name := "<init>", desc := "(Ljava/lang/String;)V" } : Jvm.MethodName)) ∈ lw_tbl := lw_at lw_m1 207 rfl
theorem q368 : (Jvm.Cond.instanceMethod ({ cls := "java/lang/Exception", name := "<init>", desc := "()V" } : Jvm.MethodName)) ∈ lw_all := lw_g (lw_at lw_m2 14 rfl) rfl
theorem q369 : (Jvm.Cond.code ({ cls := "java/lang/Exception", name := "<init>", desc := "()V" } : Jvm.MethodName) prog_21_method_1_code (1 : Nat) (Option.none : Option Jvm.ClassFile.FieldType)) ∈ lw_all := lw_g (lw_at lw_m2 15 rfl) rfl
theorem q370 : (Jvm.Cond.methodLink "java/lang/Exception" (1 : Nat) ({ cls := "java/lang/Throwable", name := "<init>", desc := "()V" } : Jvm.MethodName)) ∈ lw_all := lw_g (lw_at lw_m2 16 rfl) rfl
theorem q666 : (Jvm.Cond.instanceMethod ({ cls := "java/lang/Exception", name := "<init>", desc := "(Ljava/lang/String;)V" } : Jvm.MethodName)) ∈ lw_all := lw_g (lw_at lw_m3 72 rfl) rfl
theorem q667 : (Jvm.Cond.code ({ cls := "java/lang/Exception", name := "<init>", desc := "(Ljava/lang/String;)V" } : Jvm.MethodName) prog_21_method_2_code (2 : Nat) (Option.none : Option Jvm.ClassFile.FieldType)) ∈ lw_all := lw_g (lw_at lw_m3 73 rfl) rfl
theorem q668 : (Jvm.Cond.methodLink "java/lang/Exception" (7 : Nat) ({ cls := "java/lang/Throwable", name := "<init>", desc := "(Ljava/lang/String;)V" } : Jvm.MethodName)) ∈ lw_all := lw_g (lw_at lw_m3 74 rfl) rfl

/-! java/lang/RuntimeException -/
set_option maxRecDepth 100000
def RJ8 : String := "java/lang/RuntimeException"
abbrev cJ8_init : ByteArray := prog_31_method_1_code
def yJ8_init : MethodName := ⟨RJ8, "<init>", "()V"⟩
theorem dJ8_init_0 : decode cJ8_init 0 = .ok (.aload_n 0, 1) := by decide +kernel
theorem dJ8_init_1 : decode cJ8_init 1 = .ok (.invokespecial 1, 3) := by decide +kernel
theorem dJ8_init_4 : decode cJ8_init 4 = .ok (.return_, 1) := by decide +kernel
abbrev cJ8_init_2 : ByteArray := prog_31_method_2_code
def yJ8_init_2 : MethodName := ⟨RJ8, "<init>", "(Ljava/lang/String;)V"⟩
def dkwJ8_init_2_0 : List UInt8 := [42, 43, 183, 0, 7, 177]
abbrev dktJ8_init_2_0 : List UInt8 := dkwJ8_init_2_0 ++ []
theorem dksJ8_init_2_0 : cJ8_init_2.data.toList.drop 0 = dktJ8_init_2_0 := by decide +kernel
theorem dJ8_init_2_0 : decode cJ8_init_2 0 = .ok (.aload_n 0, 1) := dk_42 (dk_at dksJ8_init_2_0 0 rfl rfl)
theorem dJ8_init_2_1 : decode cJ8_init_2 1 = .ok (.aload_n 1, 1) := dk_43 (dk_at dksJ8_init_2_0 1 rfl rfl)
theorem dJ8_init_2_2 : decode cJ8_init_2 2 = .ok (.invokespecial 7, 3) := dk_183 0 7 (dk_at dksJ8_init_2_0 2 rfl rfl)
theorem dJ8_init_2_5 : decode cJ8_init_2 5 = .ok (.return_, 1) := dk_177 (dk_at dksJ8_init_2_0 5 rfl rfl)
theorem q126 : (Jvm.Cond.initialized "java/lang/RuntimeException") ∈ lw_all := lw_g (lw_at lw_m1 12 rfl) rfl
theorem q318 : (Jvm.Cond.declares ({ cls := "java/lang/RuntimeException", name := "<init>", desc := "()V" } : Jvm.MethodName)) ∈ lw_tbl := lw_at lw_m1 204 rfl
theorem q319 : (Jvm.Cond.declares ({ cls := "java/lang/RuntimeException", name := "<init>", desc := "(Ljava/lang/String;)V" } : Jvm.MethodName)) ∈ lw_tbl := lw_at lw_m1 205 rfl
theorem q365 : (Jvm.Cond.instanceMethod ({ cls := "java/lang/RuntimeException", name := "<init>", desc := "()V" } : Jvm.MethodName)) ∈ lw_all := lw_g (lw_at lw_m2 11 rfl) rfl
theorem q366 : (Jvm.Cond.code ({ cls := "java/lang/RuntimeException", name := "<init>", desc := "()V" } : Jvm.MethodName) prog_31_method_1_code (1 : Nat) (Option.none : Option Jvm.ClassFile.FieldType)) ∈ lw_all := lw_g (lw_at lw_m2 12 rfl) rfl
theorem q367 : (Jvm.Cond.methodLink "java/lang/RuntimeException" (1 : Nat) ({ cls := "java/lang/Exception", name := "<init>", desc := "()V" } : Jvm.MethodName)) ∈ lw_all := lw_g (lw_at lw_m2 13 rfl) rfl
theorem q663 : (Jvm.Cond.instanceMethod ({ cls := "java/lang/RuntimeException", name := "<init>", desc := "(Ljava/lang/String;)V" } : Jvm.MethodName)) ∈ lw_all := lw_g (lw_at lw_m3 69 rfl) rfl
theorem q664 : (Jvm.Cond.code ({ cls := "java/lang/RuntimeException", name := "<init>", desc := "(Ljava/lang/String;)V" } : Jvm.MethodName) prog_31_method_2_code (2 : Nat) (Option.none : Option Jvm.ClassFile.FieldType)) ∈ lw_all := lw_g (lw_at lw_m3 70 rfl) rfl
theorem q665 : (Jvm.Cond.methodLink "java/lang/RuntimeException" (7 : Nat) ({ cls := "java/lang/Exception", name := "<init>", desc := "(Ljava/lang/String;)V" } : Jvm.MethodName)) ∈ lw_all := lw_g (lw_at lw_m3 71 rfl) rfl

/-! java/util/NoSuchElementException -/
set_option maxRecDepth 100000
def RJ9 : String := "java/util/NoSuchElementException"
def TJ9 : u_T := fun k => match k with
  | 0 => ("java/lang/Throwable", "cause", "Ljava/lang/Throwable;", false)
  | 1 => ("java/lang/Throwable", "stackTrace", "[Ljava/lang/StackTraceElement;", false)
  | 2 => ("java/lang/Throwable", "suppressedExceptions", "Ljava/util/List;", false)
  | 3 => ("java/lang/Throwable", "detailMessage", "Ljava/lang/String;", false)
  | 4 => ("java/lang/Throwable", "backtrace", "Ljava/lang/Object;", false)
  | _ => ("java/lang/Throwable", "depth", "I", false)
def tyJ9 : Nat → FieldType := fun k => match k with
  | 0 => .object "java/lang/Throwable"
  | 1 => .array (.object "java/lang/StackTraceElement")
  | 2 => .object "java/util/List"
  | 3 => .object "java/lang/String"
  | 4 => .object "java/lang/Object"
  | _ => .int
abbrev wsJ90 : List Cond := u_ws RJ9 TJ9 6
theorem nmJ9 : ∀ a, a < 6 → ∀ b, b < 6 → a ≠ b → (TJ9 a).2.1 ≠ (TJ9 b).2.1 := by decide +kernel
theorem tyJ9_ok : ∀ k, k < 6 → parseFieldDescriptor (TJ9 k).2.2.1 = some (tyJ9 k) := by decide +kernel
abbrev cJ9_init : ByteArray := prog_59_method_1_code
def yJ9_init : MethodName := ⟨RJ9, "<init>", "()V"⟩
theorem dJ9_init_0 : decode cJ9_init 0 = .ok (.aload_n 0, 1) := by decide +kernel
theorem dJ9_init_1 : decode cJ9_init 1 = .ok (.invokespecial 1, 3) := by decide +kernel
theorem dJ9_init_4 : decode cJ9_init 4 = .ok (.return_, 1) := by decide +kernel
theorem q127 : (Jvm.Cond.initialized "java/util/NoSuchElementException") ∈ lw_all := lw_g (lw_at lw_m1 13 rfl) rfl
theorem q316 : (Jvm.Cond.instantiable "java/util/NoSuchElementException" (6 : Nat)) ∈ lw_all := lw_g (lw_at lw_m1 202 rfl) rfl
theorem q317 : (Jvm.Cond.castable "java/util/NoSuchElementException" "java/util/NoSuchElementException") ∈ lw_tbl := lw_at lw_m1 203 rfl
theorem q324 : (Jvm.Cond.selects "java/util/NoSuchElementException" ({ cls := "java/lang/Throwable", name := "fillInStackTrace", desc := "(I)Ljava/lang/Throwable;" } : Jvm.MethodName) ({ cls := "java/lang/Throwable", name := "fillInStackTrace", desc := "(I)Ljava/lang/Throwable;" } : Jvm.MethodName)) ∈ lw_all := lw_g (lw_at lw_m1 210 rfl) rfl
theorem q325 : (Jvm.Cond.selects "java/util/NoSuchElementException" ({ cls := "java/lang/Throwable", name := "fillInStackTrace", desc := "()Ljava/lang/Throwable;" } : Jvm.MethodName) ({ cls := "java/lang/Throwable", name := "fillInStackTrace", desc := "()Ljava/lang/Throwable;" } : Jvm.MethodName)) ∈ lw_all := lw_g (lw_at lw_m1 211 rfl) rfl
theorem q326 : (Jvm.Cond.lays "java/util/NoSuchElementException" "java/lang/Throwable" "cause" "Ljava/lang/Throwable;") ∈ lw_all := lw_g (lw_at lw_m1 212 rfl) rfl
theorem q328 : (Jvm.Cond.lays "java/util/NoSuchElementException" "java/lang/Throwable" "stackTrace" "[Ljava/lang/StackTraceElement;") ∈ lw_all := lw_g (lw_at lw_m1 214 rfl) rfl
theorem q330 : (Jvm.Cond.lays "java/util/NoSuchElementException" "java/lang/Throwable" "suppressedExceptions" "Ljava/util/List;") ∈ lw_all := lw_g (lw_at lw_m1 216 rfl) rfl
theorem q332 : (Jvm.Cond.lays "java/util/NoSuchElementException" "java/lang/Throwable" "detailMessage" "Ljava/lang/String;") ∈ lw_all := lw_g (lw_at lw_m1 218 rfl) rfl
theorem q334 : (Jvm.Cond.lays "java/util/NoSuchElementException" "java/lang/Throwable" "backtrace" "Ljava/lang/Object;") ∈ lw_all := lw_g (lw_at lw_m1 220 rfl) rfl
theorem q362 : (Jvm.Cond.instanceMethod ({ cls := "java/util/NoSuchElementException", name := "<init>", desc := "()V" } : Jvm.MethodName)) ∈ lw_all := lw_g (lw_at lw_m2 8 rfl) rfl
theorem q363 : (Jvm.Cond.code ({ cls := "java/util/NoSuchElementException", name := "<init>", desc := "()V" } : Jvm.MethodName) prog_59_method_1_code (1 : Nat) (Option.none : Option Jvm.ClassFile.FieldType)) ∈ lw_all := lw_g (lw_at lw_m2 9 rfl) rfl
theorem q364 : (Jvm.Cond.methodLink "java/util/NoSuchElementException" (1 : Nat) ({ cls := "java/lang/RuntimeException", name := "<init>", desc := "()V" } : Jvm.MethodName)) ∈ lw_all := lw_g (lw_at lw_m2 10 rfl) rfl
theorem q380 : (Jvm.Cond.lays "java/util/NoSuchElementException" "java/lang/Throwable" "depth" "I") ∈ lw_all := lw_g (lw_at lw_m2 26 rfl) rfl
theorem q383 : (Jvm.Cond.superclass "java/util/NoSuchElementException" "java/lang/RuntimeException") ∈ lw_all := lw_g (lw_at lw_m2 29 rfl) rfl
theorem q767 : (Jvm.Cond.selects "java/util/NoSuchElementException" ({ cls := "java/lang/Object", name := "getClass", desc := "()Ljava/lang/Class;" } : Jvm.MethodName) ({ cls := "java/lang/Object", name := "getClass", desc := "()Ljava/lang/Class;" } : Jvm.MethodName)) ∈ lw_all := lw_g (lw_at lw_m3 173 rfl) rfl
theorem q2472 : (Jvm.Cond.selects "java/util/NoSuchElementException" ({ cls := "java/lang/Throwable", name := "getLocalizedMessage", desc := "()Ljava/lang/String;" } : Jvm.MethodName) ({ cls := "java/lang/Throwable", name := "getLocalizedMessage", desc := "()Ljava/lang/String;" } : Jvm.MethodName)) ∈ lw_all := lw_g (lw_at lw_m10 198 rfl) rfl
theorem q2484 : (Jvm.Cond.selects "java/util/NoSuchElementException" ({ cls := "java/lang/Throwable", name := "getMessage", desc := "()Ljava/lang/String;" } : Jvm.MethodName) ({ cls := "java/lang/Throwable", name := "getMessage", desc := "()Ljava/lang/String;" } : Jvm.MethodName)) ∈ lw_all := lw_g (lw_at lw_m10 210 rfl) rfl
theorem q3239 : (Jvm.Cond.castable "java/util/NoSuchElementException" "java/lang/Object") ∈ lw_tbl := lw_at lw_m14 5 rfl
theorem in_J9 : ∀ w ∈ wsJ90, w ∈ lw_all := lw_in wsJ90 [326, 328, 330, 332, 334, 380] (by decide +kernel) (by decide +kernel)

/-! java/util/Objects -/
set_option maxRecDepth 100000
def RJ10 : String := "java/util/Objects"
abbrev cJ10_checkIndex : ByteArray := prog_60_method_17_code
def yJ10_checkIndex : MethodName := ⟨RJ10, "checkIndex", "(II)I"⟩
def dkwJ10_checkIndex_0 : List UInt8 := [26, 27, 1, 184, 0, 105, 172]
abbrev dktJ10_checkIndex_0 : List UInt8 := dkwJ10_checkIndex_0 ++ []
theorem dksJ10_checkIndex_0 : cJ10_checkIndex.data.toList.drop 0 = dktJ10_checkIndex_0 := by decide +kernel
theorem dJ10_checkIndex_0 : decode cJ10_checkIndex 0 = .ok (.iload_n 0, 1) := dk_26 (dk_at dksJ10_checkIndex_0 0 rfl rfl)
theorem dJ10_checkIndex_1 : decode cJ10_checkIndex 1 = .ok (.iload_n 1, 1) := dk_27 (dk_at dksJ10_checkIndex_0 1 rfl rfl)
theorem dJ10_checkIndex_2 : decode cJ10_checkIndex 2 = .ok (.aconst_null, 1) := dk_1 (dk_at dksJ10_checkIndex_0 2 rfl rfl)
theorem dJ10_checkIndex_3 : decode cJ10_checkIndex 3 = .ok (.invokestatic 105, 3) := dk_184 0 105 (dk_at dksJ10_checkIndex_0 3 rfl rfl)
theorem dJ10_checkIndex_6 : decode cJ10_checkIndex 6 = .ok (.ireturn, 1) := dk_172 (dk_at dksJ10_checkIndex_0 6 rfl rfl)
abbrev cJ10_requireNonNull : ByteArray := prog_60_method_10_code
def yJ10_requireNonNull : MethodName := ⟨RJ10, "requireNonNull", "(Ljava/lang/Object;)Ljava/lang/Object;"⟩
def dkwJ10_requireNonNull_0 : List UInt8 := [42, 199, 0, 11, 187, 0, 84, 89, 183, 0, 86, 191, 42, 176]
abbrev dktJ10_requireNonNull_0 : List UInt8 := dkwJ10_requireNonNull_0 ++ []
theorem dksJ10_requireNonNull_0 : cJ10_requireNonNull.data.toList.drop 0 = dktJ10_requireNonNull_0 := by decide +kernel
theorem dJ10_requireNonNull_0 : decode cJ10_requireNonNull 0 = .ok (.aload_n 0, 1) := dk_42 (dk_at dksJ10_requireNonNull_0 0 rfl rfl)
theorem dJ10_requireNonNull_1 : decode cJ10_requireNonNull 1 = .ok (.ifnonnull 11, 3) := dk_199 0 11 (dk_at dksJ10_requireNonNull_0 1 rfl rfl)
theorem dJ10_requireNonNull_4 : decode cJ10_requireNonNull 4 = .ok (.new 84, 3) := dk_187 0 84 (dk_at dksJ10_requireNonNull_0 4 rfl rfl)
theorem dJ10_requireNonNull_7 : decode cJ10_requireNonNull 7 = .ok (.dup, 1) := dk_89 (dk_at dksJ10_requireNonNull_0 7 rfl rfl)
theorem dJ10_requireNonNull_8 : decode cJ10_requireNonNull 8 = .ok (.invokespecial 86, 3) := dk_183 0 86 (dk_at dksJ10_requireNonNull_0 8 rfl rfl)
theorem dJ10_requireNonNull_11 : decode cJ10_requireNonNull 11 = .ok (.athrow, 1) := dk_191 (dk_at dksJ10_requireNonNull_0 11 rfl rfl)
theorem dJ10_requireNonNull_12 : decode cJ10_requireNonNull 12 = .ok (.aload_n 0, 1) := dk_42 (dk_at dksJ10_requireNonNull_0 12 rfl rfl)
theorem dJ10_requireNonNull_13 : decode cJ10_requireNonNull 13 = .ok (.areturn, 1) := dk_176 (dk_at dksJ10_requireNonNull_0 13 rfl rfl)
theorem q128 : (Jvm.Cond.initialized "java/util/Objects") ∈ lw_all := lw_g (lw_at lw_m1 14 rfl) rfl
theorem q399 : (Jvm.Cond.static ({ cls := "java/util/Objects", name := "checkIndex", desc := "(II)I" } : Jvm.MethodName)) ∈ lw_all := lw_g (lw_at lw_m2 45 rfl) rfl
theorem q400 : (Jvm.Cond.code ({ cls := "java/util/Objects", name := "checkIndex", desc := "(II)I" } : Jvm.MethodName) prog_60_method_17_code (2 : Nat) (Option.some Jvm.ClassFile.FieldType.int)) ∈ lw_all := lw_g (lw_at lw_m2 46 rfl) rfl
theorem q401 : (Jvm.Cond.methodLink "java/util/Objects" (105 : Nat) ({ cls := "jdk/internal/util/Preconditions", name := "checkIndex", desc := "(IILjava/util/function/BiFunction;)I" } : Jvm.MethodName)) ∈ lw_all := lw_g (lw_at lw_m2 47 rfl) rfl
theorem q2027 : (Jvm.Cond.static ({ cls := "java/util/Objects", name := "requireNonNull", desc := "(Ljava/lang/Object;)Ljava/lang/Object;" } : Jvm.MethodName)) ∈ lw_all := lw_g (lw_at lw_m8 233 rfl) rfl
theorem q2028 : (Jvm.Cond.code ({ cls := "java/util/Objects", name := "requireNonNull", desc := "(Ljava/lang/Object;)Ljava/lang/Object;" } : Jvm.MethodName) prog_60_method_10_code (1 : Nat) (Option.some (Jvm.ClassFile.FieldType.object "java/lang/Object"))) ∈ lw_all := lw_g (lw_at lw_m8 234 rfl) rfl

/-! jdk/internal/util/Preconditions -/
set_option maxRecDepth 100000
def RJ11 : String := "jdk/internal/util/Preconditions"
abbrev cJ11_checkIndex : ByteArray := prog_67_method_11_code
def yJ11_checkIndex : MethodName := ⟨RJ11, "checkIndex", "(IILjava/util/function/BiFunction;)I"⟩
def dkwJ11_checkIndex_0 : List UInt8 := [26, 155, 0, 8, 26, 27, 161, 0, 10, 44, 26, 27, 184, 0, 95, 191, 26, 172]
abbrev dktJ11_checkIndex_0 : List UInt8 := dkwJ11_checkIndex_0 ++ []
theorem dksJ11_checkIndex_0 : cJ11_checkIndex.data.toList.drop 0 = dktJ11_checkIndex_0 := by decide +kernel
theorem dJ11_checkIndex_0 : decode cJ11_checkIndex 0 = .ok (.iload_n 0, 1) := dk_26 (dk_at dksJ11_checkIndex_0 0 rfl rfl)
theorem dJ11_checkIndex_1 : decode cJ11_checkIndex 1 = .ok (.ifCond .lt 8, 3) := dk_155 0 8 (dk_at dksJ11_checkIndex_0 1 rfl rfl)
theorem dJ11_checkIndex_4 : decode cJ11_checkIndex 4 = .ok (.iload_n 0, 1) := dk_26 (dk_at dksJ11_checkIndex_0 4 rfl rfl)
theorem dJ11_checkIndex_5 : decode cJ11_checkIndex 5 = .ok (.iload_n 1, 1) := dk_27 (dk_at dksJ11_checkIndex_0 5 rfl rfl)
theorem dJ11_checkIndex_6 : decode cJ11_checkIndex 6 = .ok (.if_icmp .lt 10, 3) := dk_161 0 10 (dk_at dksJ11_checkIndex_0 6 rfl rfl)
theorem dJ11_checkIndex_9 : decode cJ11_checkIndex 9 = .ok (.aload_n 2, 1) := dk_44 (dk_at dksJ11_checkIndex_0 9 rfl rfl)
theorem dJ11_checkIndex_10 : decode cJ11_checkIndex 10 = .ok (.iload_n 0, 1) := dk_26 (dk_at dksJ11_checkIndex_0 10 rfl rfl)
theorem dJ11_checkIndex_11 : decode cJ11_checkIndex 11 = .ok (.iload_n 1, 1) := dk_27 (dk_at dksJ11_checkIndex_0 11 rfl rfl)
theorem dJ11_checkIndex_12 : decode cJ11_checkIndex 12 = .ok (.invokestatic 95, 3) := dk_184 0 95 (dk_at dksJ11_checkIndex_0 12 rfl rfl)
theorem dJ11_checkIndex_15 : decode cJ11_checkIndex 15 = .ok (.athrow, 1) := dk_191 (dk_at dksJ11_checkIndex_0 15 rfl rfl)
theorem dJ11_checkIndex_16 : decode cJ11_checkIndex 16 = .ok (.iload_n 0, 1) := dk_26 (dk_at dksJ11_checkIndex_0 16 rfl rfl)
theorem dJ11_checkIndex_17 : decode cJ11_checkIndex 17 = .ok (.ireturn, 1) := dk_172 (dk_at dksJ11_checkIndex_0 17 rfl rfl)
abbrev cJ11_checkFromToIndex : ByteArray := prog_67_method_12_code
def yJ11_checkFromToIndex : MethodName := ⟨RJ11, "checkFromToIndex", "(IIILjava/util/function/BiFunction;)I"⟩
def dkwJ11_checkFromToIndex_0 : List UInt8 := [26, 155, 0, 13, 26, 27, 163, 0, 8, 27, 28, 164, 0, 11, 45, 26, 27, 28, 184, 0, 99, 191, 26, 172]
abbrev dktJ11_checkFromToIndex_0 : List UInt8 := dkwJ11_checkFromToIndex_0 ++ []
theorem dksJ11_checkFromToIndex_0 : cJ11_checkFromToIndex.data.toList.drop 0 = dktJ11_checkFromToIndex_0 := by decide +kernel
theorem dJ11_checkFromToIndex_0 : decode cJ11_checkFromToIndex 0 = .ok (.iload_n 0, 1) := dk_26 (dk_at dksJ11_checkFromToIndex_0 0 rfl rfl)
theorem dJ11_checkFromToIndex_1 : decode cJ11_checkFromToIndex 1 = .ok (.ifCond .lt 13, 3) := dk_155 0 13 (dk_at dksJ11_checkFromToIndex_0 1 rfl rfl)
theorem dJ11_checkFromToIndex_4 : decode cJ11_checkFromToIndex 4 = .ok (.iload_n 0, 1) := dk_26 (dk_at dksJ11_checkFromToIndex_0 4 rfl rfl)
theorem dJ11_checkFromToIndex_5 : decode cJ11_checkFromToIndex 5 = .ok (.iload_n 1, 1) := dk_27 (dk_at dksJ11_checkFromToIndex_0 5 rfl rfl)
theorem dJ11_checkFromToIndex_6 : decode cJ11_checkFromToIndex 6 = .ok (.if_icmp .gt 8, 3) := dk_163 0 8 (dk_at dksJ11_checkFromToIndex_0 6 rfl rfl)
theorem dJ11_checkFromToIndex_9 : decode cJ11_checkFromToIndex 9 = .ok (.iload_n 1, 1) := dk_27 (dk_at dksJ11_checkFromToIndex_0 9 rfl rfl)
theorem dJ11_checkFromToIndex_10 : decode cJ11_checkFromToIndex 10 = .ok (.iload_n 2, 1) := dk_28 (dk_at dksJ11_checkFromToIndex_0 10 rfl rfl)
theorem dJ11_checkFromToIndex_11 : decode cJ11_checkFromToIndex 11 = .ok (.if_icmp .le 11, 3) := dk_164 0 11 (dk_at dksJ11_checkFromToIndex_0 11 rfl rfl)
theorem dJ11_checkFromToIndex_14 : decode cJ11_checkFromToIndex 14 = .ok (.aload_n 3, 1) := dk_45 (dk_at dksJ11_checkFromToIndex_0 14 rfl rfl)
theorem dJ11_checkFromToIndex_15 : decode cJ11_checkFromToIndex 15 = .ok (.iload_n 0, 1) := dk_26 (dk_at dksJ11_checkFromToIndex_0 15 rfl rfl)
theorem dJ11_checkFromToIndex_16 : decode cJ11_checkFromToIndex 16 = .ok (.iload_n 1, 1) := dk_27 (dk_at dksJ11_checkFromToIndex_0 16 rfl rfl)
theorem dJ11_checkFromToIndex_17 : decode cJ11_checkFromToIndex 17 = .ok (.iload_n 2, 1) := dk_28 (dk_at dksJ11_checkFromToIndex_0 17 rfl rfl)
theorem dJ11_checkFromToIndex_18 : decode cJ11_checkFromToIndex 18 = .ok (.invokestatic 99, 3) := dk_184 0 99 (dk_at dksJ11_checkFromToIndex_0 18 rfl rfl)
theorem dJ11_checkFromToIndex_21 : decode cJ11_checkFromToIndex 21 = .ok (.athrow, 1) := dk_191 (dk_at dksJ11_checkFromToIndex_0 21 rfl rfl)
theorem dJ11_checkFromToIndex_22 : decode cJ11_checkFromToIndex 22 = .ok (.iload_n 0, 1) := dk_26 (dk_at dksJ11_checkFromToIndex_0 22 rfl rfl)
theorem dJ11_checkFromToIndex_23 : decode cJ11_checkFromToIndex 23 = .ok (.ireturn, 1) := dk_172 (dk_at dksJ11_checkFromToIndex_0 23 rfl rfl)
abbrev cJ11_checkFromIndexSize : ByteArray := prog_67_method_13_code
def yJ11_checkFromIndexSize : MethodName := ⟨RJ11, "checkFromIndexSize", "(IIILjava/util/function/BiFunction;)I"⟩
def dkwJ11_checkFromIndexSize_1 : List UInt8 := [172]
abbrev dktJ11_checkFromIndexSize_1 : List UInt8 := dkwJ11_checkFromIndexSize_1 ++ []
def dkwJ11_checkFromIndexSize_0 : List UInt8 := [28, 26, 128, 27, 128, 155, 0, 10, 27, 28, 26, 100, 164, 0, 11, 45, 26, 27, 28, 184, 0, 103, 191, 26]
abbrev dktJ11_checkFromIndexSize_0 : List UInt8 := dkwJ11_checkFromIndexSize_0 ++ dktJ11_checkFromIndexSize_1
theorem dksJ11_checkFromIndexSize_0 : cJ11_checkFromIndexSize.data.toList.drop 0 = dktJ11_checkFromIndexSize_0 := by decide +kernel
theorem dksJ11_checkFromIndexSize_1 : cJ11_checkFromIndexSize.data.toList.drop 24 = dktJ11_checkFromIndexSize_1 := dk_seg dksJ11_checkFromIndexSize_0 24 rfl rfl
theorem dJ11_checkFromIndexSize_0 : decode cJ11_checkFromIndexSize 0 = .ok (.iload_n 2, 1) := dk_28 (dk_at dksJ11_checkFromIndexSize_0 0 rfl rfl)
theorem dJ11_checkFromIndexSize_1 : decode cJ11_checkFromIndexSize 1 = .ok (.iload_n 0, 1) := dk_26 (dk_at dksJ11_checkFromIndexSize_0 1 rfl rfl)
theorem dJ11_checkFromIndexSize_2 : decode cJ11_checkFromIndexSize 2 = .ok (.ior, 1) := dk_128 (dk_at dksJ11_checkFromIndexSize_0 2 rfl rfl)
theorem dJ11_checkFromIndexSize_3 : decode cJ11_checkFromIndexSize 3 = .ok (.iload_n 1, 1) := dk_27 (dk_at dksJ11_checkFromIndexSize_0 3 rfl rfl)
theorem dJ11_checkFromIndexSize_4 : decode cJ11_checkFromIndexSize 4 = .ok (.ior, 1) := dk_128 (dk_at dksJ11_checkFromIndexSize_0 4 rfl rfl)
theorem dJ11_checkFromIndexSize_5 : decode cJ11_checkFromIndexSize 5 = .ok (.ifCond .lt 10, 3) := dk_155 0 10 (dk_at dksJ11_checkFromIndexSize_0 5 rfl rfl)
theorem dJ11_checkFromIndexSize_8 : decode cJ11_checkFromIndexSize 8 = .ok (.iload_n 1, 1) := dk_27 (dk_at dksJ11_checkFromIndexSize_0 8 rfl rfl)
theorem dJ11_checkFromIndexSize_9 : decode cJ11_checkFromIndexSize 9 = .ok (.iload_n 2, 1) := dk_28 (dk_at dksJ11_checkFromIndexSize_0 9 rfl rfl)
theorem dJ11_checkFromIndexSize_10 : decode cJ11_checkFromIndexSize 10 = .ok (.iload_n 0, 1) := dk_26 (dk_at dksJ11_checkFromIndexSize_0 10 rfl rfl)
theorem dJ11_checkFromIndexSize_11 : decode cJ11_checkFromIndexSize 11 = .ok (.isub, 1) := dk_100 (dk_at dksJ11_checkFromIndexSize_0 11 rfl rfl)
theorem dJ11_checkFromIndexSize_12 : decode cJ11_checkFromIndexSize 12 = .ok (.if_icmp .le 11, 3) := dk_164 0 11 (dk_at dksJ11_checkFromIndexSize_0 12 rfl rfl)
theorem dJ11_checkFromIndexSize_15 : decode cJ11_checkFromIndexSize 15 = .ok (.aload_n 3, 1) := dk_45 (dk_at dksJ11_checkFromIndexSize_0 15 rfl rfl)
theorem dJ11_checkFromIndexSize_16 : decode cJ11_checkFromIndexSize 16 = .ok (.iload_n 0, 1) := dk_26 (dk_at dksJ11_checkFromIndexSize_0 16 rfl rfl)
theorem dJ11_checkFromIndexSize_17 : decode cJ11_checkFromIndexSize 17 = .ok (.iload_n 1, 1) := dk_27 (dk_at dksJ11_checkFromIndexSize_0 17 rfl rfl)
theorem dJ11_checkFromIndexSize_18 : decode cJ11_checkFromIndexSize 18 = .ok (.iload_n 2, 1) := dk_28 (dk_at dksJ11_checkFromIndexSize_0 18 rfl rfl)
theorem dJ11_checkFromIndexSize_19 : decode cJ11_checkFromIndexSize 19 = .ok (.invokestatic 103, 3) := dk_184 0 103 (dk_at dksJ11_checkFromIndexSize_0 19 rfl rfl)
theorem dJ11_checkFromIndexSize_22 : decode cJ11_checkFromIndexSize 22 = .ok (.athrow, 1) := dk_191 (dk_at dksJ11_checkFromIndexSize_0 22 rfl rfl)
theorem dJ11_checkFromIndexSize_23 : decode cJ11_checkFromIndexSize 23 = .ok (.iload_n 0, 1) := dk_26 (dk_at dksJ11_checkFromIndexSize_0 23 rfl rfl)
theorem dJ11_checkFromIndexSize_24 : decode cJ11_checkFromIndexSize 24 = .ok (.ireturn, 1) := dk_172 (dk_at dksJ11_checkFromIndexSize_1 0 rfl rfl)
theorem q129 : (Jvm.Cond.initialized "jdk/internal/util/Preconditions") ∈ lw_all := lw_g (lw_at lw_m1 15 rfl) rfl
theorem q402 : (Jvm.Cond.static ({ cls := "jdk/internal/util/Preconditions", name := "checkIndex", desc := "(IILjava/util/function/BiFunction;)I" } : Jvm.MethodName)) ∈ lw_all := lw_g (lw_at lw_m2 48 rfl) rfl
theorem q403 : (Jvm.Cond.code ({ cls := "jdk/internal/util/Preconditions", name := "checkIndex", desc := "(IILjava/util/function/BiFunction;)I" } : Jvm.MethodName) prog_67_method_11_code (3 : Nat) (Option.some Jvm.ClassFile.FieldType.int)) ∈ lw_all := lw_g (lw_at lw_m2 49 rfl) rfl
theorem q526 : (Jvm.Cond.laysStatic "jdk/internal/util/Preconditions" "SIOOBE_FORMATTER" "Ljava/util/function/BiFunction;") ∈ lw_tbl := lw_at lw_m2 172 rfl
theorem q528 : (Jvm.Cond.static ({ cls := "jdk/internal/util/Preconditions", name := "checkFromToIndex", desc := "(IIILjava/util/function/BiFunction;)I" } : Jvm.MethodName)) ∈ lw_all := lw_g (lw_at lw_m2 174 rfl) rfl
theorem q529 : (Jvm.Cond.code ({ cls := "jdk/internal/util/Preconditions", name := "checkFromToIndex", desc := "(IIILjava/util/function/BiFunction;)I" } : Jvm.MethodName) prog_67_method_12_code (4 : Nat) (Option.some Jvm.ClassFile.FieldType.int)) ∈ lw_all := lw_g (lw_at lw_m2 175 rfl) rfl
theorem q574 : (Jvm.Cond.static ({ cls := "jdk/internal/util/Preconditions", name := "checkFromIndexSize", desc := "(IIILjava/util/function/BiFunction;)I" } : Jvm.MethodName)) ∈ lw_all := lw_g (lw_at lw_m2 220 rfl) rfl
theorem q575 : (Jvm.Cond.code ({ cls := "jdk/internal/util/Preconditions", name := "checkFromIndexSize", desc := "(IIILjava/util/function/BiFunction;)I" } : Jvm.MethodName) prog_67_method_13_code (4 : Nat) (Option.some Jvm.ClassFile.FieldType.int)) ∈ lw_all := lw_g (lw_at lw_m2 221 rfl) rfl

/-! java/lang/IndexOutOfBoundsException -/
set_option maxRecDepth 100000
def RJ12 : String := "java/lang/IndexOutOfBoundsException"
def TJ12 : u_T := fun k => match k with
  | 0 => ("java/lang/Throwable", "cause", "Ljava/lang/Throwable;", false)
  | 1 => ("java/lang/Throwable", "stackTrace", "[Ljava/lang/StackTraceElement;", false)
  | 2 => ("java/lang/Throwable", "suppressedExceptions", "Ljava/util/List;", false)
  | 3 => ("java/lang/Throwable", "detailMessage", "Ljava/lang/String;", false)
  | 4 => ("java/lang/Throwable", "backtrace", "Ljava/lang/Object;", false)
  | _ => ("java/lang/Throwable", "depth", "I", false)
def tyJ12 : Nat → FieldType := fun k => match k with
  | 0 => .object "java/lang/Throwable"
  | 1 => .array (.object "java/lang/StackTraceElement")
  | 2 => .object "java/util/List"
  | 3 => .object "java/lang/String"
  | 4 => .object "java/lang/Object"
  | _ => .int
abbrev wsJ120 : List Cond := u_ws RJ12 TJ12 6
theorem nmJ12 : ∀ a, a < 6 → ∀ b, b < 6 → a ≠ b → (TJ12 a).2.1 ≠ (TJ12 b).2.1 := by decide +kernel
theorem tyJ12_ok : ∀ k, k < 6 → parseFieldDescriptor (TJ12 k).2.2.1 = some (tyJ12 k) := by decide +kernel
abbrev cJ12_init : ByteArray := prog_24_method_2_code
def yJ12_init : MethodName := ⟨RJ12, "<init>", "(Ljava/lang/String;)V"⟩
def dkwJ12_init_0 : List UInt8 := [42, 43, 183, 0, 7, 177]
abbrev dktJ12_init_0 : List UInt8 := dkwJ12_init_0 ++ []
theorem dksJ12_init_0 : cJ12_init.data.toList.drop 0 = dktJ12_init_0 := by decide +kernel
theorem dJ12_init_0 : decode cJ12_init 0 = .ok (.aload_n 0, 1) := dk_42 (dk_at dksJ12_init_0 0 rfl rfl)
theorem dJ12_init_1 : decode cJ12_init 1 = .ok (.aload_n 1, 1) := dk_43 (dk_at dksJ12_init_0 1 rfl rfl)
theorem dJ12_init_2 : decode cJ12_init 2 = .ok (.invokespecial 7, 3) := dk_183 0 7 (dk_at dksJ12_init_0 2 rfl rfl)
theorem dJ12_init_5 : decode cJ12_init 5 = .ok (.return_, 1) := dk_177 (dk_at dksJ12_init_0 5 rfl rfl)
abbrev cJ12_init_2 : ByteArray := prog_24_method_1_code
def yJ12_init_2 : MethodName := ⟨RJ12, "<init>", "()V"⟩
theorem dJ12_init_2_0 : decode cJ12_init_2 0 = .ok (.aload_n 0, 1) := by decide +kernel
theorem dJ12_init_2_1 : decode cJ12_init_2 1 = .ok (.invokespecial 1, 3) := by decide +kernel
theorem dJ12_init_2_4 : decode cJ12_init_2 4 = .ok (.return_, 1) := by decide +kernel
theorem q130 : (Jvm.Cond.initialized "java/lang/IndexOutOfBoundsException") ∈ lw_all := lw_g (lw_at lw_m1 16 rfl) rfl
theorem q352 : (Jvm.Cond.selects "java/lang/IndexOutOfBoundsException" ({ cls := "java/lang/Throwable", name := "fillInStackTrace", desc := "()Ljava/lang/Throwable;" } : Jvm.MethodName) ({ cls := "java/lang/Throwable", name := "fillInStackTrace", desc := "()Ljava/lang/Throwable;" } : Jvm.MethodName)) ∈ lw_all := lw_g (lw_at lw_m1 238 rfl) rfl
theorem q420 : (Jvm.Cond.instantiable "java/lang/IndexOutOfBoundsException" (6 : Nat)) ∈ lw_all := lw_g (lw_at lw_m2 66 rfl) rfl
theorem q421 : (Jvm.Cond.castable "java/lang/IndexOutOfBoundsException" "java/lang/IndexOutOfBoundsException") ∈ lw_tbl := lw_at lw_m2 67 rfl
theorem q422 : (Jvm.Cond.selects "java/lang/IndexOutOfBoundsException" ({ cls := "java/lang/Throwable", name := "fillInStackTrace", desc := "(I)Ljava/lang/Throwable;" } : Jvm.MethodName) ({ cls := "java/lang/Throwable", name := "fillInStackTrace", desc := "(I)Ljava/lang/Throwable;" } : Jvm.MethodName)) ∈ lw_all := lw_g (lw_at lw_m2 68 rfl) rfl
theorem q423 : (Jvm.Cond.lays "java/lang/IndexOutOfBoundsException" "java/lang/Throwable" "cause" "Ljava/lang/Throwable;") ∈ lw_all := lw_g (lw_at lw_m2 69 rfl) rfl
theorem q424 : (Jvm.Cond.lays "java/lang/IndexOutOfBoundsException" "java/lang/Throwable" "stackTrace" "[Ljava/lang/StackTraceElement;") ∈ lw_all := lw_g (lw_at lw_m2 70 rfl) rfl
theorem q425 : (Jvm.Cond.lays "java/lang/IndexOutOfBoundsException" "java/lang/Throwable" "suppressedExceptions" "Ljava/util/List;") ∈ lw_all := lw_g (lw_at lw_m2 71 rfl) rfl
theorem q426 : (Jvm.Cond.lays "java/lang/IndexOutOfBoundsException" "java/lang/Throwable" "detailMessage" "Ljava/lang/String;") ∈ lw_all := lw_g (lw_at lw_m2 72 rfl) rfl
theorem q427 : (Jvm.Cond.lays "java/lang/IndexOutOfBoundsException" "java/lang/Throwable" "backtrace" "Ljava/lang/Object;") ∈ lw_all := lw_g (lw_at lw_m2 73 rfl) rfl
theorem q700 : (Jvm.Cond.instanceMethod ({ cls := "java/lang/IndexOutOfBoundsException", name := "<init>", desc := "(Ljava/lang/String;)V" } : Jvm.MethodName)) ∈ lw_all := lw_g (lw_at lw_m3 106 rfl) rfl
theorem q701 : (Jvm.Cond.code ({ cls := "java/lang/IndexOutOfBoundsException", name := "<init>", desc := "(Ljava/lang/String;)V" } : Jvm.MethodName) prog_24_method_2_code (2 : Nat) (Option.none : Option Jvm.ClassFile.FieldType)) ∈ lw_all := lw_g (lw_at lw_m3 107 rfl) rfl
theorem q702 : (Jvm.Cond.methodLink "java/lang/IndexOutOfBoundsException" (7 : Nat) ({ cls := "java/lang/RuntimeException", name := "<init>", desc := "(Ljava/lang/String;)V" } : Jvm.MethodName)) ∈ lw_all := lw_g (lw_at lw_m3 108 rfl) rfl
theorem q703 : (Jvm.Cond.lays "java/lang/IndexOutOfBoundsException" "java/lang/Throwable" "depth" "I") ∈ lw_all := lw_g (lw_at lw_m3 109 rfl) rfl
theorem q704 : (Jvm.Cond.superclass "java/lang/IndexOutOfBoundsException" "java/lang/RuntimeException") ∈ lw_all := lw_g (lw_at lw_m3 110 rfl) rfl
theorem q755 : (Jvm.Cond.selects "java/lang/IndexOutOfBoundsException" ({ cls := "java/lang/Object", name := "getClass", desc := "()Ljava/lang/Class;" } : Jvm.MethodName) ({ cls := "java/lang/Object", name := "getClass", desc := "()Ljava/lang/Class;" } : Jvm.MethodName)) ∈ lw_all := lw_g (lw_at lw_m3 161 rfl) rfl
theorem q1506 : (Jvm.Cond.declares ({ cls := "java/lang/IndexOutOfBoundsException", name := "<init>", desc := "()V" } : Jvm.MethodName)) ∈ lw_tbl := lw_at lw_m6 192 rfl
theorem q1507 : (Jvm.Cond.declares ({ cls := "java/lang/IndexOutOfBoundsException", name := "<init>", desc := "(Ljava/lang/String;)V" } : Jvm.MethodName)) ∈ lw_tbl := lw_at lw_m6 193 rfl
theorem q1581 : (Jvm.Cond.instanceMethod ({ cls := "java/lang/IndexOutOfBoundsException", name := "<init>", desc := "()V" } : Jvm.MethodName)) ∈ lw_all := lw_g (lw_at lw_m7 27 rfl) rfl
theorem q1582 : (Jvm.Cond.code ({ cls := "java/lang/IndexOutOfBoundsException", name := "<init>", desc := "()V" } : Jvm.MethodName) prog_24_method_1_code (1 : Nat) (Option.none : Option Jvm.ClassFile.FieldType)) ∈ lw_all := lw_g (lw_at lw_m7 28 rfl) rfl
theorem q1583 : (Jvm.Cond.methodLink "java/lang/IndexOutOfBoundsException" (1 : Nat) ({ cls := "java/lang/RuntimeException", name := "<init>", desc := "()V" } : Jvm.MethodName)) ∈ lw_all := lw_g (lw_at lw_m7 29 rfl) rfl
theorem q1846 : (Jvm.Cond.selects "java/lang/IndexOutOfBoundsException" ({ cls := "java/lang/Object", name := "equals", desc := "(Ljava/lang/Object;)Z" } : Jvm.MethodName) ({ cls := "java/lang/Object", name := "equals", desc := "(Ljava/lang/Object;)Z" } : Jvm.MethodName)) ∈ lw_all := lw_g (lw_at lw_m8 52 rfl) rfl
theorem q2469 : (Jvm.Cond.selects "java/lang/IndexOutOfBoundsException" ({ cls := "java/lang/Throwable", name := "getLocalizedMessage", desc := "()Ljava/lang/String;" } : Jvm.MethodName) ({ cls := "java/lang/Throwable", name := "getLocalizedMessage", desc := "()Ljava/lang/String;" } : Jvm.MethodName)) ∈ lw_all := lw_g (lw_at lw_m10 195 rfl) rfl
theorem q2481 : (Jvm.Cond.selects "java/lang/IndexOutOfBoundsException" ({ cls := "java/lang/Throwable", name := "getMessage", desc := "()Ljava/lang/String;" } : Jvm.MethodName) ({ cls := "java/lang/Throwable", name := "getMessage", desc := "()Ljava/lang/String;" } : Jvm.MethodName)) ∈ lw_all := lw_g (lw_at lw_m10 207 rfl) rfl
theorem q2494 : (Jvm.Cond.selects "java/lang/IndexOutOfBoundsException" ({ cls := "java/lang/Object", name := "toString", desc := "()Ljava/lang/String;" } : Jvm.MethodName) ({ cls := "java/lang/Throwable", name := "toString", desc := "()Ljava/lang/String;" } : Jvm.MethodName)) ∈ lw_all := lw_g (lw_at lw_m10 220 rfl) rfl
theorem q3244 : (Jvm.Cond.castable "java/lang/IndexOutOfBoundsException" "java/lang/Object") ∈ lw_tbl := lw_at lw_m14 10 rfl
theorem in_J12 : ∀ w ∈ wsJ120, w ∈ lw_all := lw_in wsJ120 [423, 424, 425, 426, 427, 703] (by decide +kernel) (by decide +kernel)

/-! java/lang/AbstractStringBuilder -/
set_option maxRecDepth 100000
def RJ13 : String := "java/lang/AbstractStringBuilder"
abbrev cJ13_init : ByteArray := prog_14_method_2_code
def yJ13_init : MethodName := ⟨RJ13, "<init>", "(I)V"⟩
def dkwJ13_init_1 : List UInt8 := [167, 0, 16, 42, 27, 184, 0, 26, 181, 0, 15, 42, 4, 181, 0, 22, 177]
abbrev dktJ13_init_1 : List UInt8 := dkwJ13_init_1 ++ []
def dkwJ13_init_0 : List UInt8 := [42, 183, 0, 3, 178, 0, 18, 153, 0, 18, 42, 27, 188, 8, 181, 0, 15, 42, 3, 181, 0, 22]
abbrev dktJ13_init_0 : List UInt8 := dkwJ13_init_0 ++ dktJ13_init_1
theorem dksJ13_init_0 : cJ13_init.data.toList.drop 0 = dktJ13_init_0 := by decide +kernel
theorem dksJ13_init_1 : cJ13_init.data.toList.drop 22 = dktJ13_init_1 := dk_seg dksJ13_init_0 22 rfl rfl
theorem dJ13_init_0 : decode cJ13_init 0 = .ok (.aload_n 0, 1) := dk_42 (dk_at dksJ13_init_0 0 rfl rfl)
theorem dJ13_init_1 : decode cJ13_init 1 = .ok (.invokespecial 3, 3) := dk_183 0 3 (dk_at dksJ13_init_0 1 rfl rfl)
theorem dJ13_init_4 : decode cJ13_init 4 = .ok (.getstatic 18, 3) := dk_178 0 18 (dk_at dksJ13_init_0 4 rfl rfl)
theorem dJ13_init_7 : decode cJ13_init 7 = .ok (.ifCond .eq 18, 3) := dk_153 0 18 (dk_at dksJ13_init_0 7 rfl rfl)
theorem dJ13_init_10 : decode cJ13_init 10 = .ok (.aload_n 0, 1) := dk_42 (dk_at dksJ13_init_0 10 rfl rfl)
theorem dJ13_init_11 : decode cJ13_init 11 = .ok (.iload_n 1, 1) := dk_27 (dk_at dksJ13_init_0 11 rfl rfl)
theorem dJ13_init_12 : decode cJ13_init 12 = .ok (.newarray .byte, 2) := dk_188_8 (dk_at dksJ13_init_0 12 rfl rfl)
theorem dJ13_init_14 : decode cJ13_init 14 = .ok (.putfield 15, 3) := dk_181 0 15 (dk_at dksJ13_init_0 14 rfl rfl)
theorem dJ13_init_17 : decode cJ13_init 17 = .ok (.aload_n 0, 1) := dk_42 (dk_at dksJ13_init_0 17 rfl rfl)
theorem dJ13_init_18 : decode cJ13_init 18 = .ok (.iconst 0, 1) := dk_3 (dk_at dksJ13_init_0 18 rfl rfl)
theorem dJ13_init_19 : decode cJ13_init 19 = .ok (.putfield 22, 3) := dk_181 0 22 (dk_at dksJ13_init_0 19 rfl rfl)
theorem dJ13_init_22 : decode cJ13_init 22 = .ok (.goto 16, 3) := dk_167 0 16 (dk_at dksJ13_init_1 0 rfl rfl)
theorem dJ13_init_25 : decode cJ13_init 25 = .ok (.aload_n 0, 1) := dk_42 (dk_at dksJ13_init_1 3 rfl rfl)
theorem dJ13_init_26 : decode cJ13_init 26 = .ok (.iload_n 1, 1) := dk_27 (dk_at dksJ13_init_1 4 rfl rfl)
theorem dJ13_init_27 : decode cJ13_init 27 = .ok (.invokestatic 26, 3) := dk_184 0 26 (dk_at dksJ13_init_1 5 rfl rfl)
theorem dJ13_init_30 : decode cJ13_init 30 = .ok (.putfield 15, 3) := dk_181 0 15 (dk_at dksJ13_init_1 8 rfl rfl)
theorem dJ13_init_33 : decode cJ13_init 33 = .ok (.aload_n 0, 1) := dk_42 (dk_at dksJ13_init_1 11 rfl rfl)
theorem dJ13_init_34 : decode cJ13_init 34 = .ok (.iconst 1, 1) := dk_4 (dk_at dksJ13_init_1 12 rfl rfl)
theorem dJ13_init_35 : decode cJ13_init 35 = .ok (.putfield 22, 3) := dk_181 0 22 (dk_at dksJ13_init_1 13 rfl rfl)
theorem dJ13_init_38 : decode cJ13_init 38 = .ok (.return_, 1) := dk_177 (dk_at dksJ13_init_1 16 rfl rfl)
abbrev cJ13_append : ByteArray := prog_14_method_22_code
def yJ13_append : MethodName := ⟨RJ13, "append", "(Ljava/lang/String;)Ljava/lang/AbstractStringBuilder;"⟩
def dkwJ13_append_1 : List UInt8 := [42, 42, 180, 0, 79, 43, 182, 0, 208, 42, 89, 180, 0, 79, 28, 96, 181, 0, 79, 42, 176]
abbrev dktJ13_append_1 : List UInt8 := dkwJ13_append_1 ++ []
def dkwJ13_append_0 : List UInt8 := [43, 199, 0, 8, 42, 182, 0, 204, 176, 43, 182, 0, 32, 61, 42, 42, 180, 0, 79, 28, 96, 182, 0, 100]
abbrev dktJ13_append_0 : List UInt8 := dkwJ13_append_0 ++ dktJ13_append_1
theorem dksJ13_append_0 : cJ13_append.data.toList.drop 0 = dktJ13_append_0 := by decide +kernel
theorem dksJ13_append_1 : cJ13_append.data.toList.drop 24 = dktJ13_append_1 := dk_seg dksJ13_append_0 24 rfl rfl
theorem dJ13_append_0 : decode cJ13_append 0 = .ok (.aload_n 1, 1) := dk_43 (dk_at dksJ13_append_0 0 rfl rfl)
theorem dJ13_append_1 : decode cJ13_append 1 = .ok (.ifnonnull 8, 3) := dk_199 0 8 (dk_at dksJ13_append_0 1 rfl rfl)
theorem dJ13_append_4 : decode cJ13_append 4 = .ok (.aload_n 0, 1) := dk_42 (dk_at dksJ13_append_0 4 rfl rfl)
theorem dJ13_append_5 : decode cJ13_append 5 = .ok (.invokevirtual 204, 3) := dk_182 0 204 (dk_at dksJ13_append_0 5 rfl rfl)
theorem dJ13_append_8 : decode cJ13_append 8 = .ok (.areturn, 1) := dk_176 (dk_at dksJ13_append_0 8 rfl rfl)
theorem dJ13_append_9 : decode cJ13_append 9 = .ok (.aload_n 1, 1) := dk_43 (dk_at dksJ13_append_0 9 rfl rfl)
theorem dJ13_append_10 : decode cJ13_append 10 = .ok (.invokevirtual 32, 3) := dk_182 0 32 (dk_at dksJ13_append_0 10 rfl rfl)
theorem dJ13_append_13 : decode cJ13_append 13 = .ok (.istore_n 2, 1) := dk_61 (dk_at dksJ13_append_0 13 rfl rfl)
theorem dJ13_append_14 : decode cJ13_append 14 = .ok (.aload_n 0, 1) := dk_42 (dk_at dksJ13_append_0 14 rfl rfl)
theorem dJ13_append_15 : decode cJ13_append 15 = .ok (.aload_n 0, 1) := dk_42 (dk_at dksJ13_append_0 15 rfl rfl)
theorem dJ13_append_16 : decode cJ13_append 16 = .ok (.getfield 79, 3) := dk_180 0 79 (dk_at dksJ13_append_0 16 rfl rfl)
theorem dJ13_append_19 : decode cJ13_append 19 = .ok (.iload_n 2, 1) := dk_28 (dk_at dksJ13_append_0 19 rfl rfl)
theorem dJ13_append_20 : decode cJ13_append 20 = .ok (.iadd, 1) := dk_96 (dk_at dksJ13_append_0 20 rfl rfl)
theorem dJ13_append_21 : decode cJ13_append 21 = .ok (.invokevirtual 100, 3) := dk_182 0 100 (dk_at dksJ13_append_0 21 rfl rfl)
theorem dJ13_append_24 : decode cJ13_append 24 = .ok (.aload_n 0, 1) := dk_42 (dk_at dksJ13_append_1 0 rfl rfl)
theorem dJ13_append_25 : decode cJ13_append 25 = .ok (.aload_n 0, 1) := dk_42 (dk_at dksJ13_append_1 1 rfl rfl)
theorem dJ13_append_26 : decode cJ13_append 26 = .ok (.getfield 79, 3) := dk_180 0 79 (dk_at dksJ13_append_1 2 rfl rfl)
theorem dJ13_append_29 : decode cJ13_append 29 = .ok (.aload_n 1, 1) := dk_43 (dk_at dksJ13_append_1 5 rfl rfl)
theorem dJ13_append_30 : decode cJ13_append 30 = .ok (.invokevirtual 208, 3) := dk_182 0 208 (dk_at dksJ13_append_1 6 rfl rfl)
theorem dJ13_append_33 : decode cJ13_append 33 = .ok (.aload_n 0, 1) := dk_42 (dk_at dksJ13_append_1 9 rfl rfl)
theorem dJ13_append_34 : decode cJ13_append 34 = .ok (.dup, 1) := dk_89 (dk_at dksJ13_append_1 10 rfl rfl)
theorem dJ13_append_35 : decode cJ13_append 35 = .ok (.getfield 79, 3) := dk_180 0 79 (dk_at dksJ13_append_1 11 rfl rfl)
theorem dJ13_append_38 : decode cJ13_append 38 = .ok (.iload_n 2, 1) := dk_28 (dk_at dksJ13_append_1 14 rfl rfl)
theorem dJ13_append_39 : decode cJ13_append 39 = .ok (.iadd, 1) := dk_96 (dk_at dksJ13_append_1 15 rfl rfl)
theorem dJ13_append_40 : decode cJ13_append 40 = .ok (.putfield 79, 3) := dk_181 0 79 (dk_at dksJ13_append_1 16 rfl rfl)
theorem dJ13_append_43 : decode cJ13_append 43 = .ok (.aload_n 0, 1) := dk_42 (dk_at dksJ13_append_1 19 rfl rfl)
theorem dJ13_append_44 : decode cJ13_append 44 = .ok (.areturn, 1) := dk_176 (dk_at dksJ13_append_1 20 rfl rfl)
abbrev cJ13_appendNull : ByteArray := prog_14_method_26_code
def yJ13_appendNull : MethodName := ⟨RJ13, "appendNull", "()Ljava/lang/AbstractStringBuilder;"⟩
def dkwJ13_appendNull_3 : List UInt8 := [184, 0, 226, 60, 42, 27, 181, 0, 79, 42, 176]
abbrev dktJ13_appendNull_3 : List UInt8 := dkwJ13_appendNull_3 ++ []
def dkwJ13_appendNull_2 : List UInt8 := [16, 108, 84, 44, 27, 132, 1, 1, 16, 108, 84, 167, 0, 17, 44, 27, 16, 110, 16, 117, 16, 108, 16, 108]
abbrev dktJ13_appendNull_2 : List UInt8 := dkwJ13_appendNull_2 ++ dktJ13_appendNull_3
def dkwJ13_appendNull_1 : List UInt8 := [153, 0, 38, 44, 27, 132, 1, 1, 16, 110, 84, 44, 27, 132, 1, 1, 16, 117, 84, 44, 27, 132, 1, 1]
abbrev dktJ13_appendNull_1 : List UInt8 := dkwJ13_appendNull_1 ++ dktJ13_appendNull_2
def dkwJ13_appendNull_0 : List UInt8 := [42, 42, 180, 0, 79, 7, 96, 182, 0, 100, 42, 180, 0, 79, 60, 42, 180, 0, 15, 77, 42, 182, 0, 83]
abbrev dktJ13_appendNull_0 : List UInt8 := dkwJ13_appendNull_0 ++ dktJ13_appendNull_1
theorem dksJ13_appendNull_0 : cJ13_appendNull.data.toList.drop 0 = dktJ13_appendNull_0 := by decide +kernel
theorem dksJ13_appendNull_1 : cJ13_appendNull.data.toList.drop 24 = dktJ13_appendNull_1 := dk_seg dksJ13_appendNull_0 24 rfl rfl
theorem dksJ13_appendNull_2 : cJ13_appendNull.data.toList.drop 48 = dktJ13_appendNull_2 := dk_seg dksJ13_appendNull_1 24 rfl rfl
theorem dksJ13_appendNull_3 : cJ13_appendNull.data.toList.drop 72 = dktJ13_appendNull_3 := dk_seg dksJ13_appendNull_2 24 rfl rfl
theorem dJ13_appendNull_0 : decode cJ13_appendNull 0 = .ok (.aload_n 0, 1) := dk_42 (dk_at dksJ13_appendNull_0 0 rfl rfl)
theorem dJ13_appendNull_1 : decode cJ13_appendNull 1 = .ok (.aload_n 0, 1) := dk_42 (dk_at dksJ13_appendNull_0 1 rfl rfl)
theorem dJ13_appendNull_2 : decode cJ13_appendNull 2 = .ok (.getfield 79, 3) := dk_180 0 79 (dk_at dksJ13_appendNull_0 2 rfl rfl)
theorem dJ13_appendNull_5 : decode cJ13_appendNull 5 = .ok (.iconst 4, 1) := dk_7 (dk_at dksJ13_appendNull_0 5 rfl rfl)
theorem dJ13_appendNull_6 : decode cJ13_appendNull 6 = .ok (.iadd, 1) := dk_96 (dk_at dksJ13_appendNull_0 6 rfl rfl)
theorem dJ13_appendNull_7 : decode cJ13_appendNull 7 = .ok (.invokevirtual 100, 3) := dk_182 0 100 (dk_at dksJ13_appendNull_0 7 rfl rfl)
theorem dJ13_appendNull_10 : decode cJ13_appendNull 10 = .ok (.aload_n 0, 1) := dk_42 (dk_at dksJ13_appendNull_0 10 rfl rfl)
theorem dJ13_appendNull_11 : decode cJ13_appendNull 11 = .ok (.getfield 79, 3) := dk_180 0 79 (dk_at dksJ13_appendNull_0 11 rfl rfl)
theorem dJ13_appendNull_14 : decode cJ13_appendNull 14 = .ok (.istore_n 1, 1) := dk_60 (dk_at dksJ13_appendNull_0 14 rfl rfl)
theorem dJ13_appendNull_15 : decode cJ13_appendNull 15 = .ok (.aload_n 0, 1) := dk_42 (dk_at dksJ13_appendNull_0 15 rfl rfl)
theorem dJ13_appendNull_16 : decode cJ13_appendNull 16 = .ok (.getfield 15, 3) := dk_180 0 15 (dk_at dksJ13_appendNull_0 16 rfl rfl)
theorem dJ13_appendNull_19 : decode cJ13_appendNull 19 = .ok (.astore_n 2, 1) := dk_77 (dk_at dksJ13_appendNull_0 19 rfl rfl)
theorem dJ13_appendNull_20 : decode cJ13_appendNull 20 = .ok (.aload_n 0, 1) := dk_42 (dk_at dksJ13_appendNull_0 20 rfl rfl)
theorem dJ13_appendNull_21 : decode cJ13_appendNull 21 = .ok (.invokevirtual 83, 3) := dk_182 0 83 (dk_at dksJ13_appendNull_0 21 rfl rfl)
theorem dJ13_appendNull_24 : decode cJ13_appendNull 24 = .ok (.ifCond .eq 38, 3) := dk_153 0 38 (dk_at dksJ13_appendNull_1 0 rfl rfl)
theorem dJ13_appendNull_27 : decode cJ13_appendNull 27 = .ok (.aload_n 2, 1) := dk_44 (dk_at dksJ13_appendNull_1 3 rfl rfl)
theorem dJ13_appendNull_28 : decode cJ13_appendNull 28 = .ok (.iload_n 1, 1) := dk_27 (dk_at dksJ13_appendNull_1 4 rfl rfl)
theorem dJ13_appendNull_29 : decode cJ13_appendNull 29 = .ok (.iinc 1 1, 3) := dk_132 1 1 (dk_at dksJ13_appendNull_1 5 rfl rfl)
theorem dJ13_appendNull_32 : decode cJ13_appendNull 32 = .ok (.bipush 110, 2) := dk_16 110 (dk_at dksJ13_appendNull_1 8 rfl rfl)
theorem dJ13_appendNull_34 : decode cJ13_appendNull 34 = .ok (.bastore, 1) := dk_84 (dk_at dksJ13_appendNull_1 10 rfl rfl)
theorem dJ13_appendNull_35 : decode cJ13_appendNull 35 = .ok (.aload_n 2, 1) := dk_44 (dk_at dksJ13_appendNull_1 11 rfl rfl)
theorem dJ13_appendNull_36 : decode cJ13_appendNull 36 = .ok (.iload_n 1, 1) := dk_27 (dk_at dksJ13_appendNull_1 12 rfl rfl)
theorem dJ13_appendNull_37 : decode cJ13_appendNull 37 = .ok (.iinc 1 1, 3) := dk_132 1 1 (dk_at dksJ13_appendNull_1 13 rfl rfl)
theorem dJ13_appendNull_40 : decode cJ13_appendNull 40 = .ok (.bipush 117, 2) := dk_16 117 (dk_at dksJ13_appendNull_1 16 rfl rfl)
theorem dJ13_appendNull_42 : decode cJ13_appendNull 42 = .ok (.bastore, 1) := dk_84 (dk_at dksJ13_appendNull_1 18 rfl rfl)
theorem dJ13_appendNull_43 : decode cJ13_appendNull 43 = .ok (.aload_n 2, 1) := dk_44 (dk_at dksJ13_appendNull_1 19 rfl rfl)
theorem dJ13_appendNull_44 : decode cJ13_appendNull 44 = .ok (.iload_n 1, 1) := dk_27 (dk_at dksJ13_appendNull_1 20 rfl rfl)
theorem dJ13_appendNull_45 : decode cJ13_appendNull 45 = .ok (.iinc 1 1, 3) := dk_132 1 1 (dk_at dksJ13_appendNull_1 21 rfl rfl)
theorem dJ13_appendNull_48 : decode cJ13_appendNull 48 = .ok (.bipush 108, 2) := dk_16 108 (dk_at dksJ13_appendNull_2 0 rfl rfl)
theorem dJ13_appendNull_50 : decode cJ13_appendNull 50 = .ok (.bastore, 1) := dk_84 (dk_at dksJ13_appendNull_2 2 rfl rfl)
theorem dJ13_appendNull_51 : decode cJ13_appendNull 51 = .ok (.aload_n 2, 1) := dk_44 (dk_at dksJ13_appendNull_2 3 rfl rfl)
theorem dJ13_appendNull_52 : decode cJ13_appendNull 52 = .ok (.iload_n 1, 1) := dk_27 (dk_at dksJ13_appendNull_2 4 rfl rfl)
theorem dJ13_appendNull_53 : decode cJ13_appendNull 53 = .ok (.iinc 1 1, 3) := dk_132 1 1 (dk_at dksJ13_appendNull_2 5 rfl rfl)
theorem dJ13_appendNull_56 : decode cJ13_appendNull 56 = .ok (.bipush 108, 2) := dk_16 108 (dk_at dksJ13_appendNull_2 8 rfl rfl)
theorem dJ13_appendNull_58 : decode cJ13_appendNull 58 = .ok (.bastore, 1) := dk_84 (dk_at dksJ13_appendNull_2 10 rfl rfl)
theorem dJ13_appendNull_59 : decode cJ13_appendNull 59 = .ok (.goto 17, 3) := dk_167 0 17 (dk_at dksJ13_appendNull_2 11 rfl rfl)
theorem dJ13_appendNull_62 : decode cJ13_appendNull 62 = .ok (.aload_n 2, 1) := dk_44 (dk_at dksJ13_appendNull_2 14 rfl rfl)
theorem dJ13_appendNull_63 : decode cJ13_appendNull 63 = .ok (.iload_n 1, 1) := dk_27 (dk_at dksJ13_appendNull_2 15 rfl rfl)
theorem dJ13_appendNull_64 : decode cJ13_appendNull 64 = .ok (.bipush 110, 2) := dk_16 110 (dk_at dksJ13_appendNull_2 16 rfl rfl)
theorem dJ13_appendNull_66 : decode cJ13_appendNull 66 = .ok (.bipush 117, 2) := dk_16 117 (dk_at dksJ13_appendNull_2 18 rfl rfl)
theorem dJ13_appendNull_68 : decode cJ13_appendNull 68 = .ok (.bipush 108, 2) := dk_16 108 (dk_at dksJ13_appendNull_2 20 rfl rfl)
theorem dJ13_appendNull_70 : decode cJ13_appendNull 70 = .ok (.bipush 108, 2) := dk_16 108 (dk_at dksJ13_appendNull_2 22 rfl rfl)
theorem dJ13_appendNull_72 : decode cJ13_appendNull 72 = .ok (.invokestatic 226, 3) := dk_184 0 226 (dk_at dksJ13_appendNull_3 0 rfl rfl)
theorem dJ13_appendNull_75 : decode cJ13_appendNull 75 = .ok (.istore_n 1, 1) := dk_60 (dk_at dksJ13_appendNull_3 3 rfl rfl)
theorem dJ13_appendNull_76 : decode cJ13_appendNull 76 = .ok (.aload_n 0, 1) := dk_42 (dk_at dksJ13_appendNull_3 4 rfl rfl)
theorem dJ13_appendNull_77 : decode cJ13_appendNull 77 = .ok (.iload_n 1, 1) := dk_27 (dk_at dksJ13_appendNull_3 5 rfl rfl)
theorem dJ13_appendNull_78 : decode cJ13_appendNull 78 = .ok (.putfield 79, 3) := dk_181 0 79 (dk_at dksJ13_appendNull_3 6 rfl rfl)
theorem dJ13_appendNull_81 : decode cJ13_appendNull 81 = .ok (.aload_n 0, 1) := dk_42 (dk_at dksJ13_appendNull_3 9 rfl rfl)
theorem dJ13_appendNull_82 : decode cJ13_appendNull 82 = .ok (.areturn, 1) := dk_176 (dk_at dksJ13_appendNull_3 10 rfl rfl)
abbrev cJ13_ensureCapacityInternal : ByteArray := prog_14_method_9_code
def yJ13_ensureCapacityInternal : MethodName := ⟨RJ13, "ensureCapacityInternal", "(I)V"⟩
def dkwJ13_ensureCapacityInternal_1 : List UInt8 := [182, 0, 104, 42, 180, 0, 22, 120, 184, 0, 108, 181, 0, 15, 177]
abbrev dktJ13_ensureCapacityInternal_1 : List UInt8 := dkwJ13_ensureCapacityInternal_1 ++ []
def dkwJ13_ensureCapacityInternal_0 : List UInt8 := [42, 180, 0, 15, 190, 42, 180, 0, 22, 122, 61, 27, 28, 100, 158, 0, 24, 42, 42, 180, 0, 15, 42, 27]
abbrev dktJ13_ensureCapacityInternal_0 : List UInt8 := dkwJ13_ensureCapacityInternal_0 ++ dktJ13_ensureCapacityInternal_1
theorem dksJ13_ensureCapacityInternal_0 : cJ13_ensureCapacityInternal.data.toList.drop 0 = dktJ13_ensureCapacityInternal_0 := by decide +kernel
theorem dksJ13_ensureCapacityInternal_1 : cJ13_ensureCapacityInternal.data.toList.drop 24 = dktJ13_ensureCapacityInternal_1 := dk_seg dksJ13_ensureCapacityInternal_0 24 rfl rfl
theorem dJ13_ensureCapacityInternal_0 : decode cJ13_ensureCapacityInternal 0 = .ok (.aload_n 0, 1) := dk_42 (dk_at dksJ13_ensureCapacityInternal_0 0 rfl rfl)
theorem dJ13_ensureCapacityInternal_1 : decode cJ13_ensureCapacityInternal 1 = .ok (.getfield 15, 3) := dk_180 0 15 (dk_at dksJ13_ensureCapacityInternal_0 1 rfl rfl)
theorem dJ13_ensureCapacityInternal_4 : decode cJ13_ensureCapacityInternal 4 = .ok (.arraylength, 1) := dk_190 (dk_at dksJ13_ensureCapacityInternal_0 4 rfl rfl)
theorem dJ13_ensureCapacityInternal_5 : decode cJ13_ensureCapacityInternal 5 = .ok (.aload_n 0, 1) := dk_42 (dk_at dksJ13_ensureCapacityInternal_0 5 rfl rfl)
theorem dJ13_ensureCapacityInternal_6 : decode cJ13_ensureCapacityInternal 6 = .ok (.getfield 22, 3) := dk_180 0 22 (dk_at dksJ13_ensureCapacityInternal_0 6 rfl rfl)
theorem dJ13_ensureCapacityInternal_9 : decode cJ13_ensureCapacityInternal 9 = .ok (.ishr, 1) := dk_122 (dk_at dksJ13_ensureCapacityInternal_0 9 rfl rfl)
theorem dJ13_ensureCapacityInternal_10 : decode cJ13_ensureCapacityInternal 10 = .ok (.istore_n 2, 1) := dk_61 (dk_at dksJ13_ensureCapacityInternal_0 10 rfl rfl)
theorem dJ13_ensureCapacityInternal_11 : decode cJ13_ensureCapacityInternal 11 = .ok (.iload_n 1, 1) := dk_27 (dk_at dksJ13_ensureCapacityInternal_0 11 rfl rfl)
theorem dJ13_ensureCapacityInternal_12 : decode cJ13_ensureCapacityInternal 12 = .ok (.iload_n 2, 1) := dk_28 (dk_at dksJ13_ensureCapacityInternal_0 12 rfl rfl)
theorem dJ13_ensureCapacityInternal_13 : decode cJ13_ensureCapacityInternal 13 = .ok (.isub, 1) := dk_100 (dk_at dksJ13_ensureCapacityInternal_0 13 rfl rfl)
theorem dJ13_ensureCapacityInternal_14 : decode cJ13_ensureCapacityInternal 14 = .ok (.ifCond .le 24, 3) := dk_158 0 24 (dk_at dksJ13_ensureCapacityInternal_0 14 rfl rfl)
theorem dJ13_ensureCapacityInternal_17 : decode cJ13_ensureCapacityInternal 17 = .ok (.aload_n 0, 1) := dk_42 (dk_at dksJ13_ensureCapacityInternal_0 17 rfl rfl)
theorem dJ13_ensureCapacityInternal_18 : decode cJ13_ensureCapacityInternal 18 = .ok (.aload_n 0, 1) := dk_42 (dk_at dksJ13_ensureCapacityInternal_0 18 rfl rfl)
theorem dJ13_ensureCapacityInternal_19 : decode cJ13_ensureCapacityInternal 19 = .ok (.getfield 15, 3) := dk_180 0 15 (dk_at dksJ13_ensureCapacityInternal_0 19 rfl rfl)
theorem dJ13_ensureCapacityInternal_22 : decode cJ13_ensureCapacityInternal 22 = .ok (.aload_n 0, 1) := dk_42 (dk_at dksJ13_ensureCapacityInternal_0 22 rfl rfl)
theorem dJ13_ensureCapacityInternal_23 : decode cJ13_ensureCapacityInternal 23 = .ok (.iload_n 1, 1) := dk_27 (dk_at dksJ13_ensureCapacityInternal_0 23 rfl rfl)
theorem dJ13_ensureCapacityInternal_24 : decode cJ13_ensureCapacityInternal 24 = .ok (.invokevirtual 104, 3) := dk_182 0 104 (dk_at dksJ13_ensureCapacityInternal_1 0 rfl rfl)
theorem dJ13_ensureCapacityInternal_27 : decode cJ13_ensureCapacityInternal 27 = .ok (.aload_n 0, 1) := dk_42 (dk_at dksJ13_ensureCapacityInternal_1 3 rfl rfl)
theorem dJ13_ensureCapacityInternal_28 : decode cJ13_ensureCapacityInternal 28 = .ok (.getfield 22, 3) := dk_180 0 22 (dk_at dksJ13_ensureCapacityInternal_1 4 rfl rfl)
theorem dJ13_ensureCapacityInternal_31 : decode cJ13_ensureCapacityInternal 31 = .ok (.ishl, 1) := dk_120 (dk_at dksJ13_ensureCapacityInternal_1 7 rfl rfl)
theorem dJ13_ensureCapacityInternal_32 : decode cJ13_ensureCapacityInternal 32 = .ok (.invokestatic 108, 3) := dk_184 0 108 (dk_at dksJ13_ensureCapacityInternal_1 8 rfl rfl)
theorem dJ13_ensureCapacityInternal_35 : decode cJ13_ensureCapacityInternal 35 = .ok (.putfield 15, 3) := dk_181 0 15 (dk_at dksJ13_ensureCapacityInternal_1 11 rfl rfl)
theorem dJ13_ensureCapacityInternal_38 : decode cJ13_ensureCapacityInternal 38 = .ok (.return_, 1) := dk_177 (dk_at dksJ13_ensureCapacityInternal_1 14 rfl rfl)
abbrev cJ13_newCapacity : ByteArray := prog_14_method_10_code
def yJ13_newCapacity : MethodName := ⟨RJ13, "newCapacity", "(I)I"⟩
def dkwJ13_newCapacity_2 : List UInt8 := [183, 0, 124, 191, 21, 5, 42, 180, 0, 22, 122, 172]
abbrev dktJ13_newCapacity_2 : List UInt8 := dkwJ13_newCapacity_2 ++ []
def dkwJ13_newCapacity_1 : List UInt8 := [180, 0, 22, 120, 96, 184, 0, 114, 54, 5, 21, 5, 18, 39, 160, 0, 13, 187, 0, 120, 89, 18, 122]
abbrev dktJ13_newCapacity_1 : List UInt8 := dkwJ13_newCapacity_1 ++ dktJ13_newCapacity_2
def dkwJ13_newCapacity_0 : List UInt8 := [42, 180, 0, 15, 190, 61, 27, 42, 180, 0, 22, 120, 62, 29, 28, 100, 54, 4, 28, 21, 4, 28, 5, 42]
abbrev dktJ13_newCapacity_0 : List UInt8 := dkwJ13_newCapacity_0 ++ dktJ13_newCapacity_1
theorem dksJ13_newCapacity_0 : cJ13_newCapacity.data.toList.drop 0 = dktJ13_newCapacity_0 := by decide +kernel
theorem dksJ13_newCapacity_1 : cJ13_newCapacity.data.toList.drop 24 = dktJ13_newCapacity_1 := dk_seg dksJ13_newCapacity_0 24 rfl rfl
theorem dksJ13_newCapacity_2 : cJ13_newCapacity.data.toList.drop 47 = dktJ13_newCapacity_2 := dk_seg dksJ13_newCapacity_1 23 rfl rfl
theorem dJ13_newCapacity_0 : decode cJ13_newCapacity 0 = .ok (.aload_n 0, 1) := dk_42 (dk_at dksJ13_newCapacity_0 0 rfl rfl)
theorem dJ13_newCapacity_1 : decode cJ13_newCapacity 1 = .ok (.getfield 15, 3) := dk_180 0 15 (dk_at dksJ13_newCapacity_0 1 rfl rfl)
theorem dJ13_newCapacity_4 : decode cJ13_newCapacity 4 = .ok (.arraylength, 1) := dk_190 (dk_at dksJ13_newCapacity_0 4 rfl rfl)
theorem dJ13_newCapacity_5 : decode cJ13_newCapacity 5 = .ok (.istore_n 2, 1) := dk_61 (dk_at dksJ13_newCapacity_0 5 rfl rfl)
theorem dJ13_newCapacity_6 : decode cJ13_newCapacity 6 = .ok (.iload_n 1, 1) := dk_27 (dk_at dksJ13_newCapacity_0 6 rfl rfl)
theorem dJ13_newCapacity_7 : decode cJ13_newCapacity 7 = .ok (.aload_n 0, 1) := dk_42 (dk_at dksJ13_newCapacity_0 7 rfl rfl)
theorem dJ13_newCapacity_8 : decode cJ13_newCapacity 8 = .ok (.getfield 22, 3) := dk_180 0 22 (dk_at dksJ13_newCapacity_0 8 rfl rfl)
theorem dJ13_newCapacity_11 : decode cJ13_newCapacity 11 = .ok (.ishl, 1) := dk_120 (dk_at dksJ13_newCapacity_0 11 rfl rfl)
theorem dJ13_newCapacity_12 : decode cJ13_newCapacity 12 = .ok (.istore_n 3, 1) := dk_62 (dk_at dksJ13_newCapacity_0 12 rfl rfl)
theorem dJ13_newCapacity_13 : decode cJ13_newCapacity 13 = .ok (.iload_n 3, 1) := dk_29 (dk_at dksJ13_newCapacity_0 13 rfl rfl)
theorem dJ13_newCapacity_14 : decode cJ13_newCapacity 14 = .ok (.iload_n 2, 1) := dk_28 (dk_at dksJ13_newCapacity_0 14 rfl rfl)
theorem dJ13_newCapacity_15 : decode cJ13_newCapacity 15 = .ok (.isub, 1) := dk_100 (dk_at dksJ13_newCapacity_0 15 rfl rfl)
theorem dJ13_newCapacity_16 : decode cJ13_newCapacity 16 = .ok (.istore 4, 2) := dk_54 4 (dk_at dksJ13_newCapacity_0 16 rfl rfl)
theorem dJ13_newCapacity_18 : decode cJ13_newCapacity 18 = .ok (.iload_n 2, 1) := dk_28 (dk_at dksJ13_newCapacity_0 18 rfl rfl)
theorem dJ13_newCapacity_19 : decode cJ13_newCapacity 19 = .ok (.iload 4, 2) := dk_21 4 (dk_at dksJ13_newCapacity_0 19 rfl rfl)
theorem dJ13_newCapacity_21 : decode cJ13_newCapacity 21 = .ok (.iload_n 2, 1) := dk_28 (dk_at dksJ13_newCapacity_0 21 rfl rfl)
theorem dJ13_newCapacity_22 : decode cJ13_newCapacity 22 = .ok (.iconst 2, 1) := dk_5 (dk_at dksJ13_newCapacity_0 22 rfl rfl)
theorem dJ13_newCapacity_23 : decode cJ13_newCapacity 23 = .ok (.aload_n 0, 1) := dk_42 (dk_at dksJ13_newCapacity_0 23 rfl rfl)
theorem dJ13_newCapacity_24 : decode cJ13_newCapacity 24 = .ok (.getfield 22, 3) := dk_180 0 22 (dk_at dksJ13_newCapacity_1 0 rfl rfl)
theorem dJ13_newCapacity_27 : decode cJ13_newCapacity 27 = .ok (.ishl, 1) := dk_120 (dk_at dksJ13_newCapacity_1 3 rfl rfl)
theorem dJ13_newCapacity_28 : decode cJ13_newCapacity 28 = .ok (.iadd, 1) := dk_96 (dk_at dksJ13_newCapacity_1 4 rfl rfl)
theorem dJ13_newCapacity_29 : decode cJ13_newCapacity 29 = .ok (.invokestatic 114, 3) := dk_184 0 114 (dk_at dksJ13_newCapacity_1 5 rfl rfl)
theorem dJ13_newCapacity_32 : decode cJ13_newCapacity 32 = .ok (.istore 5, 2) := dk_54 5 (dk_at dksJ13_newCapacity_1 8 rfl rfl)
theorem dJ13_newCapacity_34 : decode cJ13_newCapacity 34 = .ok (.iload 5, 2) := dk_21 5 (dk_at dksJ13_newCapacity_1 10 rfl rfl)
theorem dJ13_newCapacity_36 : decode cJ13_newCapacity 36 = .ok (.ldc 39, 2) := dk_18 39 (dk_at dksJ13_newCapacity_1 12 rfl rfl)
theorem dJ13_newCapacity_38 : decode cJ13_newCapacity 38 = .ok (.if_icmp .ne 13, 3) := dk_160 0 13 (dk_at dksJ13_newCapacity_1 14 rfl rfl)
theorem dJ13_newCapacity_41 : decode cJ13_newCapacity 41 = .ok (.new 120, 3) := dk_187 0 120 (dk_at dksJ13_newCapacity_1 17 rfl rfl)
theorem dJ13_newCapacity_44 : decode cJ13_newCapacity 44 = .ok (.dup, 1) := dk_89 (dk_at dksJ13_newCapacity_1 20 rfl rfl)
theorem dJ13_newCapacity_45 : decode cJ13_newCapacity 45 = .ok (.ldc 122, 2) := dk_18 122 (dk_at dksJ13_newCapacity_1 21 rfl rfl)
theorem dJ13_newCapacity_47 : decode cJ13_newCapacity 47 = .ok (.invokespecial 124, 3) := dk_183 0 124 (dk_at dksJ13_newCapacity_2 0 rfl rfl)
theorem dJ13_newCapacity_50 : decode cJ13_newCapacity 50 = .ok (.athrow, 1) := dk_191 (dk_at dksJ13_newCapacity_2 3 rfl rfl)
theorem dJ13_newCapacity_51 : decode cJ13_newCapacity 51 = .ok (.iload 5, 2) := dk_21 5 (dk_at dksJ13_newCapacity_2 4 rfl rfl)
theorem dJ13_newCapacity_53 : decode cJ13_newCapacity 53 = .ok (.aload_n 0, 1) := dk_42 (dk_at dksJ13_newCapacity_2 6 rfl rfl)
theorem dJ13_newCapacity_54 : decode cJ13_newCapacity 54 = .ok (.getfield 22, 3) := dk_180 0 22 (dk_at dksJ13_newCapacity_2 7 rfl rfl)
theorem dJ13_newCapacity_57 : decode cJ13_newCapacity 57 = .ok (.ishr, 1) := dk_122 (dk_at dksJ13_newCapacity_2 10 rfl rfl)
theorem dJ13_newCapacity_58 : decode cJ13_newCapacity 58 = .ok (.ireturn, 1) := dk_172 (dk_at dksJ13_newCapacity_2 11 rfl rfl)
abbrev cJ13_isLatin1 : ByteArray := prog_14_method_68_code
def yJ13_isLatin1 : MethodName := ⟨RJ13, "isLatin1", "()Z"⟩
def dkwJ13_isLatin1_0 : List UInt8 := [178, 0, 18, 153, 0, 14, 42, 180, 0, 22, 154, 0, 7, 4, 167, 0, 4, 3, 172]
abbrev dktJ13_isLatin1_0 : List UInt8 := dkwJ13_isLatin1_0 ++ []
theorem dksJ13_isLatin1_0 : cJ13_isLatin1.data.toList.drop 0 = dktJ13_isLatin1_0 := by decide +kernel
theorem dJ13_isLatin1_0 : decode cJ13_isLatin1 0 = .ok (.getstatic 18, 3) := dk_178 0 18 (dk_at dksJ13_isLatin1_0 0 rfl rfl)
theorem dJ13_isLatin1_3 : decode cJ13_isLatin1 3 = .ok (.ifCond .eq 14, 3) := dk_153 0 14 (dk_at dksJ13_isLatin1_0 3 rfl rfl)
theorem dJ13_isLatin1_6 : decode cJ13_isLatin1 6 = .ok (.aload_n 0, 1) := dk_42 (dk_at dksJ13_isLatin1_0 6 rfl rfl)
theorem dJ13_isLatin1_7 : decode cJ13_isLatin1 7 = .ok (.getfield 22, 3) := dk_180 0 22 (dk_at dksJ13_isLatin1_0 7 rfl rfl)
theorem dJ13_isLatin1_10 : decode cJ13_isLatin1 10 = .ok (.ifCond .ne 7, 3) := dk_154 0 7 (dk_at dksJ13_isLatin1_0 10 rfl rfl)
theorem dJ13_isLatin1_13 : decode cJ13_isLatin1 13 = .ok (.iconst 1, 1) := dk_4 (dk_at dksJ13_isLatin1_0 13 rfl rfl)
theorem dJ13_isLatin1_14 : decode cJ13_isLatin1 14 = .ok (.goto 4, 3) := dk_167 0 4 (dk_at dksJ13_isLatin1_0 14 rfl rfl)
theorem dJ13_isLatin1_17 : decode cJ13_isLatin1 17 = .ok (.iconst 0, 1) := dk_3 (dk_at dksJ13_isLatin1_0 17 rfl rfl)
theorem dJ13_isLatin1_18 : decode cJ13_isLatin1 18 = .ok (.ireturn, 1) := dk_172 (dk_at dksJ13_isLatin1_0 18 rfl rfl)
abbrev cJ13_putStringAt : ByteArray := prog_14_method_73_code
def yJ13_putStringAt : MethodName := ⟨RJ13, "putStringAt", "(ILjava/lang/String;)V"⟩
def dkwJ13_putStringAt_0 : List UInt8 := [42, 44, 182, 1, 141, 44, 42, 180, 0, 15, 27, 42, 180, 0, 22, 182, 1, 143, 177]
abbrev dktJ13_putStringAt_0 : List UInt8 := dkwJ13_putStringAt_0 ++ []
theorem dksJ13_putStringAt_0 : cJ13_putStringAt.data.toList.drop 0 = dktJ13_putStringAt_0 := by decide +kernel
theorem dJ13_putStringAt_0 : decode cJ13_putStringAt 0 = .ok (.aload_n 0, 1) := dk_42 (dk_at dksJ13_putStringAt_0 0 rfl rfl)
theorem dJ13_putStringAt_1 : decode cJ13_putStringAt 1 = .ok (.aload_n 2, 1) := dk_44 (dk_at dksJ13_putStringAt_0 1 rfl rfl)
theorem dJ13_putStringAt_2 : decode cJ13_putStringAt 2 = .ok (.invokevirtual 397, 3) := dk_182 1 141 (dk_at dksJ13_putStringAt_0 2 rfl rfl)
theorem dJ13_putStringAt_5 : decode cJ13_putStringAt 5 = .ok (.aload_n 2, 1) := dk_44 (dk_at dksJ13_putStringAt_0 5 rfl rfl)
theorem dJ13_putStringAt_6 : decode cJ13_putStringAt 6 = .ok (.aload_n 0, 1) := dk_42 (dk_at dksJ13_putStringAt_0 6 rfl rfl)
theorem dJ13_putStringAt_7 : decode cJ13_putStringAt 7 = .ok (.getfield 15, 3) := dk_180 0 15 (dk_at dksJ13_putStringAt_0 7 rfl rfl)
theorem dJ13_putStringAt_10 : decode cJ13_putStringAt 10 = .ok (.iload_n 1, 1) := dk_27 (dk_at dksJ13_putStringAt_0 10 rfl rfl)
theorem dJ13_putStringAt_11 : decode cJ13_putStringAt 11 = .ok (.aload_n 0, 1) := dk_42 (dk_at dksJ13_putStringAt_0 11 rfl rfl)
theorem dJ13_putStringAt_12 : decode cJ13_putStringAt 12 = .ok (.getfield 22, 3) := dk_180 0 22 (dk_at dksJ13_putStringAt_0 12 rfl rfl)
theorem dJ13_putStringAt_15 : decode cJ13_putStringAt 15 = .ok (.invokevirtual 399, 3) := dk_182 1 143 (dk_at dksJ13_putStringAt_0 15 rfl rfl)
theorem dJ13_putStringAt_18 : decode cJ13_putStringAt 18 = .ok (.return_, 1) := dk_177 (dk_at dksJ13_putStringAt_0 18 rfl rfl)
abbrev cJ13_inflateIfNeededFor : ByteArray := prog_14_method_71_code
def yJ13_inflateIfNeededFor : MethodName := ⟨RJ13, "inflateIfNeededFor", "(Ljava/lang/String;)V"⟩
def dkwJ13_inflateIfNeededFor_0 : List UInt8 := [178, 0, 18, 153, 0, 18, 42, 180, 0, 22, 43, 182, 0, 40, 159, 0, 7, 42, 182, 0, 195, 177]
abbrev dktJ13_inflateIfNeededFor_0 : List UInt8 := dkwJ13_inflateIfNeededFor_0 ++ []
theorem dksJ13_inflateIfNeededFor_0 : cJ13_inflateIfNeededFor.data.toList.drop 0 = dktJ13_inflateIfNeededFor_0 := by decide +kernel
theorem dJ13_inflateIfNeededFor_0 : decode cJ13_inflateIfNeededFor 0 = .ok (.getstatic 18, 3) := dk_178 0 18 (dk_at dksJ13_inflateIfNeededFor_0 0 rfl rfl)
theorem dJ13_inflateIfNeededFor_3 : decode cJ13_inflateIfNeededFor 3 = .ok (.ifCond .eq 18, 3) := dk_153 0 18 (dk_at dksJ13_inflateIfNeededFor_0 3 rfl rfl)
theorem dJ13_inflateIfNeededFor_6 : decode cJ13_inflateIfNeededFor 6 = .ok (.aload_n 0, 1) := dk_42 (dk_at dksJ13_inflateIfNeededFor_0 6 rfl rfl)
theorem dJ13_inflateIfNeededFor_7 : decode cJ13_inflateIfNeededFor 7 = .ok (.getfield 22, 3) := dk_180 0 22 (dk_at dksJ13_inflateIfNeededFor_0 7 rfl rfl)
theorem dJ13_inflateIfNeededFor_10 : decode cJ13_inflateIfNeededFor 10 = .ok (.aload_n 1, 1) := dk_43 (dk_at dksJ13_inflateIfNeededFor_0 10 rfl rfl)
theorem dJ13_inflateIfNeededFor_11 : decode cJ13_inflateIfNeededFor 11 = .ok (.invokevirtual 40, 3) := dk_182 0 40 (dk_at dksJ13_inflateIfNeededFor_0 11 rfl rfl)
theorem dJ13_inflateIfNeededFor_14 : decode cJ13_inflateIfNeededFor 14 = .ok (.if_icmp .eq 7, 3) := dk_159 0 7 (dk_at dksJ13_inflateIfNeededFor_0 14 rfl rfl)
theorem dJ13_inflateIfNeededFor_17 : decode cJ13_inflateIfNeededFor 17 = .ok (.aload_n 0, 1) := dk_42 (dk_at dksJ13_inflateIfNeededFor_0 17 rfl rfl)
theorem dJ13_inflateIfNeededFor_18 : decode cJ13_inflateIfNeededFor 18 = .ok (.invokevirtual 195, 3) := dk_182 0 195 (dk_at dksJ13_inflateIfNeededFor_0 18 rfl rfl)
theorem dJ13_inflateIfNeededFor_21 : decode cJ13_inflateIfNeededFor 21 = .ok (.return_, 1) := dk_177 (dk_at dksJ13_inflateIfNeededFor_0 21 rfl rfl)
abbrev cJ13_inflate : ByteArray := prog_14_method_11_code
def yJ13_inflate : MethodName := ⟨RJ13, "inflate", "()V"⟩
def dkwJ13_inflate_1 : List UInt8 := [42, 180, 0, 79, 184, 0, 125, 42, 43, 181, 0, 15, 42, 4, 181, 0, 22, 177]
abbrev dktJ13_inflate_1 : List UInt8 := dkwJ13_inflate_1 ++ []
def dkwJ13_inflate_0 : List UInt8 := [42, 182, 0, 83, 154, 0, 4, 177, 42, 180, 0, 15, 190, 184, 0, 26, 76, 42, 180, 0, 15, 3, 43, 3]
abbrev dktJ13_inflate_0 : List UInt8 := dkwJ13_inflate_0 ++ dktJ13_inflate_1
theorem dksJ13_inflate_0 : cJ13_inflate.data.toList.drop 0 = dktJ13_inflate_0 := by decide +kernel
theorem dksJ13_inflate_1 : cJ13_inflate.data.toList.drop 24 = dktJ13_inflate_1 := dk_seg dksJ13_inflate_0 24 rfl rfl
theorem dJ13_inflate_0 : decode cJ13_inflate 0 = .ok (.aload_n 0, 1) := dk_42 (dk_at dksJ13_inflate_0 0 rfl rfl)
theorem dJ13_inflate_1 : decode cJ13_inflate 1 = .ok (.invokevirtual 83, 3) := dk_182 0 83 (dk_at dksJ13_inflate_0 1 rfl rfl)
theorem dJ13_inflate_4 : decode cJ13_inflate 4 = .ok (.ifCond .ne 4, 3) := dk_154 0 4 (dk_at dksJ13_inflate_0 4 rfl rfl)
theorem dJ13_inflate_7 : decode cJ13_inflate 7 = .ok (.return_, 1) := dk_177 (dk_at dksJ13_inflate_0 7 rfl rfl)
theorem dJ13_inflate_8 : decode cJ13_inflate 8 = .ok (.aload_n 0, 1) := dk_42 (dk_at dksJ13_inflate_0 8 rfl rfl)
theorem dJ13_inflate_9 : decode cJ13_inflate 9 = .ok (.getfield 15, 3) := dk_180 0 15 (dk_at dksJ13_inflate_0 9 rfl rfl)
theorem dJ13_inflate_12 : decode cJ13_inflate 12 = .ok (.arraylength, 1) := dk_190 (dk_at dksJ13_inflate_0 12 rfl rfl)
theorem dJ13_inflate_13 : decode cJ13_inflate 13 = .ok (.invokestatic 26, 3) := dk_184 0 26 (dk_at dksJ13_inflate_0 13 rfl rfl)
theorem dJ13_inflate_16 : decode cJ13_inflate 16 = .ok (.astore_n 1, 1) := dk_76 (dk_at dksJ13_inflate_0 16 rfl rfl)
theorem dJ13_inflate_17 : decode cJ13_inflate 17 = .ok (.aload_n 0, 1) := dk_42 (dk_at dksJ13_inflate_0 17 rfl rfl)
theorem dJ13_inflate_18 : decode cJ13_inflate 18 = .ok (.getfield 15, 3) := dk_180 0 15 (dk_at dksJ13_inflate_0 18 rfl rfl)
theorem dJ13_inflate_21 : decode cJ13_inflate 21 = .ok (.iconst 0, 1) := dk_3 (dk_at dksJ13_inflate_0 21 rfl rfl)
theorem dJ13_inflate_22 : decode cJ13_inflate 22 = .ok (.aload_n 1, 1) := dk_43 (dk_at dksJ13_inflate_0 22 rfl rfl)
theorem dJ13_inflate_23 : decode cJ13_inflate 23 = .ok (.iconst 0, 1) := dk_3 (dk_at dksJ13_inflate_0 23 rfl rfl)
theorem dJ13_inflate_24 : decode cJ13_inflate 24 = .ok (.aload_n 0, 1) := dk_42 (dk_at dksJ13_inflate_1 0 rfl rfl)
theorem dJ13_inflate_25 : decode cJ13_inflate 25 = .ok (.getfield 79, 3) := dk_180 0 79 (dk_at dksJ13_inflate_1 1 rfl rfl)
theorem dJ13_inflate_28 : decode cJ13_inflate 28 = .ok (.invokestatic 125, 3) := dk_184 0 125 (dk_at dksJ13_inflate_1 4 rfl rfl)
theorem dJ13_inflate_31 : decode cJ13_inflate 31 = .ok (.aload_n 0, 1) := dk_42 (dk_at dksJ13_inflate_1 7 rfl rfl)
theorem dJ13_inflate_32 : decode cJ13_inflate 32 = .ok (.aload_n 1, 1) := dk_43 (dk_at dksJ13_inflate_1 8 rfl rfl)
theorem dJ13_inflate_33 : decode cJ13_inflate 33 = .ok (.putfield 15, 3) := dk_181 0 15 (dk_at dksJ13_inflate_1 9 rfl rfl)
theorem dJ13_inflate_36 : decode cJ13_inflate 36 = .ok (.aload_n 0, 1) := dk_42 (dk_at dksJ13_inflate_1 12 rfl rfl)
theorem dJ13_inflate_37 : decode cJ13_inflate 37 = .ok (.iconst 1, 1) := dk_4 (dk_at dksJ13_inflate_1 13 rfl rfl)
theorem dJ13_inflate_38 : decode cJ13_inflate 38 = .ok (.putfield 22, 3) := dk_181 0 22 (dk_at dksJ13_inflate_1 14 rfl rfl)
theorem dJ13_inflate_41 : decode cJ13_inflate 41 = .ok (.return_, 1) := dk_177 (dk_at dksJ13_inflate_1 17 rfl rfl)
abbrev cJ13_append_2 : ByteArray := prog_14_method_32_code
def yJ13_append_2 : MethodName := ⟨RJ13, "append", "(I)Ljava/lang/AbstractStringBuilder;"⟩
def dkwJ13_append_2_2 : List UInt8 := [42, 29, 181, 0, 79, 42, 176]
abbrev dktJ13_append_2_2 : List UInt8 := dkwJ13_append_2_2 ++ []
def dkwJ13_append_2_1 : List UInt8 := [27, 29, 42, 180, 0, 15, 184, 0, 248, 87, 167, 0, 14, 27, 28, 29, 42, 180, 0, 15, 184, 0, 251, 87]
abbrev dktJ13_append_2_1 : List UInt8 := dkwJ13_append_2_1 ++ dktJ13_append_2_2
def dkwJ13_append_2_0 : List UInt8 := [42, 180, 0, 79, 61, 28, 27, 184, 0, 245, 96, 62, 42, 29, 182, 0, 100, 42, 182, 0, 83, 153, 0, 16]
abbrev dktJ13_append_2_0 : List UInt8 := dkwJ13_append_2_0 ++ dktJ13_append_2_1
theorem dksJ13_append_2_0 : cJ13_append_2.data.toList.drop 0 = dktJ13_append_2_0 := by decide +kernel
theorem dksJ13_append_2_1 : cJ13_append_2.data.toList.drop 24 = dktJ13_append_2_1 := dk_seg dksJ13_append_2_0 24 rfl rfl
theorem dksJ13_append_2_2 : cJ13_append_2.data.toList.drop 48 = dktJ13_append_2_2 := dk_seg dksJ13_append_2_1 24 rfl rfl
theorem dJ13_append_2_0 : decode cJ13_append_2 0 = .ok (.aload_n 0, 1) := dk_42 (dk_at dksJ13_append_2_0 0 rfl rfl)
theorem dJ13_append_2_1 : decode cJ13_append_2 1 = .ok (.getfield 79, 3) := dk_180 0 79 (dk_at dksJ13_append_2_0 1 rfl rfl)
theorem dJ13_append_2_4 : decode cJ13_append_2 4 = .ok (.istore_n 2, 1) := dk_61 (dk_at dksJ13_append_2_0 4 rfl rfl)
theorem dJ13_append_2_5 : decode cJ13_append_2 5 = .ok (.iload_n 2, 1) := dk_28 (dk_at dksJ13_append_2_0 5 rfl rfl)
theorem dJ13_append_2_6 : decode cJ13_append_2 6 = .ok (.iload_n 1, 1) := dk_27 (dk_at dksJ13_append_2_0 6 rfl rfl)
theorem dJ13_append_2_7 : decode cJ13_append_2 7 = .ok (.invokestatic 245, 3) := dk_184 0 245 (dk_at dksJ13_append_2_0 7 rfl rfl)
theorem dJ13_append_2_10 : decode cJ13_append_2 10 = .ok (.iadd, 1) := dk_96 (dk_at dksJ13_append_2_0 10 rfl rfl)
theorem dJ13_append_2_11 : decode cJ13_append_2 11 = .ok (.istore_n 3, 1) := dk_62 (dk_at dksJ13_append_2_0 11 rfl rfl)
theorem dJ13_append_2_12 : decode cJ13_append_2 12 = .ok (.aload_n 0, 1) := dk_42 (dk_at dksJ13_append_2_0 12 rfl rfl)
theorem dJ13_append_2_13 : decode cJ13_append_2 13 = .ok (.iload_n 3, 1) := dk_29 (dk_at dksJ13_append_2_0 13 rfl rfl)
theorem dJ13_append_2_14 : decode cJ13_append_2 14 = .ok (.invokevirtual 100, 3) := dk_182 0 100 (dk_at dksJ13_append_2_0 14 rfl rfl)
theorem dJ13_append_2_17 : decode cJ13_append_2 17 = .ok (.aload_n 0, 1) := dk_42 (dk_at dksJ13_append_2_0 17 rfl rfl)
theorem dJ13_append_2_18 : decode cJ13_append_2 18 = .ok (.invokevirtual 83, 3) := dk_182 0 83 (dk_at dksJ13_append_2_0 18 rfl rfl)
theorem dJ13_append_2_21 : decode cJ13_append_2 21 = .ok (.ifCond .eq 16, 3) := dk_153 0 16 (dk_at dksJ13_append_2_0 21 rfl rfl)
theorem dJ13_append_2_24 : decode cJ13_append_2 24 = .ok (.iload_n 1, 1) := dk_27 (dk_at dksJ13_append_2_1 0 rfl rfl)
theorem dJ13_append_2_25 : decode cJ13_append_2 25 = .ok (.iload_n 3, 1) := dk_29 (dk_at dksJ13_append_2_1 1 rfl rfl)
theorem dJ13_append_2_26 : decode cJ13_append_2 26 = .ok (.aload_n 0, 1) := dk_42 (dk_at dksJ13_append_2_1 2 rfl rfl)
theorem dJ13_append_2_27 : decode cJ13_append_2 27 = .ok (.getfield 15, 3) := dk_180 0 15 (dk_at dksJ13_append_2_1 3 rfl rfl)
theorem dJ13_append_2_30 : decode cJ13_append_2 30 = .ok (.invokestatic 248, 3) := dk_184 0 248 (dk_at dksJ13_append_2_1 6 rfl rfl)
theorem dJ13_append_2_33 : decode cJ13_append_2 33 = .ok (.pop, 1) := dk_87 (dk_at dksJ13_append_2_1 9 rfl rfl)
theorem dJ13_append_2_34 : decode cJ13_append_2 34 = .ok (.goto 14, 3) := dk_167 0 14 (dk_at dksJ13_append_2_1 10 rfl rfl)
theorem dJ13_append_2_37 : decode cJ13_append_2 37 = .ok (.iload_n 1, 1) := dk_27 (dk_at dksJ13_append_2_1 13 rfl rfl)
theorem dJ13_append_2_38 : decode cJ13_append_2 38 = .ok (.iload_n 2, 1) := dk_28 (dk_at dksJ13_append_2_1 14 rfl rfl)
theorem dJ13_append_2_39 : decode cJ13_append_2 39 = .ok (.iload_n 3, 1) := dk_29 (dk_at dksJ13_append_2_1 15 rfl rfl)
theorem dJ13_append_2_40 : decode cJ13_append_2 40 = .ok (.aload_n 0, 1) := dk_42 (dk_at dksJ13_append_2_1 16 rfl rfl)
theorem dJ13_append_2_41 : decode cJ13_append_2 41 = .ok (.getfield 15, 3) := dk_180 0 15 (dk_at dksJ13_append_2_1 17 rfl rfl)
theorem dJ13_append_2_44 : decode cJ13_append_2 44 = .ok (.invokestatic 251, 3) := dk_184 0 251 (dk_at dksJ13_append_2_1 20 rfl rfl)
theorem dJ13_append_2_47 : decode cJ13_append_2 47 = .ok (.pop, 1) := dk_87 (dk_at dksJ13_append_2_1 23 rfl rfl)
theorem dJ13_append_2_48 : decode cJ13_append_2 48 = .ok (.aload_n 0, 1) := dk_42 (dk_at dksJ13_append_2_2 0 rfl rfl)
theorem dJ13_append_2_49 : decode cJ13_append_2 49 = .ok (.iload_n 3, 1) := dk_29 (dk_at dksJ13_append_2_2 1 rfl rfl)
theorem dJ13_append_2_50 : decode cJ13_append_2 50 = .ok (.putfield 79, 3) := dk_181 0 79 (dk_at dksJ13_append_2_2 2 rfl rfl)
theorem dJ13_append_2_53 : decode cJ13_append_2 53 = .ok (.aload_n 0, 1) := dk_42 (dk_at dksJ13_append_2_2 5 rfl rfl)
theorem dJ13_append_2_54 : decode cJ13_append_2 54 = .ok (.areturn, 1) := dk_176 (dk_at dksJ13_append_2_2 6 rfl rfl)
abbrev cJ13_getValue : ByteArray := prog_14_method_64_code
def yJ13_getValue : MethodName := ⟨RJ13, "getValue", "()[B"⟩
theorem dJ13_getValue_0 : decode cJ13_getValue 0 = .ok (.aload_n 0, 1) := by decide +kernel
theorem dJ13_getValue_1 : decode cJ13_getValue 1 = .ok (.getfield 15, 3) := by decide +kernel
theorem dJ13_getValue_4 : decode cJ13_getValue 4 = .ok (.areturn, 1) := by decide +kernel
abbrev cJ13_length : ByteArray := prog_14_method_6_code
def yJ13_length : MethodName := ⟨RJ13, "length", "()I"⟩
theorem dJ13_length_0 : decode cJ13_length 0 = .ok (.aload_n 0, 1) := by decide +kernel
theorem dJ13_length_1 : decode cJ13_length 1 = .ok (.getfield 79, 3) := by decide +kernel
theorem dJ13_length_4 : decode cJ13_length 4 = .ok (.ireturn, 1) := by decide +kernel
abbrev cJ13_compareTo : ByteArray := prog_14_method_5_code
def yJ13_compareTo : MethodName := ⟨RJ13, "compareTo", "(Ljava/lang/AbstractStringBuilder;)I"⟩
def dkwJ13_compareTo_4 : List UInt8 := [184, 0, 97, 172]
abbrev dktJ13_compareTo_4 : List UInt8 := dkwJ13_compareTo_4 ++ []
def dkwJ13_compareTo_3 : List UInt8 := [182, 0, 83, 153, 0, 15, 44, 45, 21, 4, 21, 5, 184, 0, 94, 167, 0, 12, 44, 45, 21, 4, 21, 5]
abbrev dktJ13_compareTo_3 : List UInt8 := dkwJ13_compareTo_3 ++ dktJ13_compareTo_4
def dkwJ13_compareTo_2 : List UInt8 := [45, 21, 4, 21, 5, 184, 0, 87, 167, 0, 12, 44, 45, 21, 4, 21, 5, 184, 0, 93, 172, 42]
abbrev dktJ13_compareTo_2 : List UInt8 := dkwJ13_compareTo_2 ++ dktJ13_compareTo_3
def dkwJ13_compareTo_1 : List UInt8 := [180, 0, 79, 54, 5, 42, 180, 0, 22, 43, 180, 0, 22, 160, 0, 32, 42, 182, 0, 83, 153, 0, 15, 44]
abbrev dktJ13_compareTo_1 : List UInt8 := dkwJ13_compareTo_1 ++ dktJ13_compareTo_2
def dkwJ13_compareTo_0 : List UInt8 := [42, 43, 166, 0, 5, 3, 172, 42, 180, 0, 15, 77, 43, 180, 0, 15, 78, 42, 180, 0, 79, 54, 4, 43]
abbrev dktJ13_compareTo_0 : List UInt8 := dkwJ13_compareTo_0 ++ dktJ13_compareTo_1
theorem dksJ13_compareTo_0 : cJ13_compareTo.data.toList.drop 0 = dktJ13_compareTo_0 := by decide +kernel
theorem dksJ13_compareTo_1 : cJ13_compareTo.data.toList.drop 24 = dktJ13_compareTo_1 := dk_seg dksJ13_compareTo_0 24 rfl rfl
theorem dksJ13_compareTo_2 : cJ13_compareTo.data.toList.drop 48 = dktJ13_compareTo_2 := dk_seg dksJ13_compareTo_1 24 rfl rfl
theorem dksJ13_compareTo_3 : cJ13_compareTo.data.toList.drop 70 = dktJ13_compareTo_3 := dk_seg dksJ13_compareTo_2 22 rfl rfl
theorem dksJ13_compareTo_4 : cJ13_compareTo.data.toList.drop 94 = dktJ13_compareTo_4 := dk_seg dksJ13_compareTo_3 24 rfl rfl
theorem dJ13_compareTo_0 : decode cJ13_compareTo 0 = .ok (.aload_n 0, 1) := dk_42 (dk_at dksJ13_compareTo_0 0 rfl rfl)
theorem dJ13_compareTo_1 : decode cJ13_compareTo 1 = .ok (.aload_n 1, 1) := dk_43 (dk_at dksJ13_compareTo_0 1 rfl rfl)
theorem dJ13_compareTo_2 : decode cJ13_compareTo 2 = .ok (.if_acmp .ne 5, 3) := dk_166 0 5 (dk_at dksJ13_compareTo_0 2 rfl rfl)
theorem dJ13_compareTo_5 : decode cJ13_compareTo 5 = .ok (.iconst 0, 1) := dk_3 (dk_at dksJ13_compareTo_0 5 rfl rfl)
theorem dJ13_compareTo_6 : decode cJ13_compareTo 6 = .ok (.ireturn, 1) := dk_172 (dk_at dksJ13_compareTo_0 6 rfl rfl)
theorem dJ13_compareTo_7 : decode cJ13_compareTo 7 = .ok (.aload_n 0, 1) := dk_42 (dk_at dksJ13_compareTo_0 7 rfl rfl)
theorem dJ13_compareTo_8 : decode cJ13_compareTo 8 = .ok (.getfield 15, 3) := dk_180 0 15 (dk_at dksJ13_compareTo_0 8 rfl rfl)
theorem dJ13_compareTo_11 : decode cJ13_compareTo 11 = .ok (.astore_n 2, 1) := dk_77 (dk_at dksJ13_compareTo_0 11 rfl rfl)
theorem dJ13_compareTo_12 : decode cJ13_compareTo 12 = .ok (.aload_n 1, 1) := dk_43 (dk_at dksJ13_compareTo_0 12 rfl rfl)
theorem dJ13_compareTo_13 : decode cJ13_compareTo 13 = .ok (.getfield 15, 3) := dk_180 0 15 (dk_at dksJ13_compareTo_0 13 rfl rfl)
theorem dJ13_compareTo_16 : decode cJ13_compareTo 16 = .ok (.astore_n 3, 1) := dk_78 (dk_at dksJ13_compareTo_0 16 rfl rfl)
theorem dJ13_compareTo_17 : decode cJ13_compareTo 17 = .ok (.aload_n 0, 1) := dk_42 (dk_at dksJ13_compareTo_0 17 rfl rfl)
theorem dJ13_compareTo_18 : decode cJ13_compareTo 18 = .ok (.getfield 79, 3) := dk_180 0 79 (dk_at dksJ13_compareTo_0 18 rfl rfl)
theorem dJ13_compareTo_21 : decode cJ13_compareTo 21 = .ok (.istore 4, 2) := dk_54 4 (dk_at dksJ13_compareTo_0 21 rfl rfl)
theorem dJ13_compareTo_23 : decode cJ13_compareTo 23 = .ok (.aload_n 1, 1) := dk_43 (dk_at dksJ13_compareTo_0 23 rfl rfl)
theorem dJ13_compareTo_24 : decode cJ13_compareTo 24 = .ok (.getfield 79, 3) := dk_180 0 79 (dk_at dksJ13_compareTo_1 0 rfl rfl)
theorem dJ13_compareTo_27 : decode cJ13_compareTo 27 = .ok (.istore 5, 2) := dk_54 5 (dk_at dksJ13_compareTo_1 3 rfl rfl)
theorem dJ13_compareTo_29 : decode cJ13_compareTo 29 = .ok (.aload_n 0, 1) := dk_42 (dk_at dksJ13_compareTo_1 5 rfl rfl)
theorem dJ13_compareTo_30 : decode cJ13_compareTo 30 = .ok (.getfield 22, 3) := dk_180 0 22 (dk_at dksJ13_compareTo_1 6 rfl rfl)
theorem dJ13_compareTo_33 : decode cJ13_compareTo 33 = .ok (.aload_n 1, 1) := dk_43 (dk_at dksJ13_compareTo_1 9 rfl rfl)
theorem dJ13_compareTo_34 : decode cJ13_compareTo 34 = .ok (.getfield 22, 3) := dk_180 0 22 (dk_at dksJ13_compareTo_1 10 rfl rfl)
theorem dJ13_compareTo_37 : decode cJ13_compareTo 37 = .ok (.if_icmp .ne 32, 3) := dk_160 0 32 (dk_at dksJ13_compareTo_1 13 rfl rfl)
theorem dJ13_compareTo_40 : decode cJ13_compareTo 40 = .ok (.aload_n 0, 1) := dk_42 (dk_at dksJ13_compareTo_1 16 rfl rfl)
theorem dJ13_compareTo_41 : decode cJ13_compareTo 41 = .ok (.invokevirtual 83, 3) := dk_182 0 83 (dk_at dksJ13_compareTo_1 17 rfl rfl)
theorem dJ13_compareTo_44 : decode cJ13_compareTo 44 = .ok (.ifCond .eq 15, 3) := dk_153 0 15 (dk_at dksJ13_compareTo_1 20 rfl rfl)
theorem dJ13_compareTo_47 : decode cJ13_compareTo 47 = .ok (.aload_n 2, 1) := dk_44 (dk_at dksJ13_compareTo_1 23 rfl rfl)
theorem dJ13_compareTo_48 : decode cJ13_compareTo 48 = .ok (.aload_n 3, 1) := dk_45 (dk_at dksJ13_compareTo_2 0 rfl rfl)
theorem dJ13_compareTo_49 : decode cJ13_compareTo 49 = .ok (.iload 4, 2) := dk_21 4 (dk_at dksJ13_compareTo_2 1 rfl rfl)
theorem dJ13_compareTo_51 : decode cJ13_compareTo 51 = .ok (.iload 5, 2) := dk_21 5 (dk_at dksJ13_compareTo_2 3 rfl rfl)
theorem dJ13_compareTo_53 : decode cJ13_compareTo 53 = .ok (.invokestatic 87, 3) := dk_184 0 87 (dk_at dksJ13_compareTo_2 5 rfl rfl)
theorem dJ13_compareTo_56 : decode cJ13_compareTo 56 = .ok (.goto 12, 3) := dk_167 0 12 (dk_at dksJ13_compareTo_2 8 rfl rfl)
theorem dJ13_compareTo_59 : decode cJ13_compareTo 59 = .ok (.aload_n 2, 1) := dk_44 (dk_at dksJ13_compareTo_2 11 rfl rfl)
theorem dJ13_compareTo_60 : decode cJ13_compareTo 60 = .ok (.aload_n 3, 1) := dk_45 (dk_at dksJ13_compareTo_2 12 rfl rfl)
theorem dJ13_compareTo_61 : decode cJ13_compareTo 61 = .ok (.iload 4, 2) := dk_21 4 (dk_at dksJ13_compareTo_2 13 rfl rfl)
theorem dJ13_compareTo_63 : decode cJ13_compareTo 63 = .ok (.iload 5, 2) := dk_21 5 (dk_at dksJ13_compareTo_2 15 rfl rfl)
theorem dJ13_compareTo_65 : decode cJ13_compareTo 65 = .ok (.invokestatic 93, 3) := dk_184 0 93 (dk_at dksJ13_compareTo_2 17 rfl rfl)
theorem dJ13_compareTo_68 : decode cJ13_compareTo 68 = .ok (.ireturn, 1) := dk_172 (dk_at dksJ13_compareTo_2 20 rfl rfl)
theorem dJ13_compareTo_69 : decode cJ13_compareTo 69 = .ok (.aload_n 0, 1) := dk_42 (dk_at dksJ13_compareTo_2 21 rfl rfl)
theorem dJ13_compareTo_70 : decode cJ13_compareTo 70 = .ok (.invokevirtual 83, 3) := dk_182 0 83 (dk_at dksJ13_compareTo_3 0 rfl rfl)
theorem dJ13_compareTo_73 : decode cJ13_compareTo 73 = .ok (.ifCond .eq 15, 3) := dk_153 0 15 (dk_at dksJ13_compareTo_3 3 rfl rfl)
theorem dJ13_compareTo_76 : decode cJ13_compareTo 76 = .ok (.aload_n 2, 1) := dk_44 (dk_at dksJ13_compareTo_3 6 rfl rfl)
theorem dJ13_compareTo_77 : decode cJ13_compareTo 77 = .ok (.aload_n 3, 1) := dk_45 (dk_at dksJ13_compareTo_3 7 rfl rfl)
theorem dJ13_compareTo_78 : decode cJ13_compareTo 78 = .ok (.iload 4, 2) := dk_21 4 (dk_at dksJ13_compareTo_3 8 rfl rfl)
theorem dJ13_compareTo_80 : decode cJ13_compareTo 80 = .ok (.iload 5, 2) := dk_21 5 (dk_at dksJ13_compareTo_3 10 rfl rfl)
theorem dJ13_compareTo_82 : decode cJ13_compareTo 82 = .ok (.invokestatic 94, 3) := dk_184 0 94 (dk_at dksJ13_compareTo_3 12 rfl rfl)
theorem dJ13_compareTo_85 : decode cJ13_compareTo 85 = .ok (.goto 12, 3) := dk_167 0 12 (dk_at dksJ13_compareTo_3 15 rfl rfl)
theorem dJ13_compareTo_88 : decode cJ13_compareTo 88 = .ok (.aload_n 2, 1) := dk_44 (dk_at dksJ13_compareTo_3 18 rfl rfl)
theorem dJ13_compareTo_89 : decode cJ13_compareTo 89 = .ok (.aload_n 3, 1) := dk_45 (dk_at dksJ13_compareTo_3 19 rfl rfl)
theorem dJ13_compareTo_90 : decode cJ13_compareTo 90 = .ok (.iload 4, 2) := dk_21 4 (dk_at dksJ13_compareTo_3 20 rfl rfl)
theorem dJ13_compareTo_92 : decode cJ13_compareTo 92 = .ok (.iload 5, 2) := dk_21 5 (dk_at dksJ13_compareTo_3 22 rfl rfl)
theorem dJ13_compareTo_94 : decode cJ13_compareTo 94 = .ok (.invokestatic 97, 3) := dk_184 0 97 (dk_at dksJ13_compareTo_4 0 rfl rfl)
theorem dJ13_compareTo_97 : decode cJ13_compareTo 97 = .ok (.ireturn, 1) := dk_172 (dk_at dksJ13_compareTo_4 3 rfl rfl)
abbrev cJ13_setLength : ByteArray := prog_14_method_13_code
def yJ13_setLength : MethodName := ⟨RJ13, "setLength", "(I)V"⟩
def dkwJ13_setLength_3 : List UInt8 := [164, 0, 8, 42, 4, 181, 0, 73, 42, 27, 181, 0, 79, 177]
abbrev dktJ13_setLength_3 : List UInt8 := dkwJ13_setLength_3 ++ []
def dkwJ13_setLength_2 : List UInt8 := [167, 0, 31, 42, 180, 0, 15, 42, 180, 0, 79, 27, 184, 0, 137, 167, 0, 16, 42, 180, 0, 79, 27]
abbrev dktJ13_setLength_2 : List UInt8 := dkwJ13_setLength_2 ++ dktJ13_setLength_3
def dkwJ13_setLength_1 : List UInt8 := [162, 0, 40, 42, 182, 0, 83, 153, 0, 18, 42, 180, 0, 15, 42, 180, 0, 79, 27, 184, 0, 133]
abbrev dktJ13_setLength_1 : List UInt8 := dkwJ13_setLength_1 ++ dktJ13_setLength_2
def dkwJ13_setLength_0 : List UInt8 := [27, 156, 0, 12, 187, 0, 129, 89, 27, 183, 0, 131, 191, 42, 27, 182, 0, 100, 42, 180, 0, 79, 27]
abbrev dktJ13_setLength_0 : List UInt8 := dkwJ13_setLength_0 ++ dktJ13_setLength_1
theorem dksJ13_setLength_0 : cJ13_setLength.data.toList.drop 0 = dktJ13_setLength_0 := by decide +kernel
theorem dksJ13_setLength_1 : cJ13_setLength.data.toList.drop 23 = dktJ13_setLength_1 := dk_seg dksJ13_setLength_0 23 rfl rfl
theorem dksJ13_setLength_2 : cJ13_setLength.data.toList.drop 45 = dktJ13_setLength_2 := dk_seg dksJ13_setLength_1 22 rfl rfl
theorem dksJ13_setLength_3 : cJ13_setLength.data.toList.drop 68 = dktJ13_setLength_3 := dk_seg dksJ13_setLength_2 23 rfl rfl
theorem dJ13_setLength_0 : decode cJ13_setLength 0 = .ok (.iload_n 1, 1) := dk_27 (dk_at dksJ13_setLength_0 0 rfl rfl)
theorem dJ13_setLength_1 : decode cJ13_setLength 1 = .ok (.ifCond .ge 12, 3) := dk_156 0 12 (dk_at dksJ13_setLength_0 1 rfl rfl)
theorem dJ13_setLength_4 : decode cJ13_setLength 4 = .ok (.new 129, 3) := dk_187 0 129 (dk_at dksJ13_setLength_0 4 rfl rfl)
theorem dJ13_setLength_7 : decode cJ13_setLength 7 = .ok (.dup, 1) := dk_89 (dk_at dksJ13_setLength_0 7 rfl rfl)
theorem dJ13_setLength_8 : decode cJ13_setLength 8 = .ok (.iload_n 1, 1) := dk_27 (dk_at dksJ13_setLength_0 8 rfl rfl)
theorem dJ13_setLength_9 : decode cJ13_setLength 9 = .ok (.invokespecial 131, 3) := dk_183 0 131 (dk_at dksJ13_setLength_0 9 rfl rfl)
theorem dJ13_setLength_12 : decode cJ13_setLength 12 = .ok (.athrow, 1) := dk_191 (dk_at dksJ13_setLength_0 12 rfl rfl)
theorem dJ13_setLength_13 : decode cJ13_setLength 13 = .ok (.aload_n 0, 1) := dk_42 (dk_at dksJ13_setLength_0 13 rfl rfl)
theorem dJ13_setLength_14 : decode cJ13_setLength 14 = .ok (.iload_n 1, 1) := dk_27 (dk_at dksJ13_setLength_0 14 rfl rfl)
theorem dJ13_setLength_15 : decode cJ13_setLength 15 = .ok (.invokevirtual 100, 3) := dk_182 0 100 (dk_at dksJ13_setLength_0 15 rfl rfl)
theorem dJ13_setLength_18 : decode cJ13_setLength 18 = .ok (.aload_n 0, 1) := dk_42 (dk_at dksJ13_setLength_0 18 rfl rfl)
theorem dJ13_setLength_19 : decode cJ13_setLength 19 = .ok (.getfield 79, 3) := dk_180 0 79 (dk_at dksJ13_setLength_0 19 rfl rfl)
theorem dJ13_setLength_22 : decode cJ13_setLength 22 = .ok (.iload_n 1, 1) := dk_27 (dk_at dksJ13_setLength_0 22 rfl rfl)
theorem dJ13_setLength_23 : decode cJ13_setLength 23 = .ok (.if_icmp .ge 40, 3) := dk_162 0 40 (dk_at dksJ13_setLength_1 0 rfl rfl)
theorem dJ13_setLength_26 : decode cJ13_setLength 26 = .ok (.aload_n 0, 1) := dk_42 (dk_at dksJ13_setLength_1 3 rfl rfl)
theorem dJ13_setLength_27 : decode cJ13_setLength 27 = .ok (.invokevirtual 83, 3) := dk_182 0 83 (dk_at dksJ13_setLength_1 4 rfl rfl)
theorem dJ13_setLength_30 : decode cJ13_setLength 30 = .ok (.ifCond .eq 18, 3) := dk_153 0 18 (dk_at dksJ13_setLength_1 7 rfl rfl)
theorem dJ13_setLength_33 : decode cJ13_setLength 33 = .ok (.aload_n 0, 1) := dk_42 (dk_at dksJ13_setLength_1 10 rfl rfl)
theorem dJ13_setLength_34 : decode cJ13_setLength 34 = .ok (.getfield 15, 3) := dk_180 0 15 (dk_at dksJ13_setLength_1 11 rfl rfl)
theorem dJ13_setLength_37 : decode cJ13_setLength 37 = .ok (.aload_n 0, 1) := dk_42 (dk_at dksJ13_setLength_1 14 rfl rfl)
theorem dJ13_setLength_38 : decode cJ13_setLength 38 = .ok (.getfield 79, 3) := dk_180 0 79 (dk_at dksJ13_setLength_1 15 rfl rfl)
theorem dJ13_setLength_41 : decode cJ13_setLength 41 = .ok (.iload_n 1, 1) := dk_27 (dk_at dksJ13_setLength_1 18 rfl rfl)
theorem dJ13_setLength_42 : decode cJ13_setLength 42 = .ok (.invokestatic 133, 3) := dk_184 0 133 (dk_at dksJ13_setLength_1 19 rfl rfl)
theorem dJ13_setLength_45 : decode cJ13_setLength 45 = .ok (.goto 31, 3) := dk_167 0 31 (dk_at dksJ13_setLength_2 0 rfl rfl)
theorem dJ13_setLength_48 : decode cJ13_setLength 48 = .ok (.aload_n 0, 1) := dk_42 (dk_at dksJ13_setLength_2 3 rfl rfl)
theorem dJ13_setLength_49 : decode cJ13_setLength 49 = .ok (.getfield 15, 3) := dk_180 0 15 (dk_at dksJ13_setLength_2 4 rfl rfl)
theorem dJ13_setLength_52 : decode cJ13_setLength 52 = .ok (.aload_n 0, 1) := dk_42 (dk_at dksJ13_setLength_2 7 rfl rfl)
theorem dJ13_setLength_53 : decode cJ13_setLength 53 = .ok (.getfield 79, 3) := dk_180 0 79 (dk_at dksJ13_setLength_2 8 rfl rfl)
theorem dJ13_setLength_56 : decode cJ13_setLength 56 = .ok (.iload_n 1, 1) := dk_27 (dk_at dksJ13_setLength_2 11 rfl rfl)
theorem dJ13_setLength_57 : decode cJ13_setLength 57 = .ok (.invokestatic 137, 3) := dk_184 0 137 (dk_at dksJ13_setLength_2 12 rfl rfl)
theorem dJ13_setLength_60 : decode cJ13_setLength 60 = .ok (.goto 16, 3) := dk_167 0 16 (dk_at dksJ13_setLength_2 15 rfl rfl)
theorem dJ13_setLength_63 : decode cJ13_setLength 63 = .ok (.aload_n 0, 1) := dk_42 (dk_at dksJ13_setLength_2 18 rfl rfl)
theorem dJ13_setLength_64 : decode cJ13_setLength 64 = .ok (.getfield 79, 3) := dk_180 0 79 (dk_at dksJ13_setLength_2 19 rfl rfl)
theorem dJ13_setLength_67 : decode cJ13_setLength 67 = .ok (.iload_n 1, 1) := dk_27 (dk_at dksJ13_setLength_2 22 rfl rfl)
theorem dJ13_setLength_68 : decode cJ13_setLength 68 = .ok (.if_icmp .le 8, 3) := dk_164 0 8 (dk_at dksJ13_setLength_3 0 rfl rfl)
theorem dJ13_setLength_71 : decode cJ13_setLength 71 = .ok (.aload_n 0, 1) := dk_42 (dk_at dksJ13_setLength_3 3 rfl rfl)
theorem dJ13_setLength_72 : decode cJ13_setLength 72 = .ok (.iconst 1, 1) := dk_4 (dk_at dksJ13_setLength_3 4 rfl rfl)
theorem dJ13_setLength_73 : decode cJ13_setLength 73 = .ok (.putfield 73, 3) := dk_181 0 73 (dk_at dksJ13_setLength_3 5 rfl rfl)
theorem dJ13_setLength_76 : decode cJ13_setLength 76 = .ok (.aload_n 0, 1) := dk_42 (dk_at dksJ13_setLength_3 8 rfl rfl)
theorem dJ13_setLength_77 : decode cJ13_setLength 77 = .ok (.iload_n 1, 1) := dk_27 (dk_at dksJ13_setLength_3 9 rfl rfl)
theorem dJ13_setLength_78 : decode cJ13_setLength 78 = .ok (.putfield 79, 3) := dk_181 0 79 (dk_at dksJ13_setLength_3 10 rfl rfl)
theorem dJ13_setLength_81 : decode cJ13_setLength 81 = .ok (.return_, 1) := dk_177 (dk_at dksJ13_setLength_3 13 rfl rfl)
abbrev cJ13_append_3 : ByteArray := prog_14_method_31_code
def yJ13_append_3 : MethodName := ⟨RJ13, "append", "(C)Ljava/lang/AbstractStringBuilder;"⟩
def dkwJ13_append_3_3 : List UInt8 := [181, 0, 79, 27, 184, 0, 197, 42, 176]
abbrev dktJ13_append_3_3 : List UInt8 := dkwJ13_append_3_3 ++ []
def dkwJ13_append_3_2 : List UInt8 := [182, 0, 83, 153, 0, 7, 42, 182, 0, 195, 42, 180, 0, 15, 42, 89, 180, 0, 79, 90, 4, 96]
abbrev dktJ13_append_3_2 : List UInt8 := dkwJ13_append_3_2 ++ dktJ13_append_3_3
def dkwJ13_append_3_1 : List UInt8 := [42, 180, 0, 15, 42, 89, 180, 0, 79, 90, 4, 96, 181, 0, 79, 27, 145, 84, 167, 0, 33, 42]
abbrev dktJ13_append_3_1 : List UInt8 := dkwJ13_append_3_1 ++ dktJ13_append_3_2
def dkwJ13_append_3_0 : List UInt8 := [42, 42, 180, 0, 79, 4, 96, 182, 0, 100, 42, 182, 0, 83, 153, 0, 31, 27, 184, 0, 191, 153, 0, 24]
abbrev dktJ13_append_3_0 : List UInt8 := dkwJ13_append_3_0 ++ dktJ13_append_3_1
theorem dksJ13_append_3_0 : cJ13_append_3.data.toList.drop 0 = dktJ13_append_3_0 := by decide +kernel
theorem dksJ13_append_3_1 : cJ13_append_3.data.toList.drop 24 = dktJ13_append_3_1 := dk_seg dksJ13_append_3_0 24 rfl rfl
theorem dksJ13_append_3_2 : cJ13_append_3.data.toList.drop 46 = dktJ13_append_3_2 := dk_seg dksJ13_append_3_1 22 rfl rfl
theorem dksJ13_append_3_3 : cJ13_append_3.data.toList.drop 68 = dktJ13_append_3_3 := dk_seg dksJ13_append_3_2 22 rfl rfl
theorem dJ13_append_3_0 : decode cJ13_append_3 0 = .ok (.aload_n 0, 1) := dk_42 (dk_at dksJ13_append_3_0 0 rfl rfl)
theorem dJ13_append_3_1 : decode cJ13_append_3 1 = .ok (.aload_n 0, 1) := dk_42 (dk_at dksJ13_append_3_0 1 rfl rfl)
theorem dJ13_append_3_2 : decode cJ13_append_3 2 = .ok (.getfield 79, 3) := dk_180 0 79 (dk_at dksJ13_append_3_0 2 rfl rfl)
theorem dJ13_append_3_5 : decode cJ13_append_3 5 = .ok (.iconst 1, 1) := dk_4 (dk_at dksJ13_append_3_0 5 rfl rfl)
theorem dJ13_append_3_6 : decode cJ13_append_3 6 = .ok (.iadd, 1) := dk_96 (dk_at dksJ13_append_3_0 6 rfl rfl)
theorem dJ13_append_3_7 : decode cJ13_append_3 7 = .ok (.invokevirtual 100, 3) := dk_182 0 100 (dk_at dksJ13_append_3_0 7 rfl rfl)
theorem dJ13_append_3_10 : decode cJ13_append_3 10 = .ok (.aload_n 0, 1) := dk_42 (dk_at dksJ13_append_3_0 10 rfl rfl)
theorem dJ13_append_3_11 : decode cJ13_append_3 11 = .ok (.invokevirtual 83, 3) := dk_182 0 83 (dk_at dksJ13_append_3_0 11 rfl rfl)
theorem dJ13_append_3_14 : decode cJ13_append_3 14 = .ok (.ifCond .eq 31, 3) := dk_153 0 31 (dk_at dksJ13_append_3_0 14 rfl rfl)
theorem dJ13_append_3_17 : decode cJ13_append_3 17 = .ok (.iload_n 1, 1) := dk_27 (dk_at dksJ13_append_3_0 17 rfl rfl)
theorem dJ13_append_3_18 : decode cJ13_append_3 18 = .ok (.invokestatic 191, 3) := dk_184 0 191 (dk_at dksJ13_append_3_0 18 rfl rfl)
theorem dJ13_append_3_21 : decode cJ13_append_3 21 = .ok (.ifCond .eq 24, 3) := dk_153 0 24 (dk_at dksJ13_append_3_0 21 rfl rfl)
theorem dJ13_append_3_24 : decode cJ13_append_3 24 = .ok (.aload_n 0, 1) := dk_42 (dk_at dksJ13_append_3_1 0 rfl rfl)
theorem dJ13_append_3_25 : decode cJ13_append_3 25 = .ok (.getfield 15, 3) := dk_180 0 15 (dk_at dksJ13_append_3_1 1 rfl rfl)
theorem dJ13_append_3_28 : decode cJ13_append_3 28 = .ok (.aload_n 0, 1) := dk_42 (dk_at dksJ13_append_3_1 4 rfl rfl)
theorem dJ13_append_3_29 : decode cJ13_append_3 29 = .ok (.dup, 1) := dk_89 (dk_at dksJ13_append_3_1 5 rfl rfl)
theorem dJ13_append_3_30 : decode cJ13_append_3 30 = .ok (.getfield 79, 3) := dk_180 0 79 (dk_at dksJ13_append_3_1 6 rfl rfl)
theorem dJ13_append_3_33 : decode cJ13_append_3 33 = .ok (.dup_x1, 1) := dk_90 (dk_at dksJ13_append_3_1 9 rfl rfl)
theorem dJ13_append_3_34 : decode cJ13_append_3 34 = .ok (.iconst 1, 1) := dk_4 (dk_at dksJ13_append_3_1 10 rfl rfl)
theorem dJ13_append_3_35 : decode cJ13_append_3 35 = .ok (.iadd, 1) := dk_96 (dk_at dksJ13_append_3_1 11 rfl rfl)
theorem dJ13_append_3_36 : decode cJ13_append_3 36 = .ok (.putfield 79, 3) := dk_181 0 79 (dk_at dksJ13_append_3_1 12 rfl rfl)
theorem dJ13_append_3_39 : decode cJ13_append_3 39 = .ok (.iload_n 1, 1) := dk_27 (dk_at dksJ13_append_3_1 15 rfl rfl)
theorem dJ13_append_3_40 : decode cJ13_append_3 40 = .ok (.i2b, 1) := dk_145 (dk_at dksJ13_append_3_1 16 rfl rfl)
theorem dJ13_append_3_41 : decode cJ13_append_3 41 = .ok (.bastore, 1) := dk_84 (dk_at dksJ13_append_3_1 17 rfl rfl)
theorem dJ13_append_3_42 : decode cJ13_append_3 42 = .ok (.goto 33, 3) := dk_167 0 33 (dk_at dksJ13_append_3_1 18 rfl rfl)
theorem dJ13_append_3_45 : decode cJ13_append_3 45 = .ok (.aload_n 0, 1) := dk_42 (dk_at dksJ13_append_3_1 21 rfl rfl)
theorem dJ13_append_3_46 : decode cJ13_append_3 46 = .ok (.invokevirtual 83, 3) := dk_182 0 83 (dk_at dksJ13_append_3_2 0 rfl rfl)
theorem dJ13_append_3_49 : decode cJ13_append_3 49 = .ok (.ifCond .eq 7, 3) := dk_153 0 7 (dk_at dksJ13_append_3_2 3 rfl rfl)
theorem dJ13_append_3_52 : decode cJ13_append_3 52 = .ok (.aload_n 0, 1) := dk_42 (dk_at dksJ13_append_3_2 6 rfl rfl)
theorem dJ13_append_3_53 : decode cJ13_append_3 53 = .ok (.invokevirtual 195, 3) := dk_182 0 195 (dk_at dksJ13_append_3_2 7 rfl rfl)
theorem dJ13_append_3_56 : decode cJ13_append_3 56 = .ok (.aload_n 0, 1) := dk_42 (dk_at dksJ13_append_3_2 10 rfl rfl)
theorem dJ13_append_3_57 : decode cJ13_append_3 57 = .ok (.getfield 15, 3) := dk_180 0 15 (dk_at dksJ13_append_3_2 11 rfl rfl)
theorem dJ13_append_3_60 : decode cJ13_append_3 60 = .ok (.aload_n 0, 1) := dk_42 (dk_at dksJ13_append_3_2 14 rfl rfl)
theorem dJ13_append_3_61 : decode cJ13_append_3 61 = .ok (.dup, 1) := dk_89 (dk_at dksJ13_append_3_2 15 rfl rfl)
theorem dJ13_append_3_62 : decode cJ13_append_3 62 = .ok (.getfield 79, 3) := dk_180 0 79 (dk_at dksJ13_append_3_2 16 rfl rfl)
theorem dJ13_append_3_65 : decode cJ13_append_3 65 = .ok (.dup_x1, 1) := dk_90 (dk_at dksJ13_append_3_2 19 rfl rfl)
theorem dJ13_append_3_66 : decode cJ13_append_3 66 = .ok (.iconst 1, 1) := dk_4 (dk_at dksJ13_append_3_2 20 rfl rfl)
theorem dJ13_append_3_67 : decode cJ13_append_3 67 = .ok (.iadd, 1) := dk_96 (dk_at dksJ13_append_3_2 21 rfl rfl)
theorem dJ13_append_3_68 : decode cJ13_append_3 68 = .ok (.putfield 79, 3) := dk_181 0 79 (dk_at dksJ13_append_3_3 0 rfl rfl)
theorem dJ13_append_3_71 : decode cJ13_append_3 71 = .ok (.iload_n 1, 1) := dk_27 (dk_at dksJ13_append_3_3 3 rfl rfl)
theorem dJ13_append_3_72 : decode cJ13_append_3 72 = .ok (.invokestatic 197, 3) := dk_184 0 197 (dk_at dksJ13_append_3_3 4 rfl rfl)
theorem dJ13_append_3_75 : decode cJ13_append_3 75 = .ok (.aload_n 0, 1) := dk_42 (dk_at dksJ13_append_3_3 7 rfl rfl)
theorem dJ13_append_3_76 : decode cJ13_append_3 76 = .ok (.areturn, 1) := dk_176 (dk_at dksJ13_append_3_3 8 rfl rfl)
abbrev cJ13_charAt : ByteArray := prog_14_method_14_code
def yJ13_charAt : MethodName := ⟨RJ13, "charAt", "(I)C"⟩
def dkwJ13_charAt_1 : List UInt8 := [21, 4, 184, 0, 144, 28, 154, 0, 12, 45, 27, 51, 17, 0, 255, 126, 146, 172, 45, 27, 184, 0, 148, 172]
abbrev dktJ13_charAt_1 : List UInt8 := dkwJ13_charAt_1 ++ []
def dkwJ13_charAt_0 : List UInt8 := [42, 180, 0, 22, 61, 42, 180, 0, 15, 78, 42, 180, 0, 79, 45, 190, 28, 122, 184, 0, 138, 54, 4, 27]
abbrev dktJ13_charAt_0 : List UInt8 := dkwJ13_charAt_0 ++ dktJ13_charAt_1
theorem dksJ13_charAt_0 : cJ13_charAt.data.toList.drop 0 = dktJ13_charAt_0 := by decide +kernel
theorem dksJ13_charAt_1 : cJ13_charAt.data.toList.drop 24 = dktJ13_charAt_1 := dk_seg dksJ13_charAt_0 24 rfl rfl
theorem dJ13_charAt_0 : decode cJ13_charAt 0 = .ok (.aload_n 0, 1) := dk_42 (dk_at dksJ13_charAt_0 0 rfl rfl)
theorem dJ13_charAt_1 : decode cJ13_charAt 1 = .ok (.getfield 22, 3) := dk_180 0 22 (dk_at dksJ13_charAt_0 1 rfl rfl)
theorem dJ13_charAt_4 : decode cJ13_charAt 4 = .ok (.istore_n 2, 1) := dk_61 (dk_at dksJ13_charAt_0 4 rfl rfl)
theorem dJ13_charAt_5 : decode cJ13_charAt 5 = .ok (.aload_n 0, 1) := dk_42 (dk_at dksJ13_charAt_0 5 rfl rfl)
theorem dJ13_charAt_6 : decode cJ13_charAt 6 = .ok (.getfield 15, 3) := dk_180 0 15 (dk_at dksJ13_charAt_0 6 rfl rfl)
theorem dJ13_charAt_9 : decode cJ13_charAt 9 = .ok (.astore_n 3, 1) := dk_78 (dk_at dksJ13_charAt_0 9 rfl rfl)
theorem dJ13_charAt_10 : decode cJ13_charAt 10 = .ok (.aload_n 0, 1) := dk_42 (dk_at dksJ13_charAt_0 10 rfl rfl)
theorem dJ13_charAt_11 : decode cJ13_charAt 11 = .ok (.getfield 79, 3) := dk_180 0 79 (dk_at dksJ13_charAt_0 11 rfl rfl)
theorem dJ13_charAt_14 : decode cJ13_charAt 14 = .ok (.aload_n 3, 1) := dk_45 (dk_at dksJ13_charAt_0 14 rfl rfl)
theorem dJ13_charAt_15 : decode cJ13_charAt 15 = .ok (.arraylength, 1) := dk_190 (dk_at dksJ13_charAt_0 15 rfl rfl)
theorem dJ13_charAt_16 : decode cJ13_charAt 16 = .ok (.iload_n 2, 1) := dk_28 (dk_at dksJ13_charAt_0 16 rfl rfl)
theorem dJ13_charAt_17 : decode cJ13_charAt 17 = .ok (.ishr, 1) := dk_122 (dk_at dksJ13_charAt_0 17 rfl rfl)
theorem dJ13_charAt_18 : decode cJ13_charAt 18 = .ok (.invokestatic 138, 3) := dk_184 0 138 (dk_at dksJ13_charAt_0 18 rfl rfl)
theorem dJ13_charAt_21 : decode cJ13_charAt 21 = .ok (.istore 4, 2) := dk_54 4 (dk_at dksJ13_charAt_0 21 rfl rfl)
theorem dJ13_charAt_23 : decode cJ13_charAt 23 = .ok (.iload_n 1, 1) := dk_27 (dk_at dksJ13_charAt_0 23 rfl rfl)
theorem dJ13_charAt_24 : decode cJ13_charAt 24 = .ok (.iload 4, 2) := dk_21 4 (dk_at dksJ13_charAt_1 0 rfl rfl)
theorem dJ13_charAt_26 : decode cJ13_charAt 26 = .ok (.invokestatic 144, 3) := dk_184 0 144 (dk_at dksJ13_charAt_1 2 rfl rfl)
theorem dJ13_charAt_29 : decode cJ13_charAt 29 = .ok (.iload_n 2, 1) := dk_28 (dk_at dksJ13_charAt_1 5 rfl rfl)
theorem dJ13_charAt_30 : decode cJ13_charAt 30 = .ok (.ifCond .ne 12, 3) := dk_154 0 12 (dk_at dksJ13_charAt_1 6 rfl rfl)
theorem dJ13_charAt_33 : decode cJ13_charAt 33 = .ok (.aload_n 3, 1) := dk_45 (dk_at dksJ13_charAt_1 9 rfl rfl)
theorem dJ13_charAt_34 : decode cJ13_charAt 34 = .ok (.iload_n 1, 1) := dk_27 (dk_at dksJ13_charAt_1 10 rfl rfl)
theorem dJ13_charAt_35 : decode cJ13_charAt 35 = .ok (.baload, 1) := dk_51 (dk_at dksJ13_charAt_1 11 rfl rfl)
theorem dJ13_charAt_36 : decode cJ13_charAt 36 = .ok (.sipush 255, 3) := dk_17 0 255 (dk_at dksJ13_charAt_1 12 rfl rfl)
theorem dJ13_charAt_39 : decode cJ13_charAt 39 = .ok (.iand, 1) := dk_126 (dk_at dksJ13_charAt_1 15 rfl rfl)
theorem dJ13_charAt_40 : decode cJ13_charAt 40 = .ok (.i2c, 1) := dk_146 (dk_at dksJ13_charAt_1 16 rfl rfl)
theorem dJ13_charAt_41 : decode cJ13_charAt 41 = .ok (.ireturn, 1) := dk_172 (dk_at dksJ13_charAt_1 17 rfl rfl)
theorem dJ13_charAt_42 : decode cJ13_charAt 42 = .ok (.aload_n 3, 1) := dk_45 (dk_at dksJ13_charAt_1 18 rfl rfl)
theorem dJ13_charAt_43 : decode cJ13_charAt 43 = .ok (.iload_n 1, 1) := dk_27 (dk_at dksJ13_charAt_1 19 rfl rfl)
theorem dJ13_charAt_44 : decode cJ13_charAt 44 = .ok (.invokestatic 148, 3) := dk_184 0 148 (dk_at dksJ13_charAt_1 20 rfl rfl)
theorem dJ13_charAt_47 : decode cJ13_charAt 47 = .ok (.ireturn, 1) := dk_172 (dk_at dksJ13_charAt_1 23 rfl rfl)
theorem q131 : (Jvm.Cond.initialized "java/lang/AbstractStringBuilder") ∈ lw_all := lw_g (lw_at lw_m1 17 rfl) rfl
theorem q434 : (Jvm.Cond.instanceMethod ({ cls := "java/lang/AbstractStringBuilder", name := "<init>", desc := "(I)V" } : Jvm.MethodName)) ∈ lw_all := lw_g (lw_at lw_m2 80 rfl) rfl
theorem q435 : (Jvm.Cond.code ({ cls := "java/lang/AbstractStringBuilder", name := "<init>", desc := "(I)V" } : Jvm.MethodName) prog_14_method_2_code (2 : Nat) (Option.none : Option Jvm.ClassFile.FieldType)) ∈ lw_all := lw_g (lw_at lw_m2 81 rfl) rfl
theorem q436 : (Jvm.Cond.methodLink "java/lang/AbstractStringBuilder" (3 : Nat) ({ cls := "java/lang/Object", name := "<init>", desc := "()V" } : Jvm.MethodName)) ∈ lw_all := lw_g (lw_at lw_m2 82 rfl) rfl
theorem q437 : (Jvm.Cond.fieldLink "java/lang/AbstractStringBuilder" (18 : Nat) "java/lang/String" "COMPACT_STRINGS" "Z") ∈ lw_all := lw_g (lw_at lw_m2 83 rfl) rfl
theorem q439 : (Jvm.Cond.methodLink "java/lang/AbstractStringBuilder" (26 : Nat) ({ cls := "java/lang/StringUTF16", name := "newBytesFor", desc := "(I)[B" } : Jvm.MethodName)) ∈ lw_all := lw_g (lw_at lw_m2 85 rfl) rfl
theorem q446 : (Jvm.Cond.fieldLink "java/lang/AbstractStringBuilder" (15 : Nat) "java/lang/AbstractStringBuilder" "value" "[B") ∈ lw_all := lw_g (lw_at lw_m2 92 rfl) rfl
theorem q447 : (Jvm.Cond.fieldLink "java/lang/AbstractStringBuilder" (22 : Nat) "java/lang/AbstractStringBuilder" "coder" "B") ∈ lw_all := lw_g (lw_at lw_m2 93 rfl) rfl
theorem q448 : (Jvm.Cond.fieldLink "java/lang/AbstractStringBuilder" (73 : Nat) "java/lang/AbstractStringBuilder" "maybeLatin1" "Z") ∈ lw_all := lw_g (lw_at lw_m2 94 rfl) rfl
theorem q450 : (Jvm.Cond.fieldLink "java/lang/AbstractStringBuilder" (79 : Nat) "java/lang/AbstractStringBuilder" "count" "I") ∈ lw_all := lw_g (lw_at lw_m2 96 rfl) rfl
theorem q452 : (Jvm.Cond.soleField "java/lang/AbstractStringBuilder" "value") ∈ lw_all := lw_g (lw_at lw_m2 98 rfl) rfl
theorem q454 : (Jvm.Cond.soleField "java/lang/AbstractStringBuilder" "coder") ∈ lw_all := lw_g (lw_at lw_m2 100 rfl) rfl
theorem q456 : (Jvm.Cond.soleField "java/lang/AbstractStringBuilder" "maybeLatin1") ∈ lw_all := lw_g (lw_at lw_m2 102 rfl) rfl
theorem q458 : (Jvm.Cond.soleField "java/lang/AbstractStringBuilder" "count") ∈ lw_all := lw_g (lw_at lw_m2 104 rfl) rfl
theorem q467 : (Jvm.Cond.instanceMethod ({ cls := "java/lang/AbstractStringBuilder", name := "append", desc := "(Ljava/lang/String;)Ljava/lang/AbstractStringBuilder;" } : Jvm.MethodName)) ∈ lw_all := lw_g (lw_at lw_m2 113 rfl) rfl
theorem q468 : (Jvm.Cond.code ({ cls := "java/lang/AbstractStringBuilder", name := "append", desc := "(Ljava/lang/String;)Ljava/lang/AbstractStringBuilder;" } : Jvm.MethodName) prog_14_method_22_code (3 : Nat) (Option.some (Jvm.ClassFile.FieldType.object "java/lang/AbstractStringBuilder"))) ∈ lw_all := lw_g (lw_at lw_m2 114 rfl) rfl
theorem q469 : (Jvm.Cond.methodLink "java/lang/AbstractStringBuilder" (204 : Nat) ({ cls := "java/lang/AbstractStringBuilder", name := "appendNull", desc := "()Ljava/lang/AbstractStringBuilder;" } : Jvm.MethodName)) ∈ lw_all := lw_g (lw_at lw_m2 115 rfl) rfl
theorem q470 : (Jvm.Cond.privateMethod ({ cls := "java/lang/AbstractStringBuilder", name := "appendNull", desc := "()Ljava/lang/AbstractStringBuilder;" } : Jvm.MethodName)) ∈ lw_tbl := lw_at lw_m2 116 rfl
theorem q471 : (Jvm.Cond.instanceMethod ({ cls := "java/lang/AbstractStringBuilder", name := "appendNull", desc := "()Ljava/lang/AbstractStringBuilder;" } : Jvm.MethodName)) ∈ lw_all := lw_g (lw_at lw_m2 117 rfl) rfl
theorem q472 : (Jvm.Cond.code ({ cls := "java/lang/AbstractStringBuilder", name := "appendNull", desc := "()Ljava/lang/AbstractStringBuilder;" } : Jvm.MethodName) prog_14_method_26_code (3 : Nat) (Option.some (Jvm.ClassFile.FieldType.object "java/lang/AbstractStringBuilder"))) ∈ lw_all := lw_g (lw_at lw_m2 118 rfl) rfl
theorem q473 : (Jvm.Cond.methodLink "java/lang/AbstractStringBuilder" (100 : Nat) ({ cls := "java/lang/AbstractStringBuilder", name := "ensureCapacityInternal", desc := "(I)V" } : Jvm.MethodName)) ∈ lw_all := lw_g (lw_at lw_m2 119 rfl) rfl
theorem q474 : (Jvm.Cond.privateMethod ({ cls := "java/lang/AbstractStringBuilder", name := "ensureCapacityInternal", desc := "(I)V" } : Jvm.MethodName)) ∈ lw_tbl := lw_at lw_m2 120 rfl
theorem q475 : (Jvm.Cond.instanceMethod ({ cls := "java/lang/AbstractStringBuilder", name := "ensureCapacityInternal", desc := "(I)V" } : Jvm.MethodName)) ∈ lw_all := lw_g (lw_at lw_m2 121 rfl) rfl
theorem q476 : (Jvm.Cond.code ({ cls := "java/lang/AbstractStringBuilder", name := "ensureCapacityInternal", desc := "(I)V" } : Jvm.MethodName) prog_14_method_9_code (3 : Nat) (Option.none : Option Jvm.ClassFile.FieldType)) ∈ lw_all := lw_g (lw_at lw_m2 122 rfl) rfl
theorem q477 : (Jvm.Cond.methodLink "java/lang/AbstractStringBuilder" (104 : Nat) ({ cls := "java/lang/AbstractStringBuilder", name := "newCapacity", desc := "(I)I" } : Jvm.MethodName)) ∈ lw_all := lw_g (lw_at lw_m2 123 rfl) rfl
theorem q478 : (Jvm.Cond.privateMethod ({ cls := "java/lang/AbstractStringBuilder", name := "newCapacity", desc := "(I)I" } : Jvm.MethodName)) ∈ lw_tbl := lw_at lw_m2 124 rfl
theorem q479 : (Jvm.Cond.instanceMethod ({ cls := "java/lang/AbstractStringBuilder", name := "newCapacity", desc := "(I)I" } : Jvm.MethodName)) ∈ lw_all := lw_g (lw_at lw_m2 125 rfl) rfl
theorem q480 : (Jvm.Cond.code ({ cls := "java/lang/AbstractStringBuilder", name := "newCapacity", desc := "(I)I" } : Jvm.MethodName) prog_14_method_10_code (6 : Nat) (Option.some Jvm.ClassFile.FieldType.int)) ∈ lw_all := lw_g (lw_at lw_m2 126 rfl) rfl
theorem q481 : (Jvm.Cond.methodLink "java/lang/AbstractStringBuilder" (114 : Nat) ({ cls := "jdk/internal/util/ArraysSupport", name := "newLength", desc := "(III)I" } : Jvm.MethodName)) ∈ lw_all := lw_g (lw_at lw_m2 127 rfl) rfl
theorem q491 : (Jvm.Cond.constant "java/lang/AbstractStringBuilder" (39 : Nat) (2147483647 : Int32)) ∈ lw_all := lw_g (lw_at lw_m2 137 rfl) rfl
theorem q492 : (Jvm.Cond.methodLink "java/lang/AbstractStringBuilder" (108 : Nat) ({ cls := "java/util/Arrays", name := "copyOf", desc := "([BI)[B" } : Jvm.MethodName)) ∈ lw_all := lw_g (lw_at lw_m2 138 rfl) rfl
theorem q508 : (Jvm.Cond.methodLink "java/lang/AbstractStringBuilder" (83 : Nat) ({ cls := "java/lang/AbstractStringBuilder", name := "isLatin1", desc := "()Z" } : Jvm.MethodName)) ∈ lw_all := lw_g (lw_at lw_m2 154 rfl) rfl
theorem q509 : (Jvm.Cond.instanceMethod ({ cls := "java/lang/AbstractStringBuilder", name := "isLatin1", desc := "()Z" } : Jvm.MethodName)) ∈ lw_all := lw_g (lw_at lw_m2 155 rfl) rfl
theorem q510 : (Jvm.Cond.sameMethod "java/lang/AbstractStringBuilder" "java/lang/AbstractStringBuilder" "isLatin1" "()Z") ∈ lw_all := lw_g (lw_at lw_m2 156 rfl) rfl
theorem q512 : (Jvm.Cond.code ({ cls := "java/lang/AbstractStringBuilder", name := "isLatin1", desc := "()Z" } : Jvm.MethodName) prog_14_method_68_code (1 : Nat) (Option.some Jvm.ClassFile.FieldType.boolean)) ∈ lw_all := lw_g (lw_at lw_m2 158 rfl) rfl
theorem q513 : (Jvm.Cond.methodLink "java/lang/AbstractStringBuilder" (226 : Nat) ({ cls := "java/lang/StringUTF16", name := "putCharsAt", desc := "([BICCCC)I" } : Jvm.MethodName)) ∈ lw_all := lw_g (lw_at lw_m2 159 rfl) rfl
theorem q539 : (Jvm.Cond.methodLink "java/lang/AbstractStringBuilder" (32 : Nat) ({ cls := "java/lang/String", name := "length", desc := "()I" } : Jvm.MethodName)) ∈ lw_all := lw_g (lw_at lw_m2 185 rfl) rfl
theorem q548 : (Jvm.Cond.methodLink "java/lang/AbstractStringBuilder" (208 : Nat) ({ cls := "java/lang/AbstractStringBuilder", name := "putStringAt", desc := "(ILjava/lang/String;)V" } : Jvm.MethodName)) ∈ lw_all := lw_g (lw_at lw_m2 194 rfl) rfl
theorem q549 : (Jvm.Cond.privateMethod ({ cls := "java/lang/AbstractStringBuilder", name := "putStringAt", desc := "(ILjava/lang/String;)V" } : Jvm.MethodName)) ∈ lw_tbl := lw_at lw_m2 195 rfl
theorem q550 : (Jvm.Cond.instanceMethod ({ cls := "java/lang/AbstractStringBuilder", name := "putStringAt", desc := "(ILjava/lang/String;)V" } : Jvm.MethodName)) ∈ lw_all := lw_g (lw_at lw_m2 196 rfl) rfl
theorem q551 : (Jvm.Cond.code ({ cls := "java/lang/AbstractStringBuilder", name := "putStringAt", desc := "(ILjava/lang/String;)V" } : Jvm.MethodName) prog_14_method_73_code (3 : Nat) (Option.none : Option Jvm.ClassFile.FieldType)) ∈ lw_all := lw_g (lw_at lw_m2 197 rfl) rfl
theorem q552 : (Jvm.Cond.methodLink "java/lang/AbstractStringBuilder" (397 : Nat) ({ cls := "java/lang/AbstractStringBuilder", name := "inflateIfNeededFor", desc := "(Ljava/lang/String;)V" } : Jvm.MethodName)) ∈ lw_all := lw_g (lw_at lw_m2 198 rfl) rfl
theorem q553 : (Jvm.Cond.privateMethod ({ cls := "java/lang/AbstractStringBuilder", name := "inflateIfNeededFor", desc := "(Ljava/lang/String;)V" } : Jvm.MethodName)) ∈ lw_tbl := lw_at lw_m2 199 rfl
theorem q554 : (Jvm.Cond.instanceMethod ({ cls := "java/lang/AbstractStringBuilder", name := "inflateIfNeededFor", desc := "(Ljava/lang/String;)V" } : Jvm.MethodName)) ∈ lw_all := lw_g (lw_at lw_m2 200 rfl) rfl
theorem q555 : (Jvm.Cond.code ({ cls := "java/lang/AbstractStringBuilder", name := "inflateIfNeededFor", desc := "(Ljava/lang/String;)V" } : Jvm.MethodName) prog_14_method_71_code (2 : Nat) (Option.none : Option Jvm.ClassFile.FieldType)) ∈ lw_all := lw_g (lw_at lw_m2 201 rfl) rfl
theorem q556 : (Jvm.Cond.methodLink "java/lang/AbstractStringBuilder" (40 : Nat) ({ cls := "java/lang/String", name := "coder", desc := "()B" } : Jvm.MethodName)) ∈ lw_all := lw_g (lw_at lw_m2 202 rfl) rfl
theorem q557 : (Jvm.Cond.methodLink "java/lang/AbstractStringBuilder" (195 : Nat) ({ cls := "java/lang/AbstractStringBuilder", name := "inflate", desc := "()V" } : Jvm.MethodName)) ∈ lw_all := lw_g (lw_at lw_m2 203 rfl) rfl
theorem q558 : (Jvm.Cond.privateMethod ({ cls := "java/lang/AbstractStringBuilder", name := "inflate", desc := "()V" } : Jvm.MethodName)) ∈ lw_tbl := lw_at lw_m2 204 rfl
theorem q559 : (Jvm.Cond.instanceMethod ({ cls := "java/lang/AbstractStringBuilder", name := "inflate", desc := "()V" } : Jvm.MethodName)) ∈ lw_all := lw_g (lw_at lw_m2 205 rfl) rfl
theorem q560 : (Jvm.Cond.code ({ cls := "java/lang/AbstractStringBuilder", name := "inflate", desc := "()V" } : Jvm.MethodName) prog_14_method_11_code (2 : Nat) (Option.none : Option Jvm.ClassFile.FieldType)) ∈ lw_all := lw_g (lw_at lw_m2 206 rfl) rfl
theorem q561 : (Jvm.Cond.methodLink "java/lang/AbstractStringBuilder" (125 : Nat) ({ cls := "java/lang/StringLatin1", name := "inflate", desc := "([BI[BII)V" } : Jvm.MethodName)) ∈ lw_all := lw_g (lw_at lw_m2 207 rfl) rfl
theorem q576 : (Jvm.Cond.methodLink "java/lang/AbstractStringBuilder" (399 : Nat) ({ cls := "java/lang/String", name := "getBytes", desc := "([BIB)V" } : Jvm.MethodName)) ∈ lw_all := lw_g (lw_at lw_m2 222 rfl) rfl
theorem q587 : (Jvm.Cond.instanceMethod ({ cls := "java/lang/AbstractStringBuilder", name := "append", desc := "(I)Ljava/lang/AbstractStringBuilder;" } : Jvm.MethodName)) ∈ lw_all := lw_g (lw_at lw_m2 233 rfl) rfl
theorem q588 : (Jvm.Cond.code ({ cls := "java/lang/AbstractStringBuilder", name := "append", desc := "(I)Ljava/lang/AbstractStringBuilder;" } : Jvm.MethodName) prog_14_method_32_code (4 : Nat) (Option.some (Jvm.ClassFile.FieldType.object "java/lang/AbstractStringBuilder"))) ∈ lw_all := lw_g (lw_at lw_m2 234 rfl) rfl
theorem q589 : (Jvm.Cond.methodLink "java/lang/AbstractStringBuilder" (245 : Nat) ({ cls := "java/lang/Integer", name := "stringSize", desc := "(I)I" } : Jvm.MethodName)) ∈ lw_all := lw_g (lw_at lw_m2 235 rfl) rfl
theorem q592 : (Jvm.Cond.methodLink "java/lang/AbstractStringBuilder" (248 : Nat) ({ cls := "java/lang/Integer", name := "getChars", desc := "(II[B)I" } : Jvm.MethodName)) ∈ lw_all := lw_g (lw_at lw_m2 238 rfl) rfl
theorem q599 : (Jvm.Cond.methodLink "java/lang/AbstractStringBuilder" (251 : Nat) ({ cls := "java/lang/StringUTF16", name := "getChars", desc := "(III[B)I" } : Jvm.MethodName)) ∈ lw_all := lw_g (lw_at lw_m3 5 rfl) rfl
theorem q622 : (Jvm.Cond.instanceMethod ({ cls := "java/lang/AbstractStringBuilder", name := "getValue", desc := "()[B" } : Jvm.MethodName)) ∈ lw_all := lw_g (lw_at lw_m3 28 rfl) rfl
theorem q623 : (Jvm.Cond.sameMethod "java/lang/AbstractStringBuilder" "java/lang/AbstractStringBuilder" "getValue" "()[B") ∈ lw_all := lw_g (lw_at lw_m3 29 rfl) rfl
theorem q625 : (Jvm.Cond.code ({ cls := "java/lang/AbstractStringBuilder", name := "getValue", desc := "()[B" } : Jvm.MethodName) prog_14_method_64_code (1 : Nat) (Option.some (Jvm.ClassFile.FieldType.array Jvm.ClassFile.FieldType.byte))) ∈ lw_all := lw_g (lw_at lw_m3 31 rfl) rfl
theorem q627 : (Jvm.Cond.instanceMethod ({ cls := "java/lang/AbstractStringBuilder", name := "length", desc := "()I" } : Jvm.MethodName)) ∈ lw_all := lw_g (lw_at lw_m3 33 rfl) rfl
theorem q628 : (Jvm.Cond.sameMethod "java/lang/AbstractStringBuilder" "java/lang/AbstractStringBuilder" "length" "()I") ∈ lw_all := lw_g (lw_at lw_m3 34 rfl) rfl
theorem q633 : (Jvm.Cond.code ({ cls := "java/lang/AbstractStringBuilder", name := "length", desc := "()I" } : Jvm.MethodName) prog_14_method_6_code (1 : Nat) (Option.some Jvm.ClassFile.FieldType.int)) ∈ lw_all := lw_g (lw_at lw_m3 39 rfl) rfl
theorem q1138 : (Jvm.Cond.instanceMethod ({ cls := "java/lang/AbstractStringBuilder", name := "compareTo", desc := "(Ljava/lang/AbstractStringBuilder;)I" } : Jvm.MethodName)) ∈ lw_all := lw_g (lw_at lw_m5 64 rfl) rfl
theorem q1139 : (Jvm.Cond.code ({ cls := "java/lang/AbstractStringBuilder", name := "compareTo", desc := "(Ljava/lang/AbstractStringBuilder;)I" } : Jvm.MethodName) prog_14_method_5_code (6 : Nat) (Option.some Jvm.ClassFile.FieldType.int)) ∈ lw_all := lw_g (lw_at lw_m5 65 rfl) rfl
theorem q1140 : (Jvm.Cond.methodLink "java/lang/AbstractStringBuilder" (87 : Nat) ({ cls := "java/lang/StringLatin1", name := "compareTo", desc := "([B[BII)I" } : Jvm.MethodName)) ∈ lw_all := lw_g (lw_at lw_m5 66 rfl) rfl
theorem q1141 : (Jvm.Cond.methodLink "java/lang/AbstractStringBuilder" (93 : Nat) ({ cls := "java/lang/StringUTF16", name := "compareTo", desc := "([B[BII)I" } : Jvm.MethodName)) ∈ lw_all := lw_g (lw_at lw_m5 67 rfl) rfl
theorem q1150 : (Jvm.Cond.methodLink "java/lang/AbstractStringBuilder" (94 : Nat) ({ cls := "java/lang/StringLatin1", name := "compareToUTF16", desc := "([B[BII)I" } : Jvm.MethodName)) ∈ lw_all := lw_g (lw_at lw_m5 76 rfl) rfl
theorem q1154 : (Jvm.Cond.methodLink "java/lang/AbstractStringBuilder" (97 : Nat) ({ cls := "java/lang/StringUTF16", name := "compareToLatin1", desc := "([B[BII)I" } : Jvm.MethodName)) ∈ lw_all := lw_g (lw_at lw_m5 80 rfl) rfl
theorem q1470 : (Jvm.Cond.instanceMethod ({ cls := "java/lang/AbstractStringBuilder", name := "setLength", desc := "(I)V" } : Jvm.MethodName)) ∈ lw_all := lw_g (lw_at lw_m6 156 rfl) rfl
theorem q1471 : (Jvm.Cond.code ({ cls := "java/lang/AbstractStringBuilder", name := "setLength", desc := "(I)V" } : Jvm.MethodName) prog_14_method_13_code (2 : Nat) (Option.none : Option Jvm.ClassFile.FieldType)) ∈ lw_all := lw_g (lw_at lw_m6 157 rfl) rfl
theorem q1472 : (Jvm.Cond.classLink "java/lang/AbstractStringBuilder" (129 : Nat) "java/lang/StringIndexOutOfBoundsException") ∈ lw_all := lw_g (lw_at lw_m6 158 rfl) rfl
theorem q1474 : (Jvm.Cond.methodLink "java/lang/AbstractStringBuilder" (131 : Nat) ({ cls := "java/lang/StringIndexOutOfBoundsException", name := "<init>", desc := "(I)V" } : Jvm.MethodName)) ∈ lw_all := lw_g (lw_at lw_m6 160 rfl) rfl
theorem q1491 : (Jvm.Cond.methodLink "java/lang/AbstractStringBuilder" (133 : Nat) ({ cls := "java/lang/StringLatin1", name := "fillNull", desc := "([BII)V" } : Jvm.MethodName)) ∈ lw_all := lw_g (lw_at lw_m6 177 rfl) rfl
theorem q1526 : (Jvm.Cond.methodLink "java/lang/AbstractStringBuilder" (137 : Nat) ({ cls := "java/lang/StringUTF16", name := "fillNull", desc := "([BII)V" } : Jvm.MethodName)) ∈ lw_all := lw_g (lw_at lw_m6 212 rfl) rfl
theorem q2443 : (Jvm.Cond.instanceMethod ({ cls := "java/lang/AbstractStringBuilder", name := "append", desc := "(C)Ljava/lang/AbstractStringBuilder;" } : Jvm.MethodName)) ∈ lw_all := lw_g (lw_at lw_m10 169 rfl) rfl
theorem q2444 : (Jvm.Cond.code ({ cls := "java/lang/AbstractStringBuilder", name := "append", desc := "(C)Ljava/lang/AbstractStringBuilder;" } : Jvm.MethodName) prog_14_method_31_code (2 : Nat) (Option.some (Jvm.ClassFile.FieldType.object "java/lang/AbstractStringBuilder"))) ∈ lw_all := lw_g (lw_at lw_m10 170 rfl) rfl
theorem q2445 : (Jvm.Cond.methodLink "java/lang/AbstractStringBuilder" (191 : Nat) ({ cls := "java/lang/StringLatin1", name := "canEncode", desc := "(C)Z" } : Jvm.MethodName)) ∈ lw_all := lw_g (lw_at lw_m10 171 rfl) rfl
theorem q2448 : (Jvm.Cond.methodLink "java/lang/AbstractStringBuilder" (197 : Nat) ({ cls := "java/lang/StringUTF16", name := "putCharSB", desc := "([BII)V" } : Jvm.MethodName)) ∈ lw_all := lw_g (lw_at lw_m10 174 rfl) rfl
theorem q2552 : (Jvm.Cond.instanceMethod ({ cls := "java/lang/AbstractStringBuilder", name := "charAt", desc := "(I)C" } : Jvm.MethodName)) ∈ lw_all := lw_g (lw_at lw_m11 38 rfl) rfl
theorem q2553 : (Jvm.Cond.code ({ cls := "java/lang/AbstractStringBuilder", name := "charAt", desc := "(I)C" } : Jvm.MethodName) prog_14_method_14_code (5 : Nat) (Option.some Jvm.ClassFile.FieldType.char)) ∈ lw_all := lw_g (lw_at lw_m11 39 rfl) rfl
theorem q2554 : (Jvm.Cond.methodLink "java/lang/AbstractStringBuilder" (138 : Nat) ({ cls := "java/lang/Math", name := "min", desc := "(II)I" } : Jvm.MethodName)) ∈ lw_all := lw_g (lw_at lw_m11 40 rfl) rfl
theorem q2555 : (Jvm.Cond.methodLink "java/lang/AbstractStringBuilder" (144 : Nat) ({ cls := "java/lang/String", name := "checkIndex", desc := "(II)V" } : Jvm.MethodName)) ∈ lw_all := lw_g (lw_at lw_m11 41 rfl) rfl
theorem q2556 : (Jvm.Cond.methodLink "java/lang/AbstractStringBuilder" (148 : Nat) ({ cls := "java/lang/StringUTF16", name := "getChar", desc := "([BI)C" } : Jvm.MethodName)) ∈ lw_all := lw_g (lw_at lw_m11 42 rfl) rfl
theorem q3218 : (Jvm.Cond.sameMethod "java/lang/AbstractStringBuilder" "java/lang/AbstractStringBuilder" "append" "(Ljava/lang/String;)Ljava/lang/AbstractStringBuilder;") ∈ lw_all := lw_g (lw_at lw_m13 224 rfl) rfl
theorem q3219 : (Jvm.Cond.sameMethod "java/lang/AbstractStringBuilder" "java/lang/AbstractStringBuilder" "appendNull" "()Ljava/lang/AbstractStringBuilder;") ∈ lw_all := lw_g (lw_at lw_m13 225 rfl) rfl
theorem q3220 : (Jvm.Cond.sameMethod "java/lang/AbstractStringBuilder" "java/lang/AbstractStringBuilder" "ensureCapacityInternal" "(I)V") ∈ lw_all := lw_g (lw_at lw_m13 226 rfl) rfl
theorem q3221 : (Jvm.Cond.sameMethod "java/lang/AbstractStringBuilder" "java/lang/AbstractStringBuilder" "newCapacity" "(I)I") ∈ lw_all := lw_g (lw_at lw_m13 227 rfl) rfl
theorem q3222 : (Jvm.Cond.sameMethod "java/lang/AbstractStringBuilder" "java/lang/AbstractStringBuilder" "putStringAt" "(ILjava/lang/String;)V") ∈ lw_all := lw_g (lw_at lw_m13 228 rfl) rfl
theorem q3223 : (Jvm.Cond.sameMethod "java/lang/AbstractStringBuilder" "java/lang/AbstractStringBuilder" "inflateIfNeededFor" "(Ljava/lang/String;)V") ∈ lw_all := lw_g (lw_at lw_m13 229 rfl) rfl
theorem q3224 : (Jvm.Cond.sameMethod "java/lang/AbstractStringBuilder" "java/lang/AbstractStringBuilder" "inflate" "()V") ∈ lw_all := lw_g (lw_at lw_m13 230 rfl) rfl
theorem q3225 : (Jvm.Cond.sameMethod "java/lang/AbstractStringBuilder" "java/lang/AbstractStringBuilder" "append" "(I)Ljava/lang/AbstractStringBuilder;") ∈ lw_all := lw_g (lw_at lw_m13 231 rfl) rfl
theorem q3226 : (Jvm.Cond.sameMethod "java/lang/AbstractStringBuilder" "java/lang/AbstractStringBuilder" "compareTo" "(Ljava/lang/AbstractStringBuilder;)I") ∈ lw_all := lw_g (lw_at lw_m13 232 rfl) rfl
theorem q3228 : (Jvm.Cond.sameMethod "java/lang/AbstractStringBuilder" "java/lang/AbstractStringBuilder" "setLength" "(I)V") ∈ lw_all := lw_g (lw_at lw_m13 234 rfl) rfl
theorem q3229 : (Jvm.Cond.sameMethod "java/lang/AbstractStringBuilder" "java/lang/AbstractStringBuilder" "append" "(C)Ljava/lang/AbstractStringBuilder;") ∈ lw_all := lw_g (lw_at lw_m13 235 rfl) rfl
theorem q3230 : (Jvm.Cond.sameMethod "java/lang/AbstractStringBuilder" "java/lang/AbstractStringBuilder" "charAt" "(I)C") ∈ lw_all := lw_g (lw_at lw_m13 236 rfl) rfl

/-! java/lang/StringBuilder -/
set_option maxRecDepth 100000
def RJ14 : String := "java/lang/StringBuilder"
def TJ14 : u_T := fun k => match k with
  | 0 => ("java/lang/AbstractStringBuilder", "value", "[B", false)
  | 1 => ("java/lang/AbstractStringBuilder", "coder", "B", false)
  | 2 => ("java/lang/AbstractStringBuilder", "maybeLatin1", "Z", false)
  | _ => ("java/lang/AbstractStringBuilder", "count", "I", false)
def tyJ14 : Nat → FieldType := fun k => match k with
  | 0 => .array .byte
  | 1 => .byte
  | 2 => .boolean
  | _ => .int
abbrev wsJ140 : List Cond := u_ws RJ14 TJ14 4
theorem nmJ14 : ∀ a, a < 4 → ∀ b, b < 4 → a ≠ b → (TJ14 a).2.1 ≠ (TJ14 b).2.1 := by decide +kernel
theorem tyJ14_ok : ∀ k, k < 4 → parseFieldDescriptor (TJ14 k).2.2.1 = some (tyJ14 k) := by decide +kernel
abbrev cJ14_init : ByteArray := prog_33_method_1_code
def yJ14_init : MethodName := ⟨RJ14, "<init>", "()V"⟩
def dkwJ14_init_0 : List UInt8 := [42, 16, 16, 183, 0, 1, 177]
abbrev dktJ14_init_0 : List UInt8 := dkwJ14_init_0 ++ []
theorem dksJ14_init_0 : cJ14_init.data.toList.drop 0 = dktJ14_init_0 := by decide +kernel
theorem dJ14_init_0 : decode cJ14_init 0 = .ok (.aload_n 0, 1) := dk_42 (dk_at dksJ14_init_0 0 rfl rfl)
theorem dJ14_init_1 : decode cJ14_init 1 = .ok (.bipush 16, 2) := dk_16 16 (dk_at dksJ14_init_0 1 rfl rfl)
theorem dJ14_init_3 : decode cJ14_init 3 = .ok (.invokespecial 1, 3) := dk_183 0 1 (dk_at dksJ14_init_0 3 rfl rfl)
theorem dJ14_init_6 : decode cJ14_init 6 = .ok (.return_, 1) := dk_177 (dk_at dksJ14_init_0 6 rfl rfl)
abbrev cJ14_append : ByteArray := prog_33_method_7_code
def yJ14_append : MethodName := ⟨RJ14, "append", "(Ljava/lang/String;)Ljava/lang/StringBuilder;"⟩
def dkwJ14_append_0 : List UInt8 := [42, 43, 183, 0, 29, 87, 42, 176]
abbrev dktJ14_append_0 : List UInt8 := dkwJ14_append_0 ++ []
theorem dksJ14_append_0 : cJ14_append.data.toList.drop 0 = dktJ14_append_0 := by decide +kernel
theorem dJ14_append_0 : decode cJ14_append 0 = .ok (.aload_n 0, 1) := dk_42 (dk_at dksJ14_append_0 0 rfl rfl)
theorem dJ14_append_1 : decode cJ14_append 1 = .ok (.aload_n 1, 1) := dk_43 (dk_at dksJ14_append_0 1 rfl rfl)
theorem dJ14_append_2 : decode cJ14_append 2 = .ok (.invokespecial 29, 3) := dk_183 0 29 (dk_at dksJ14_append_0 2 rfl rfl)
theorem dJ14_append_5 : decode cJ14_append 5 = .ok (.pop, 1) := dk_87 (dk_at dksJ14_append_0 5 rfl rfl)
theorem dJ14_append_6 : decode cJ14_append 6 = .ok (.aload_n 0, 1) := dk_42 (dk_at dksJ14_append_0 6 rfl rfl)
theorem dJ14_append_7 : decode cJ14_append 7 = .ok (.areturn, 1) := dk_176 (dk_at dksJ14_append_0 7 rfl rfl)
abbrev cJ14_append_2 : ByteArray := prog_33_method_15_code
def yJ14_append_2 : MethodName := ⟨RJ14, "append", "(I)Ljava/lang/StringBuilder;"⟩
def dkwJ14_append_2_0 : List UInt8 := [42, 27, 183, 0, 53, 87, 42, 176]
abbrev dktJ14_append_2_0 : List UInt8 := dkwJ14_append_2_0 ++ []
theorem dksJ14_append_2_0 : cJ14_append_2.data.toList.drop 0 = dktJ14_append_2_0 := by decide +kernel
theorem dJ14_append_2_0 : decode cJ14_append_2 0 = .ok (.aload_n 0, 1) := dk_42 (dk_at dksJ14_append_2_0 0 rfl rfl)
theorem dJ14_append_2_1 : decode cJ14_append_2 1 = .ok (.iload_n 1, 1) := dk_27 (dk_at dksJ14_append_2_0 1 rfl rfl)
theorem dJ14_append_2_2 : decode cJ14_append_2 2 = .ok (.invokespecial 53, 3) := dk_183 0 53 (dk_at dksJ14_append_2_0 2 rfl rfl)
theorem dJ14_append_2_5 : decode cJ14_append_2 5 = .ok (.pop, 1) := dk_87 (dk_at dksJ14_append_2_0 5 rfl rfl)
theorem dJ14_append_2_6 : decode cJ14_append_2 6 = .ok (.aload_n 0, 1) := dk_42 (dk_at dksJ14_append_2_0 6 rfl rfl)
theorem dJ14_append_2_7 : decode cJ14_append_2 7 = .ok (.areturn, 1) := dk_176 (dk_at dksJ14_append_2_0 7 rfl rfl)
abbrev cJ14_toString : ByteArray := prog_33_method_42_code
def yJ14_toString : MethodName := ⟨RJ14, "toString", "()Ljava/lang/String;"⟩
def dkwJ14_toString_0 : List UInt8 := [187, 0, 18, 89, 42, 183, 0, 137, 176]
abbrev dktJ14_toString_0 : List UInt8 := dkwJ14_toString_0 ++ []
theorem dksJ14_toString_0 : cJ14_toString.data.toList.drop 0 = dktJ14_toString_0 := by decide +kernel
theorem dJ14_toString_0 : decode cJ14_toString 0 = .ok (.new 18, 3) := dk_187 0 18 (dk_at dksJ14_toString_0 0 rfl rfl)
theorem dJ14_toString_3 : decode cJ14_toString 3 = .ok (.dup, 1) := dk_89 (dk_at dksJ14_toString_0 3 rfl rfl)
theorem dJ14_toString_4 : decode cJ14_toString 4 = .ok (.aload_n 0, 1) := dk_42 (dk_at dksJ14_toString_0 4 rfl rfl)
theorem dJ14_toString_5 : decode cJ14_toString 5 = .ok (.invokespecial 137, 3) := dk_183 0 137 (dk_at dksJ14_toString_0 5 rfl rfl)
theorem dJ14_toString_8 : decode cJ14_toString 8 = .ok (.areturn, 1) := dk_176 (dk_at dksJ14_toString_0 8 rfl rfl)
abbrev cJ14_length : ByteArray := prog_33_method_93_code
def yJ14_length : MethodName := ⟨RJ14, "length", "()I"⟩
theorem dJ14_length_0 : decode cJ14_length 0 = .ok (.aload_n 0, 1) := by decide +kernel
theorem dJ14_length_1 : decode cJ14_length 1 = .ok (.invokespecial 343, 3) := by decide +kernel
theorem dJ14_length_4 : decode cJ14_length 4 = .ok (.ireturn, 1) := by decide +kernel
abbrev cJ14_compareTo : ByteArray := prog_33_method_97_code
def yJ14_compareTo : MethodName := ⟨RJ14, "compareTo", "(Ljava/lang/Object;)I"⟩
def dkwJ14_compareTo_0 : List UInt8 := [42, 43, 192, 0, 24, 182, 1, 90, 172]
abbrev dktJ14_compareTo_0 : List UInt8 := dkwJ14_compareTo_0 ++ []
theorem dksJ14_compareTo_0 : cJ14_compareTo.data.toList.drop 0 = dktJ14_compareTo_0 := by decide +kernel
theorem dJ14_compareTo_0 : decode cJ14_compareTo 0 = .ok (.aload_n 0, 1) := dk_42 (dk_at dksJ14_compareTo_0 0 rfl rfl)
theorem dJ14_compareTo_1 : decode cJ14_compareTo 1 = .ok (.aload_n 1, 1) := dk_43 (dk_at dksJ14_compareTo_0 1 rfl rfl)
theorem dJ14_compareTo_2 : decode cJ14_compareTo 2 = .ok (.checkcast 24, 3) := dk_192 0 24 (dk_at dksJ14_compareTo_0 2 rfl rfl)
theorem dJ14_compareTo_5 : decode cJ14_compareTo 5 = .ok (.invokevirtual 346, 3) := dk_182 1 90 (dk_at dksJ14_compareTo_0 5 rfl rfl)
theorem dJ14_compareTo_8 : decode cJ14_compareTo 8 = .ok (.ireturn, 1) := dk_172 (dk_at dksJ14_compareTo_0 8 rfl rfl)
abbrev cJ14_compareTo_2 : ByteArray := prog_33_method_5_code
def yJ14_compareTo_2 : MethodName := ⟨RJ14, "compareTo", "(Ljava/lang/StringBuilder;)I"⟩
def dkwJ14_compareTo_2_0 : List UInt8 := [42, 43, 183, 0, 13, 172]
abbrev dktJ14_compareTo_2_0 : List UInt8 := dkwJ14_compareTo_2_0 ++ []
theorem dksJ14_compareTo_2_0 : cJ14_compareTo_2.data.toList.drop 0 = dktJ14_compareTo_2_0 := by decide +kernel
theorem dJ14_compareTo_2_0 : decode cJ14_compareTo_2 0 = .ok (.aload_n 0, 1) := dk_42 (dk_at dksJ14_compareTo_2_0 0 rfl rfl)
theorem dJ14_compareTo_2_1 : decode cJ14_compareTo_2 1 = .ok (.aload_n 1, 1) := dk_43 (dk_at dksJ14_compareTo_2_0 1 rfl rfl)
theorem dJ14_compareTo_2_2 : decode cJ14_compareTo_2 2 = .ok (.invokespecial 13, 3) := dk_183 0 13 (dk_at dksJ14_compareTo_2_0 2 rfl rfl)
theorem dJ14_compareTo_2_5 : decode cJ14_compareTo_2 5 = .ok (.ireturn, 1) := dk_172 (dk_at dksJ14_compareTo_2_0 5 rfl rfl)
abbrev cJ14_setLength : ByteArray := prog_33_method_89_code
def yJ14_setLength : MethodName := ⟨RJ14, "setLength", "(I)V"⟩
def dkwJ14_setLength_0 : List UInt8 := [42, 27, 183, 1, 77, 177]
abbrev dktJ14_setLength_0 : List UInt8 := dkwJ14_setLength_0 ++ []
theorem dksJ14_setLength_0 : cJ14_setLength.data.toList.drop 0 = dktJ14_setLength_0 := by decide +kernel
theorem dJ14_setLength_0 : decode cJ14_setLength 0 = .ok (.aload_n 0, 1) := dk_42 (dk_at dksJ14_setLength_0 0 rfl rfl)
theorem dJ14_setLength_1 : decode cJ14_setLength 1 = .ok (.iload_n 1, 1) := dk_27 (dk_at dksJ14_setLength_0 1 rfl rfl)
theorem dJ14_setLength_2 : decode cJ14_setLength 2 = .ok (.invokespecial 333, 3) := dk_183 1 77 (dk_at dksJ14_setLength_0 2 rfl rfl)
theorem dJ14_setLength_5 : decode cJ14_setLength 5 = .ok (.return_, 1) := dk_177 (dk_at dksJ14_setLength_0 5 rfl rfl)
abbrev cJ14_append_3 : ByteArray := prog_33_method_6_code
def yJ14_append_3 : MethodName := ⟨RJ14, "append", "(Ljava/lang/Object;)Ljava/lang/StringBuilder;"⟩
def dkwJ14_append_3_0 : List UInt8 := [42, 43, 184, 0, 17, 182, 0, 23, 176]
abbrev dktJ14_append_3_0 : List UInt8 := dkwJ14_append_3_0 ++ []
theorem dksJ14_append_3_0 : cJ14_append_3.data.toList.drop 0 = dktJ14_append_3_0 := by decide +kernel
theorem dJ14_append_3_0 : decode cJ14_append_3 0 = .ok (.aload_n 0, 1) := dk_42 (dk_at dksJ14_append_3_0 0 rfl rfl)
theorem dJ14_append_3_1 : decode cJ14_append_3 1 = .ok (.aload_n 1, 1) := dk_43 (dk_at dksJ14_append_3_0 1 rfl rfl)
theorem dJ14_append_3_2 : decode cJ14_append_3 2 = .ok (.invokestatic 17, 3) := dk_184 0 17 (dk_at dksJ14_append_3_0 2 rfl rfl)
theorem dJ14_append_3_5 : decode cJ14_append_3 5 = .ok (.invokevirtual 23, 3) := dk_182 0 23 (dk_at dksJ14_append_3_0 5 rfl rfl)
theorem dJ14_append_3_8 : decode cJ14_append_3 8 = .ok (.areturn, 1) := dk_176 (dk_at dksJ14_append_3_0 8 rfl rfl)
abbrev cJ14_append_4 : ByteArray := prog_33_method_14_code
def yJ14_append_4 : MethodName := ⟨RJ14, "append", "(C)Ljava/lang/StringBuilder;"⟩
def dkwJ14_append_4_0 : List UInt8 := [42, 27, 183, 0, 50, 87, 42, 176]
abbrev dktJ14_append_4_0 : List UInt8 := dkwJ14_append_4_0 ++ []
theorem dksJ14_append_4_0 : cJ14_append_4.data.toList.drop 0 = dktJ14_append_4_0 := by decide +kernel
theorem dJ14_append_4_0 : decode cJ14_append_4 0 = .ok (.aload_n 0, 1) := dk_42 (dk_at dksJ14_append_4_0 0 rfl rfl)
theorem dJ14_append_4_1 : decode cJ14_append_4 1 = .ok (.iload_n 1, 1) := dk_27 (dk_at dksJ14_append_4_0 1 rfl rfl)
theorem dJ14_append_4_2 : decode cJ14_append_4 2 = .ok (.invokespecial 50, 3) := dk_183 0 50 (dk_at dksJ14_append_4_0 2 rfl rfl)
theorem dJ14_append_4_5 : decode cJ14_append_4 5 = .ok (.pop, 1) := dk_87 (dk_at dksJ14_append_4_0 5 rfl rfl)
theorem dJ14_append_4_6 : decode cJ14_append_4 6 = .ok (.aload_n 0, 1) := dk_42 (dk_at dksJ14_append_4_0 6 rfl rfl)
theorem dJ14_append_4_7 : decode cJ14_append_4 7 = .ok (.areturn, 1) := dk_176 (dk_at dksJ14_append_4_0 7 rfl rfl)
abbrev cJ14_charAt : ByteArray := prog_33_method_88_code
def yJ14_charAt : MethodName := ⟨RJ14, "charAt", "(I)C"⟩
def dkwJ14_charAt_0 : List UInt8 := [42, 27, 183, 1, 73, 172]
abbrev dktJ14_charAt_0 : List UInt8 := dkwJ14_charAt_0 ++ []
theorem dksJ14_charAt_0 : cJ14_charAt.data.toList.drop 0 = dktJ14_charAt_0 := by decide +kernel
theorem dJ14_charAt_0 : decode cJ14_charAt 0 = .ok (.aload_n 0, 1) := dk_42 (dk_at dksJ14_charAt_0 0 rfl rfl)
theorem dJ14_charAt_1 : decode cJ14_charAt 1 = .ok (.iload_n 1, 1) := dk_27 (dk_at dksJ14_charAt_0 1 rfl rfl)
theorem dJ14_charAt_2 : decode cJ14_charAt 2 = .ok (.invokespecial 329, 3) := dk_183 1 73 (dk_at dksJ14_charAt_0 2 rfl rfl)
theorem dJ14_charAt_5 : decode cJ14_charAt 5 = .ok (.ireturn, 1) := dk_172 (dk_at dksJ14_charAt_0 5 rfl rfl)
theorem q132 : (Jvm.Cond.initialized "java/lang/StringBuilder") ∈ lw_all := lw_g (lw_at lw_m1 18 rfl) rfl
theorem q429 : (Jvm.Cond.instantiable "java/lang/StringBuilder" (4 : Nat)) ∈ lw_all := lw_g (lw_at lw_m2 75 rfl) rfl
theorem q431 : (Jvm.Cond.instanceMethod ({ cls := "java/lang/StringBuilder", name := "<init>", desc := "()V" } : Jvm.MethodName)) ∈ lw_all := lw_g (lw_at lw_m2 77 rfl) rfl
theorem q432 : (Jvm.Cond.code ({ cls := "java/lang/StringBuilder", name := "<init>", desc := "()V" } : Jvm.MethodName) prog_33_method_1_code (1 : Nat) (Option.none : Option Jvm.ClassFile.FieldType)) ∈ lw_all := lw_g (lw_at lw_m2 78 rfl) rfl
theorem q433 : (Jvm.Cond.methodLink "java/lang/StringBuilder" (1 : Nat) ({ cls := "java/lang/AbstractStringBuilder", name := "<init>", desc := "(I)V" } : Jvm.MethodName)) ∈ lw_all := lw_g (lw_at lw_m2 79 rfl) rfl
theorem q451 : (Jvm.Cond.lays "java/lang/StringBuilder" "java/lang/AbstractStringBuilder" "value" "[B") ∈ lw_all := lw_g (lw_at lw_m2 97 rfl) rfl
theorem q453 : (Jvm.Cond.lays "java/lang/StringBuilder" "java/lang/AbstractStringBuilder" "coder" "B") ∈ lw_all := lw_g (lw_at lw_m2 99 rfl) rfl
theorem q455 : (Jvm.Cond.lays "java/lang/StringBuilder" "java/lang/AbstractStringBuilder" "maybeLatin1" "Z") ∈ lw_all := lw_g (lw_at lw_m2 101 rfl) rfl
theorem q457 : (Jvm.Cond.lays "java/lang/StringBuilder" "java/lang/AbstractStringBuilder" "count" "I") ∈ lw_all := lw_g (lw_at lw_m2 103 rfl) rfl
theorem q459 : (Jvm.Cond.superclass "java/lang/StringBuilder" "java/lang/AbstractStringBuilder") ∈ lw_all := lw_g (lw_at lw_m2 105 rfl) rfl
theorem q463 : (Jvm.Cond.instanceMethod ({ cls := "java/lang/StringBuilder", name := "append", desc := "(Ljava/lang/String;)Ljava/lang/StringBuilder;" } : Jvm.MethodName)) ∈ lw_all := lw_g (lw_at lw_m2 109 rfl) rfl
theorem q464 : (Jvm.Cond.selects "java/lang/StringBuilder" ({ cls := "java/lang/StringBuilder", name := "append", desc := "(Ljava/lang/String;)Ljava/lang/StringBuilder;" } : Jvm.MethodName) ({ cls := "java/lang/StringBuilder", name := "append", desc := "(Ljava/lang/String;)Ljava/lang/StringBuilder;" } : Jvm.MethodName)) ∈ lw_all := lw_g (lw_at lw_m2 110 rfl) rfl
theorem q465 : (Jvm.Cond.code ({ cls := "java/lang/StringBuilder", name := "append", desc := "(Ljava/lang/String;)Ljava/lang/StringBuilder;" } : Jvm.MethodName) prog_33_method_7_code (2 : Nat) (Option.some (Jvm.ClassFile.FieldType.object "java/lang/StringBuilder"))) ∈ lw_all := lw_g (lw_at lw_m2 111 rfl) rfl
theorem q466 : (Jvm.Cond.methodLink "java/lang/StringBuilder" (29 : Nat) ({ cls := "java/lang/AbstractStringBuilder", name := "append", desc := "(Ljava/lang/String;)Ljava/lang/AbstractStringBuilder;" } : Jvm.MethodName)) ∈ lw_all := lw_g (lw_at lw_m2 112 rfl) rfl
theorem q511 : (Jvm.Cond.selects "java/lang/StringBuilder" ({ cls := "java/lang/AbstractStringBuilder", name := "isLatin1", desc := "()Z" } : Jvm.MethodName) ({ cls := "java/lang/AbstractStringBuilder", name := "isLatin1", desc := "()Z" } : Jvm.MethodName)) ∈ lw_all := lw_g (lw_at lw_m2 157 rfl) rfl
theorem q583 : (Jvm.Cond.instanceMethod ({ cls := "java/lang/StringBuilder", name := "append", desc := "(I)Ljava/lang/StringBuilder;" } : Jvm.MethodName)) ∈ lw_all := lw_g (lw_at lw_m2 229 rfl) rfl
theorem q584 : (Jvm.Cond.selects "java/lang/StringBuilder" ({ cls := "java/lang/StringBuilder", name := "append", desc := "(I)Ljava/lang/StringBuilder;" } : Jvm.MethodName) ({ cls := "java/lang/StringBuilder", name := "append", desc := "(I)Ljava/lang/StringBuilder;" } : Jvm.MethodName)) ∈ lw_all := lw_g (lw_at lw_m2 230 rfl) rfl
theorem q585 : (Jvm.Cond.code ({ cls := "java/lang/StringBuilder", name := "append", desc := "(I)Ljava/lang/StringBuilder;" } : Jvm.MethodName) prog_33_method_15_code (2 : Nat) (Option.some (Jvm.ClassFile.FieldType.object "java/lang/StringBuilder"))) ∈ lw_all := lw_g (lw_at lw_m2 231 rfl) rfl
theorem q586 : (Jvm.Cond.methodLink "java/lang/StringBuilder" (53 : Nat) ({ cls := "java/lang/AbstractStringBuilder", name := "append", desc := "(I)Ljava/lang/AbstractStringBuilder;" } : Jvm.MethodName)) ∈ lw_all := lw_g (lw_at lw_m2 232 rfl) rfl
theorem q609 : (Jvm.Cond.instanceMethod ({ cls := "java/lang/StringBuilder", name := "toString", desc := "()Ljava/lang/String;" } : Jvm.MethodName)) ∈ lw_all := lw_g (lw_at lw_m3 15 rfl) rfl
theorem q610 : (Jvm.Cond.selects "java/lang/StringBuilder" ({ cls := "java/lang/StringBuilder", name := "toString", desc := "()Ljava/lang/String;" } : Jvm.MethodName) ({ cls := "java/lang/StringBuilder", name := "toString", desc := "()Ljava/lang/String;" } : Jvm.MethodName)) ∈ lw_all := lw_g (lw_at lw_m3 16 rfl) rfl
theorem q611 : (Jvm.Cond.code ({ cls := "java/lang/StringBuilder", name := "toString", desc := "()Ljava/lang/String;" } : Jvm.MethodName) prog_33_method_42_code (1 : Nat) (Option.some (Jvm.ClassFile.FieldType.object "java/lang/String"))) ∈ lw_all := lw_g (lw_at lw_m3 17 rfl) rfl
theorem q612 : (Jvm.Cond.classLink "java/lang/StringBuilder" (18 : Nat) "java/lang/String") ∈ lw_all := lw_g (lw_at lw_m3 18 rfl) rfl
theorem q614 : (Jvm.Cond.methodLink "java/lang/StringBuilder" (137 : Nat) ({ cls := "java/lang/String", name := "<init>", desc := "(Ljava/lang/StringBuilder;)V" } : Jvm.MethodName)) ∈ lw_all := lw_g (lw_at lw_m3 20 rfl) rfl
theorem q624 : (Jvm.Cond.selects "java/lang/StringBuilder" ({ cls := "java/lang/AbstractStringBuilder", name := "getValue", desc := "()[B" } : Jvm.MethodName) ({ cls := "java/lang/AbstractStringBuilder", name := "getValue", desc := "()[B" } : Jvm.MethodName)) ∈ lw_all := lw_g (lw_at lw_m3 30 rfl) rfl
theorem q629 : (Jvm.Cond.selects "java/lang/StringBuilder" ({ cls := "java/lang/AbstractStringBuilder", name := "length", desc := "()I" } : Jvm.MethodName) ({ cls := "java/lang/StringBuilder", name := "length", desc := "()I" } : Jvm.MethodName)) ∈ lw_all := lw_g (lw_at lw_m3 35 rfl) rfl
theorem q630 : (Jvm.Cond.instanceMethod ({ cls := "java/lang/StringBuilder", name := "length", desc := "()I" } : Jvm.MethodName)) ∈ lw_all := lw_g (lw_at lw_m3 36 rfl) rfl
theorem q631 : (Jvm.Cond.code ({ cls := "java/lang/StringBuilder", name := "length", desc := "()I" } : Jvm.MethodName) prog_33_method_93_code (1 : Nat) (Option.some Jvm.ClassFile.FieldType.int)) ∈ lw_all := lw_g (lw_at lw_m3 37 rfl) rfl
theorem q632 : (Jvm.Cond.methodLink "java/lang/StringBuilder" (343 : Nat) ({ cls := "java/lang/AbstractStringBuilder", name := "length", desc := "()I" } : Jvm.MethodName)) ∈ lw_all := lw_g (lw_at lw_m3 38 rfl) rfl
theorem q758 : (Jvm.Cond.selects "java/lang/StringBuilder" ({ cls := "java/lang/Object", name := "getClass", desc := "()Ljava/lang/Class;" } : Jvm.MethodName) ({ cls := "java/lang/Object", name := "getClass", desc := "()Ljava/lang/Class;" } : Jvm.MethodName)) ∈ lw_all := lw_g (lw_at lw_m3 164 rfl) rfl
theorem q1126 : (Jvm.Cond.castable "java/lang/StringBuilder" "java/lang/Comparable") ∈ lw_tbl := lw_at lw_m5 52 rfl
theorem q1127 : (Jvm.Cond.selects "java/lang/StringBuilder" ({ cls := "java/lang/Comparable", name := "compareTo", desc := "(Ljava/lang/Object;)I" } : Jvm.MethodName) ({ cls := "java/lang/StringBuilder", name := "compareTo", desc := "(Ljava/lang/Object;)I" } : Jvm.MethodName)) ∈ lw_all := lw_g (lw_at lw_m5 53 rfl) rfl
theorem q1128 : (Jvm.Cond.unhidden "java/lang/StringBuilder" "compareTo" "(Ljava/lang/Object;)I") ∈ lw_tbl := lw_at lw_m5 54 rfl
theorem q1129 : (Jvm.Cond.instanceMethod ({ cls := "java/lang/StringBuilder", name := "compareTo", desc := "(Ljava/lang/Object;)I" } : Jvm.MethodName)) ∈ lw_all := lw_g (lw_at lw_m5 55 rfl) rfl
theorem q1130 : (Jvm.Cond.publicMethod ({ cls := "java/lang/StringBuilder", name := "compareTo", desc := "(Ljava/lang/Object;)I" } : Jvm.MethodName)) ∈ lw_tbl := lw_at lw_m5 56 rfl
theorem q1131 : (Jvm.Cond.code ({ cls := "java/lang/StringBuilder", name := "compareTo", desc := "(Ljava/lang/Object;)I" } : Jvm.MethodName) prog_33_method_97_code (2 : Nat) (Option.some Jvm.ClassFile.FieldType.int)) ∈ lw_all := lw_g (lw_at lw_m5 57 rfl) rfl
theorem q1132 : (Jvm.Cond.classLink "java/lang/StringBuilder" (24 : Nat) "java/lang/StringBuilder") ∈ lw_all := lw_g (lw_at lw_m5 58 rfl) rfl
theorem q1133 : (Jvm.Cond.methodLink "java/lang/StringBuilder" (346 : Nat) ({ cls := "java/lang/StringBuilder", name := "compareTo", desc := "(Ljava/lang/StringBuilder;)I" } : Jvm.MethodName)) ∈ lw_all := lw_g (lw_at lw_m5 59 rfl) rfl
theorem q1134 : (Jvm.Cond.instanceMethod ({ cls := "java/lang/StringBuilder", name := "compareTo", desc := "(Ljava/lang/StringBuilder;)I" } : Jvm.MethodName)) ∈ lw_all := lw_g (lw_at lw_m5 60 rfl) rfl
theorem q1135 : (Jvm.Cond.selects "java/lang/StringBuilder" ({ cls := "java/lang/StringBuilder", name := "compareTo", desc := "(Ljava/lang/StringBuilder;)I" } : Jvm.MethodName) ({ cls := "java/lang/StringBuilder", name := "compareTo", desc := "(Ljava/lang/StringBuilder;)I" } : Jvm.MethodName)) ∈ lw_all := lw_g (lw_at lw_m5 61 rfl) rfl
theorem q1136 : (Jvm.Cond.code ({ cls := "java/lang/StringBuilder", name := "compareTo", desc := "(Ljava/lang/StringBuilder;)I" } : Jvm.MethodName) prog_33_method_5_code (2 : Nat) (Option.some Jvm.ClassFile.FieldType.int)) ∈ lw_all := lw_g (lw_at lw_m5 62 rfl) rfl
theorem q1137 : (Jvm.Cond.methodLink "java/lang/StringBuilder" (13 : Nat) ({ cls := "java/lang/AbstractStringBuilder", name := "compareTo", desc := "(Ljava/lang/AbstractStringBuilder;)I" } : Jvm.MethodName)) ∈ lw_all := lw_g (lw_at lw_m5 63 rfl) rfl
theorem q1466 : (Jvm.Cond.instanceMethod ({ cls := "java/lang/StringBuilder", name := "setLength", desc := "(I)V" } : Jvm.MethodName)) ∈ lw_all := lw_g (lw_at lw_m6 152 rfl) rfl
theorem q1467 : (Jvm.Cond.selects "java/lang/StringBuilder" ({ cls := "java/lang/StringBuilder", name := "setLength", desc := "(I)V" } : Jvm.MethodName) ({ cls := "java/lang/StringBuilder", name := "setLength", desc := "(I)V" } : Jvm.MethodName)) ∈ lw_all := lw_g (lw_at lw_m6 153 rfl) rfl
theorem q1468 : (Jvm.Cond.code ({ cls := "java/lang/StringBuilder", name := "setLength", desc := "(I)V" } : Jvm.MethodName) prog_33_method_89_code (2 : Nat) (Option.none : Option Jvm.ClassFile.FieldType)) ∈ lw_all := lw_g (lw_at lw_m6 154 rfl) rfl
theorem q1469 : (Jvm.Cond.methodLink "java/lang/StringBuilder" (333 : Nat) ({ cls := "java/lang/AbstractStringBuilder", name := "setLength", desc := "(I)V" } : Jvm.MethodName)) ∈ lw_all := lw_g (lw_at lw_m6 155 rfl) rfl
theorem q1857 : (Jvm.Cond.selects "java/lang/StringBuilder" ({ cls := "java/lang/Object", name := "equals", desc := "(Ljava/lang/Object;)Z" } : Jvm.MethodName) ({ cls := "java/lang/Object", name := "equals", desc := "(Ljava/lang/Object;)Z" } : Jvm.MethodName)) ∈ lw_all := lw_g (lw_at lw_m8 63 rfl) rfl
theorem q2416 : (Jvm.Cond.instanceMethod ({ cls := "java/lang/StringBuilder", name := "append", desc := "(Ljava/lang/Object;)Ljava/lang/StringBuilder;" } : Jvm.MethodName)) ∈ lw_all := lw_g (lw_at lw_m10 142 rfl) rfl
theorem q2417 : (Jvm.Cond.selects "java/lang/StringBuilder" ({ cls := "java/lang/StringBuilder", name := "append", desc := "(Ljava/lang/Object;)Ljava/lang/StringBuilder;" } : Jvm.MethodName) ({ cls := "java/lang/StringBuilder", name := "append", desc := "(Ljava/lang/Object;)Ljava/lang/StringBuilder;" } : Jvm.MethodName)) ∈ lw_all := lw_g (lw_at lw_m10 143 rfl) rfl
theorem q2418 : (Jvm.Cond.code ({ cls := "java/lang/StringBuilder", name := "append", desc := "(Ljava/lang/Object;)Ljava/lang/StringBuilder;" } : Jvm.MethodName) prog_33_method_6_code (2 : Nat) (Option.some (Jvm.ClassFile.FieldType.object "java/lang/StringBuilder"))) ∈ lw_all := lw_g (lw_at lw_m10 144 rfl) rfl
theorem q2419 : (Jvm.Cond.methodLink "java/lang/StringBuilder" (17 : Nat) ({ cls := "java/lang/String", name := "valueOf", desc := "(Ljava/lang/Object;)Ljava/lang/String;" } : Jvm.MethodName)) ∈ lw_all := lw_g (lw_at lw_m10 145 rfl) rfl
theorem q2439 : (Jvm.Cond.instanceMethod ({ cls := "java/lang/StringBuilder", name := "append", desc := "(C)Ljava/lang/StringBuilder;" } : Jvm.MethodName)) ∈ lw_all := lw_g (lw_at lw_m10 165 rfl) rfl
theorem q2440 : (Jvm.Cond.selects "java/lang/StringBuilder" ({ cls := "java/lang/StringBuilder", name := "append", desc := "(C)Ljava/lang/StringBuilder;" } : Jvm.MethodName) ({ cls := "java/lang/StringBuilder", name := "append", desc := "(C)Ljava/lang/StringBuilder;" } : Jvm.MethodName)) ∈ lw_all := lw_g (lw_at lw_m10 166 rfl) rfl
theorem q2441 : (Jvm.Cond.code ({ cls := "java/lang/StringBuilder", name := "append", desc := "(C)Ljava/lang/StringBuilder;" } : Jvm.MethodName) prog_33_method_14_code (2 : Nat) (Option.some (Jvm.ClassFile.FieldType.object "java/lang/StringBuilder"))) ∈ lw_all := lw_g (lw_at lw_m10 167 rfl) rfl
theorem q2442 : (Jvm.Cond.methodLink "java/lang/StringBuilder" (50 : Nat) ({ cls := "java/lang/AbstractStringBuilder", name := "append", desc := "(C)Ljava/lang/AbstractStringBuilder;" } : Jvm.MethodName)) ∈ lw_all := lw_g (lw_at lw_m10 168 rfl) rfl
theorem q2512 : (Jvm.Cond.selects "java/lang/StringBuilder" ({ cls := "java/lang/Object", name := "toString", desc := "()Ljava/lang/String;" } : Jvm.MethodName) ({ cls := "java/lang/StringBuilder", name := "toString", desc := "()Ljava/lang/String;" } : Jvm.MethodName)) ∈ lw_all := lw_g (lw_at lw_m10 238 rfl) rfl
theorem q2516 : (Jvm.Cond.methodLink "java/lang/StringBuilder" (23 : Nat) ({ cls := "java/lang/StringBuilder", name := "append", desc := "(Ljava/lang/String;)Ljava/lang/StringBuilder;" } : Jvm.MethodName)) ∈ lw_all := lw_g (lw_at lw_m11 2 rfl) rfl
theorem q2548 : (Jvm.Cond.instanceMethod ({ cls := "java/lang/StringBuilder", name := "charAt", desc := "(I)C" } : Jvm.MethodName)) ∈ lw_all := lw_g (lw_at lw_m11 34 rfl) rfl
theorem q2549 : (Jvm.Cond.selects "java/lang/StringBuilder" ({ cls := "java/lang/StringBuilder", name := "charAt", desc := "(I)C" } : Jvm.MethodName) ({ cls := "java/lang/StringBuilder", name := "charAt", desc := "(I)C" } : Jvm.MethodName)) ∈ lw_all := lw_g (lw_at lw_m11 35 rfl) rfl
theorem q2550 : (Jvm.Cond.code ({ cls := "java/lang/StringBuilder", name := "charAt", desc := "(I)C" } : Jvm.MethodName) prog_33_method_88_code (2 : Nat) (Option.some Jvm.ClassFile.FieldType.char)) ∈ lw_all := lw_g (lw_at lw_m11 36 rfl) rfl
theorem q2551 : (Jvm.Cond.methodLink "java/lang/StringBuilder" (329 : Nat) ({ cls := "java/lang/AbstractStringBuilder", name := "charAt", desc := "(I)C" } : Jvm.MethodName)) ∈ lw_all := lw_g (lw_at lw_m11 37 rfl) rfl
theorem q3227 : (Jvm.Cond.selects "java/lang/StringBuilder" ({ cls := "java/lang/StringBuilder", name := "length", desc := "()I" } : Jvm.MethodName) ({ cls := "java/lang/StringBuilder", name := "length", desc := "()I" } : Jvm.MethodName)) ∈ lw_all := lw_g (lw_at lw_m13 233 rfl) rfl
theorem q3241 : (Jvm.Cond.castable "java/lang/StringBuilder" "java/lang/Object") ∈ lw_tbl := lw_at lw_m14 7 rfl
theorem in_J14 : ∀ w ∈ wsJ140, w ∈ lw_all := lw_in wsJ140 [451, 453, 455, 457] (by decide +kernel) (by decide +kernel)

/-! java/lang/String -/
set_option maxRecDepth 100000
def RJ15 : String := "java/lang/String"
def TJ15 : u_T := fun k => match k with
  | 0 => ("java/lang/String", "value", "[B", true)
  | 1 => ("java/lang/String", "coder", "B", true)
  | 2 => ("java/lang/String", "hash", "I", false)
  | _ => ("java/lang/String", "hashIsZero", "Z", false)
def tyJ15 : Nat → FieldType := fun k => match k with
  | 0 => .array .byte
  | 1 => .byte
  | 2 => .int
  | _ => .boolean
abbrev wsJ150 : List Cond := u_ws RJ15 TJ15 4
theorem nmJ15 : ∀ a, a < 4 → ∀ b, b < 4 → a ≠ b → (TJ15 a).2.1 ≠ (TJ15 b).2.1 := by decide +kernel
theorem tyJ15_ok : ∀ k, k < 4 → parseFieldDescriptor (TJ15 k).2.2.1 = some (tyJ15 k) := by decide +kernel
abbrev cJ15_checkBoundsBeginEnd : ByteArray := prog_32_method_158_code
def yJ15_checkBoundsBeginEnd : MethodName := ⟨RJ15, "checkBoundsBeginEnd", "(III)V"⟩
def dkwJ15_checkBoundsBeginEnd_0 : List UInt8 := [26, 27, 28, 178, 4, 29, 184, 4, 38, 87, 177]
abbrev dktJ15_checkBoundsBeginEnd_0 : List UInt8 := dkwJ15_checkBoundsBeginEnd_0 ++ []
theorem dksJ15_checkBoundsBeginEnd_0 : cJ15_checkBoundsBeginEnd.data.toList.drop 0 = dktJ15_checkBoundsBeginEnd_0 := by decide +kernel
theorem dJ15_checkBoundsBeginEnd_0 : decode cJ15_checkBoundsBeginEnd 0 = .ok (.iload_n 0, 1) := dk_26 (dk_at dksJ15_checkBoundsBeginEnd_0 0 rfl rfl)
theorem dJ15_checkBoundsBeginEnd_1 : decode cJ15_checkBoundsBeginEnd 1 = .ok (.iload_n 1, 1) := dk_27 (dk_at dksJ15_checkBoundsBeginEnd_0 1 rfl rfl)
theorem dJ15_checkBoundsBeginEnd_2 : decode cJ15_checkBoundsBeginEnd 2 = .ok (.iload_n 2, 1) := dk_28 (dk_at dksJ15_checkBoundsBeginEnd_0 2 rfl rfl)
theorem dJ15_checkBoundsBeginEnd_3 : decode cJ15_checkBoundsBeginEnd 3 = .ok (.getstatic 1053, 3) := dk_178 4 29 (dk_at dksJ15_checkBoundsBeginEnd_0 3 rfl rfl)
theorem dJ15_checkBoundsBeginEnd_6 : decode cJ15_checkBoundsBeginEnd 6 = .ok (.invokestatic 1062, 3) := dk_184 4 38 (dk_at dksJ15_checkBoundsBeginEnd_0 6 rfl rfl)
theorem dJ15_checkBoundsBeginEnd_9 : decode cJ15_checkBoundsBeginEnd 9 = .ok (.pop, 1) := dk_87 (dk_at dksJ15_checkBoundsBeginEnd_0 9 rfl rfl)
theorem dJ15_checkBoundsBeginEnd_10 : decode cJ15_checkBoundsBeginEnd 10 = .ok (.return_, 1) := dk_177 (dk_at dksJ15_checkBoundsBeginEnd_0 10 rfl rfl)
abbrev cJ15_length : ByteArray := prog_32_method_54_code
def yJ15_length : MethodName := ⟨RJ15, "length", "()I"⟩
def dkwJ15_length_0 : List UInt8 := [42, 180, 0, 9, 190, 42, 182, 1, 79, 122, 172]
abbrev dktJ15_length_0 : List UInt8 := dkwJ15_length_0 ++ []
theorem dksJ15_length_0 : cJ15_length.data.toList.drop 0 = dktJ15_length_0 := by decide +kernel
theorem dJ15_length_0 : decode cJ15_length 0 = .ok (.aload_n 0, 1) := dk_42 (dk_at dksJ15_length_0 0 rfl rfl)
theorem dJ15_length_1 : decode cJ15_length 1 = .ok (.getfield 9, 3) := dk_180 0 9 (dk_at dksJ15_length_0 1 rfl rfl)
theorem dJ15_length_4 : decode cJ15_length 4 = .ok (.arraylength, 1) := dk_190 (dk_at dksJ15_length_0 4 rfl rfl)
theorem dJ15_length_5 : decode cJ15_length 5 = .ok (.aload_n 0, 1) := dk_42 (dk_at dksJ15_length_0 5 rfl rfl)
theorem dJ15_length_6 : decode cJ15_length 6 = .ok (.invokevirtual 335, 3) := dk_182 1 79 (dk_at dksJ15_length_0 6 rfl rfl)
theorem dJ15_length_9 : decode cJ15_length 9 = .ok (.ishr, 1) := dk_122 (dk_at dksJ15_length_0 9 rfl rfl)
theorem dJ15_length_10 : decode cJ15_length 10 = .ok (.ireturn, 1) := dk_172 (dk_at dksJ15_length_0 10 rfl rfl)
abbrev cJ15_coder : ByteArray := prog_32_method_152_code
def yJ15_coder : MethodName := ⟨RJ15, "coder", "()B"⟩
def dkwJ15_coder_0 : List UInt8 := [178, 0, 38, 153, 0, 10, 42, 180, 0, 15, 167, 0, 4, 4, 172]
abbrev dktJ15_coder_0 : List UInt8 := dkwJ15_coder_0 ++ []
theorem dksJ15_coder_0 : cJ15_coder.data.toList.drop 0 = dktJ15_coder_0 := by decide +kernel
theorem dJ15_coder_0 : decode cJ15_coder 0 = .ok (.getstatic 38, 3) := dk_178 0 38 (dk_at dksJ15_coder_0 0 rfl rfl)
theorem dJ15_coder_3 : decode cJ15_coder 3 = .ok (.ifCond .eq 10, 3) := dk_153 0 10 (dk_at dksJ15_coder_0 3 rfl rfl)
theorem dJ15_coder_6 : decode cJ15_coder 6 = .ok (.aload_n 0, 1) := dk_42 (dk_at dksJ15_coder_0 6 rfl rfl)
theorem dJ15_coder_7 : decode cJ15_coder 7 = .ok (.getfield 15, 3) := dk_180 0 15 (dk_at dksJ15_coder_0 7 rfl rfl)
theorem dJ15_coder_10 : decode cJ15_coder 10 = .ok (.goto 4, 3) := dk_167 0 4 (dk_at dksJ15_coder_0 10 rfl rfl)
theorem dJ15_coder_13 : decode cJ15_coder 13 = .ok (.iconst 1, 1) := dk_4 (dk_at dksJ15_coder_0 13 rfl rfl)
theorem dJ15_coder_14 : decode cJ15_coder 14 = .ok (.ireturn, 1) := dk_172 (dk_at dksJ15_coder_0 14 rfl rfl)
abbrev cJ15_checkBoundsOffCount : ByteArray := prog_32_method_157_code
def yJ15_checkBoundsOffCount : MethodName := ⟨RJ15, "checkBoundsOffCount", "(III)I"⟩
def dkwJ15_checkBoundsOffCount_0 : List UInt8 := [26, 27, 28, 178, 4, 29, 184, 4, 41, 172]
abbrev dktJ15_checkBoundsOffCount_0 : List UInt8 := dkwJ15_checkBoundsOffCount_0 ++ []
theorem dksJ15_checkBoundsOffCount_0 : cJ15_checkBoundsOffCount.data.toList.drop 0 = dktJ15_checkBoundsOffCount_0 := by decide +kernel
theorem dJ15_checkBoundsOffCount_0 : decode cJ15_checkBoundsOffCount 0 = .ok (.iload_n 0, 1) := dk_26 (dk_at dksJ15_checkBoundsOffCount_0 0 rfl rfl)
theorem dJ15_checkBoundsOffCount_1 : decode cJ15_checkBoundsOffCount 1 = .ok (.iload_n 1, 1) := dk_27 (dk_at dksJ15_checkBoundsOffCount_0 1 rfl rfl)
theorem dJ15_checkBoundsOffCount_2 : decode cJ15_checkBoundsOffCount 2 = .ok (.iload_n 2, 1) := dk_28 (dk_at dksJ15_checkBoundsOffCount_0 2 rfl rfl)
theorem dJ15_checkBoundsOffCount_3 : decode cJ15_checkBoundsOffCount 3 = .ok (.getstatic 1053, 3) := dk_178 4 29 (dk_at dksJ15_checkBoundsOffCount_0 3 rfl rfl)
theorem dJ15_checkBoundsOffCount_6 : decode cJ15_checkBoundsOffCount 6 = .ok (.invokestatic 1065, 3) := dk_184 4 41 (dk_at dksJ15_checkBoundsOffCount_0 6 rfl rfl)
theorem dJ15_checkBoundsOffCount_9 : decode cJ15_checkBoundsOffCount 9 = .ok (.ireturn, 1) := dk_172 (dk_at dksJ15_checkBoundsOffCount_0 9 rfl rfl)
abbrev cJ15_getBytes : ByteArray := prog_32_method_147_code
def yJ15_getBytes : MethodName := ⟨RJ15, "getBytes", "([BIB)V"⟩
def dkwJ15_getBytes_1 : List UInt8 := [184, 0, 212, 167, 0, 18, 42, 180, 0, 9, 3, 43, 28, 42, 180, 0, 9, 190, 184, 0, 106, 177]
abbrev dktJ15_getBytes_1 : List UInt8 := dkwJ15_getBytes_1 ++ []
def dkwJ15_getBytes_0 : List UInt8 := [42, 182, 1, 79, 29, 160, 0, 23, 42, 180, 0, 9, 3, 43, 28, 29, 120, 42, 180, 0, 9, 190]
abbrev dktJ15_getBytes_0 : List UInt8 := dkwJ15_getBytes_0 ++ dktJ15_getBytes_1
theorem dksJ15_getBytes_0 : cJ15_getBytes.data.toList.drop 0 = dktJ15_getBytes_0 := by decide +kernel
theorem dksJ15_getBytes_1 : cJ15_getBytes.data.toList.drop 22 = dktJ15_getBytes_1 := dk_seg dksJ15_getBytes_0 22 rfl rfl
theorem dJ15_getBytes_0 : decode cJ15_getBytes 0 = .ok (.aload_n 0, 1) := dk_42 (dk_at dksJ15_getBytes_0 0 rfl rfl)
theorem dJ15_getBytes_1 : decode cJ15_getBytes 1 = .ok (.invokevirtual 335, 3) := dk_182 1 79 (dk_at dksJ15_getBytes_0 1 rfl rfl)
theorem dJ15_getBytes_4 : decode cJ15_getBytes 4 = .ok (.iload_n 3, 1) := dk_29 (dk_at dksJ15_getBytes_0 4 rfl rfl)
theorem dJ15_getBytes_5 : decode cJ15_getBytes 5 = .ok (.if_icmp .ne 23, 3) := dk_160 0 23 (dk_at dksJ15_getBytes_0 5 rfl rfl)
theorem dJ15_getBytes_8 : decode cJ15_getBytes 8 = .ok (.aload_n 0, 1) := dk_42 (dk_at dksJ15_getBytes_0 8 rfl rfl)
theorem dJ15_getBytes_9 : decode cJ15_getBytes 9 = .ok (.getfield 9, 3) := dk_180 0 9 (dk_at dksJ15_getBytes_0 9 rfl rfl)
theorem dJ15_getBytes_12 : decode cJ15_getBytes 12 = .ok (.iconst 0, 1) := dk_3 (dk_at dksJ15_getBytes_0 12 rfl rfl)
theorem dJ15_getBytes_13 : decode cJ15_getBytes 13 = .ok (.aload_n 1, 1) := dk_43 (dk_at dksJ15_getBytes_0 13 rfl rfl)
theorem dJ15_getBytes_14 : decode cJ15_getBytes 14 = .ok (.iload_n 2, 1) := dk_28 (dk_at dksJ15_getBytes_0 14 rfl rfl)
theorem dJ15_getBytes_15 : decode cJ15_getBytes 15 = .ok (.iload_n 3, 1) := dk_29 (dk_at dksJ15_getBytes_0 15 rfl rfl)
theorem dJ15_getBytes_16 : decode cJ15_getBytes 16 = .ok (.ishl, 1) := dk_120 (dk_at dksJ15_getBytes_0 16 rfl rfl)
theorem dJ15_getBytes_17 : decode cJ15_getBytes 17 = .ok (.aload_n 0, 1) := dk_42 (dk_at dksJ15_getBytes_0 17 rfl rfl)
theorem dJ15_getBytes_18 : decode cJ15_getBytes 18 = .ok (.getfield 9, 3) := dk_180 0 9 (dk_at dksJ15_getBytes_0 18 rfl rfl)
theorem dJ15_getBytes_21 : decode cJ15_getBytes 21 = .ok (.arraylength, 1) := dk_190 (dk_at dksJ15_getBytes_0 21 rfl rfl)
theorem dJ15_getBytes_22 : decode cJ15_getBytes 22 = .ok (.invokestatic 212, 3) := dk_184 0 212 (dk_at dksJ15_getBytes_1 0 rfl rfl)
theorem dJ15_getBytes_25 : decode cJ15_getBytes 25 = .ok (.goto 18, 3) := dk_167 0 18 (dk_at dksJ15_getBytes_1 3 rfl rfl)
theorem dJ15_getBytes_28 : decode cJ15_getBytes 28 = .ok (.aload_n 0, 1) := dk_42 (dk_at dksJ15_getBytes_1 6 rfl rfl)
theorem dJ15_getBytes_29 : decode cJ15_getBytes 29 = .ok (.getfield 9, 3) := dk_180 0 9 (dk_at dksJ15_getBytes_1 7 rfl rfl)
theorem dJ15_getBytes_32 : decode cJ15_getBytes 32 = .ok (.iconst 0, 1) := dk_3 (dk_at dksJ15_getBytes_1 10 rfl rfl)
theorem dJ15_getBytes_33 : decode cJ15_getBytes 33 = .ok (.aload_n 1, 1) := dk_43 (dk_at dksJ15_getBytes_1 11 rfl rfl)
theorem dJ15_getBytes_34 : decode cJ15_getBytes 34 = .ok (.iload_n 2, 1) := dk_28 (dk_at dksJ15_getBytes_1 12 rfl rfl)
theorem dJ15_getBytes_35 : decode cJ15_getBytes 35 = .ok (.aload_n 0, 1) := dk_42 (dk_at dksJ15_getBytes_1 13 rfl rfl)
theorem dJ15_getBytes_36 : decode cJ15_getBytes 36 = .ok (.getfield 9, 3) := dk_180 0 9 (dk_at dksJ15_getBytes_1 14 rfl rfl)
theorem dJ15_getBytes_39 : decode cJ15_getBytes 39 = .ok (.arraylength, 1) := dk_190 (dk_at dksJ15_getBytes_1 17 rfl rfl)
theorem dJ15_getBytes_40 : decode cJ15_getBytes 40 = .ok (.invokestatic 106, 3) := dk_184 0 106 (dk_at dksJ15_getBytes_1 18 rfl rfl)
theorem dJ15_getBytes_43 : decode cJ15_getBytes 43 = .ok (.return_, 1) := dk_177 (dk_at dksJ15_getBytes_1 21 rfl rfl)
abbrev cJ15_init : ByteArray := prog_32_method_53_code
def yJ15_init : MethodName := ⟨RJ15, "<init>", "(Ljava/lang/StringBuilder;)V"⟩
def dkwJ15_init_0 : List UInt8 := [42, 43, 1, 183, 1, 233, 177]
abbrev dktJ15_init_0 : List UInt8 := dkwJ15_init_0 ++ []
theorem dksJ15_init_0 : cJ15_init.data.toList.drop 0 = dktJ15_init_0 := by decide +kernel
theorem dJ15_init_0 : decode cJ15_init 0 = .ok (.aload_n 0, 1) := dk_42 (dk_at dksJ15_init_0 0 rfl rfl)
theorem dJ15_init_1 : decode cJ15_init 1 = .ok (.aload_n 1, 1) := dk_43 (dk_at dksJ15_init_0 1 rfl rfl)
theorem dJ15_init_2 : decode cJ15_init 2 = .ok (.aconst_null, 1) := dk_1 (dk_at dksJ15_init_0 2 rfl rfl)
theorem dJ15_init_3 : decode cJ15_init 3 = .ok (.invokespecial 489, 3) := dk_183 1 233 (dk_at dksJ15_init_0 3 rfl rfl)
theorem dJ15_init_6 : decode cJ15_init 6 = .ok (.return_, 1) := dk_177 (dk_at dksJ15_init_0 6 rfl rfl)
abbrev cJ15_init_2 : ByteArray := prog_32_method_150_code
def yJ15_init_2 : MethodName := ⟨RJ15, "<init>", "(Ljava/lang/AbstractStringBuilder;Ljava/lang/Void;)V"⟩
def dkwJ15_init_2_4 : List UInt8 := [181, 0, 9, 177]
abbrev dktJ15_init_2_4 : List UInt8 := dkwJ15_init_2_4 ++ []
def dkwJ15_init_2_3 : List UInt8 := [184, 0, 47, 181, 0, 15, 177, 42, 4, 181, 0, 15, 42, 45, 3, 21, 4, 4, 120, 184, 0, 54]
abbrev dktJ15_init_2_3 : List UInt8 := dkwJ15_init_2_3 ++ dktJ15_init_2_4
def dkwJ15_init_2_2 : List UInt8 := [180, 4, 24, 153, 0, 28, 42, 45, 3, 21, 4, 184, 4, 27, 181, 0, 9, 42, 42, 180, 0, 9, 21, 4]
abbrev dktJ15_init_2_2 : List UInt8 := dkwJ15_init_2_2 ++ dktJ15_init_2_3
def dkwJ15_init_2_1 : List UInt8 := [181, 0, 15, 42, 45, 3, 21, 4, 184, 0, 54, 181, 0, 9, 167, 0, 59, 178, 0, 38, 153, 0, 35, 43]
abbrev dktJ15_init_2_1 : List UInt8 := dkwJ15_init_2_1 ++ dktJ15_init_2_2
def dkwJ15_init_2_0 : List UInt8 := [42, 183, 0, 1, 43, 182, 2, 40, 78, 43, 182, 2, 37, 54, 4, 43, 182, 4, 23, 153, 0, 22, 42, 3]
abbrev dktJ15_init_2_0 : List UInt8 := dkwJ15_init_2_0 ++ dktJ15_init_2_1
theorem dksJ15_init_2_0 : cJ15_init_2.data.toList.drop 0 = dktJ15_init_2_0 := by decide +kernel
theorem dksJ15_init_2_1 : cJ15_init_2.data.toList.drop 24 = dktJ15_init_2_1 := dk_seg dksJ15_init_2_0 24 rfl rfl
theorem dksJ15_init_2_2 : cJ15_init_2.data.toList.drop 48 = dktJ15_init_2_2 := dk_seg dksJ15_init_2_1 24 rfl rfl
theorem dksJ15_init_2_3 : cJ15_init_2.data.toList.drop 72 = dktJ15_init_2_3 := dk_seg dksJ15_init_2_2 24 rfl rfl
theorem dksJ15_init_2_4 : cJ15_init_2.data.toList.drop 94 = dktJ15_init_2_4 := dk_seg dksJ15_init_2_3 22 rfl rfl
theorem dJ15_init_2_0 : decode cJ15_init_2 0 = .ok (.aload_n 0, 1) := dk_42 (dk_at dksJ15_init_2_0 0 rfl rfl)
theorem dJ15_init_2_1 : decode cJ15_init_2 1 = .ok (.invokespecial 1, 3) := dk_183 0 1 (dk_at dksJ15_init_2_0 1 rfl rfl)
theorem dJ15_init_2_4 : decode cJ15_init_2 4 = .ok (.aload_n 1, 1) := dk_43 (dk_at dksJ15_init_2_0 4 rfl rfl)
theorem dJ15_init_2_5 : decode cJ15_init_2 5 = .ok (.invokevirtual 552, 3) := dk_182 2 40 (dk_at dksJ15_init_2_0 5 rfl rfl)
theorem dJ15_init_2_8 : decode cJ15_init_2 8 = .ok (.astore_n 3, 1) := dk_78 (dk_at dksJ15_init_2_0 8 rfl rfl)
theorem dJ15_init_2_9 : decode cJ15_init_2 9 = .ok (.aload_n 1, 1) := dk_43 (dk_at dksJ15_init_2_0 9 rfl rfl)
theorem dJ15_init_2_10 : decode cJ15_init_2 10 = .ok (.invokevirtual 549, 3) := dk_182 2 37 (dk_at dksJ15_init_2_0 10 rfl rfl)
theorem dJ15_init_2_13 : decode cJ15_init_2 13 = .ok (.istore 4, 2) := dk_54 4 (dk_at dksJ15_init_2_0 13 rfl rfl)
theorem dJ15_init_2_15 : decode cJ15_init_2 15 = .ok (.aload_n 1, 1) := dk_43 (dk_at dksJ15_init_2_0 15 rfl rfl)
theorem dJ15_init_2_16 : decode cJ15_init_2 16 = .ok (.invokevirtual 1047, 3) := dk_182 4 23 (dk_at dksJ15_init_2_0 16 rfl rfl)
theorem dJ15_init_2_19 : decode cJ15_init_2 19 = .ok (.ifCond .eq 22, 3) := dk_153 0 22 (dk_at dksJ15_init_2_0 19 rfl rfl)
theorem dJ15_init_2_22 : decode cJ15_init_2 22 = .ok (.aload_n 0, 1) := dk_42 (dk_at dksJ15_init_2_0 22 rfl rfl)
theorem dJ15_init_2_23 : decode cJ15_init_2 23 = .ok (.iconst 0, 1) := dk_3 (dk_at dksJ15_init_2_0 23 rfl rfl)
theorem dJ15_init_2_24 : decode cJ15_init_2 24 = .ok (.putfield 15, 3) := dk_181 0 15 (dk_at dksJ15_init_2_1 0 rfl rfl)
theorem dJ15_init_2_27 : decode cJ15_init_2 27 = .ok (.aload_n 0, 1) := dk_42 (dk_at dksJ15_init_2_1 3 rfl rfl)
theorem dJ15_init_2_28 : decode cJ15_init_2 28 = .ok (.aload_n 3, 1) := dk_45 (dk_at dksJ15_init_2_1 4 rfl rfl)
theorem dJ15_init_2_29 : decode cJ15_init_2 29 = .ok (.iconst 0, 1) := dk_3 (dk_at dksJ15_init_2_1 5 rfl rfl)
theorem dJ15_init_2_30 : decode cJ15_init_2 30 = .ok (.iload 4, 2) := dk_21 4 (dk_at dksJ15_init_2_1 6 rfl rfl)
theorem dJ15_init_2_32 : decode cJ15_init_2 32 = .ok (.invokestatic 54, 3) := dk_184 0 54 (dk_at dksJ15_init_2_1 8 rfl rfl)
theorem dJ15_init_2_35 : decode cJ15_init_2 35 = .ok (.putfield 9, 3) := dk_181 0 9 (dk_at dksJ15_init_2_1 11 rfl rfl)
theorem dJ15_init_2_38 : decode cJ15_init_2 38 = .ok (.goto 59, 3) := dk_167 0 59 (dk_at dksJ15_init_2_1 14 rfl rfl)
theorem dJ15_init_2_41 : decode cJ15_init_2 41 = .ok (.getstatic 38, 3) := dk_178 0 38 (dk_at dksJ15_init_2_1 17 rfl rfl)
theorem dJ15_init_2_44 : decode cJ15_init_2 44 = .ok (.ifCond .eq 35, 3) := dk_153 0 35 (dk_at dksJ15_init_2_1 20 rfl rfl)
theorem dJ15_init_2_47 : decode cJ15_init_2 47 = .ok (.aload_n 1, 1) := dk_43 (dk_at dksJ15_init_2_1 23 rfl rfl)
theorem dJ15_init_2_48 : decode cJ15_init_2 48 = .ok (.getfield 1048, 3) := dk_180 4 24 (dk_at dksJ15_init_2_2 0 rfl rfl)
theorem dJ15_init_2_51 : decode cJ15_init_2 51 = .ok (.ifCond .eq 28, 3) := dk_153 0 28 (dk_at dksJ15_init_2_2 3 rfl rfl)
theorem dJ15_init_2_54 : decode cJ15_init_2 54 = .ok (.aload_n 0, 1) := dk_42 (dk_at dksJ15_init_2_2 6 rfl rfl)
theorem dJ15_init_2_55 : decode cJ15_init_2 55 = .ok (.aload_n 3, 1) := dk_45 (dk_at dksJ15_init_2_2 7 rfl rfl)
theorem dJ15_init_2_56 : decode cJ15_init_2 56 = .ok (.iconst 0, 1) := dk_3 (dk_at dksJ15_init_2_2 8 rfl rfl)
theorem dJ15_init_2_57 : decode cJ15_init_2 57 = .ok (.iload 4, 2) := dk_21 4 (dk_at dksJ15_init_2_2 9 rfl rfl)
theorem dJ15_init_2_59 : decode cJ15_init_2 59 = .ok (.invokestatic 1051, 3) := dk_184 4 27 (dk_at dksJ15_init_2_2 11 rfl rfl)
theorem dJ15_init_2_62 : decode cJ15_init_2 62 = .ok (.putfield 9, 3) := dk_181 0 9 (dk_at dksJ15_init_2_2 14 rfl rfl)
theorem dJ15_init_2_65 : decode cJ15_init_2 65 = .ok (.aload_n 0, 1) := dk_42 (dk_at dksJ15_init_2_2 17 rfl rfl)
theorem dJ15_init_2_66 : decode cJ15_init_2 66 = .ok (.aload_n 0, 1) := dk_42 (dk_at dksJ15_init_2_2 18 rfl rfl)
theorem dJ15_init_2_67 : decode cJ15_init_2 67 = .ok (.getfield 9, 3) := dk_180 0 9 (dk_at dksJ15_init_2_2 19 rfl rfl)
theorem dJ15_init_2_70 : decode cJ15_init_2 70 = .ok (.iload 4, 2) := dk_21 4 (dk_at dksJ15_init_2_2 22 rfl rfl)
theorem dJ15_init_2_72 : decode cJ15_init_2 72 = .ok (.invokestatic 47, 3) := dk_184 0 47 (dk_at dksJ15_init_2_3 0 rfl rfl)
theorem dJ15_init_2_75 : decode cJ15_init_2 75 = .ok (.putfield 15, 3) := dk_181 0 15 (dk_at dksJ15_init_2_3 3 rfl rfl)
theorem dJ15_init_2_78 : decode cJ15_init_2 78 = .ok (.return_, 1) := dk_177 (dk_at dksJ15_init_2_3 6 rfl rfl)
theorem dJ15_init_2_79 : decode cJ15_init_2 79 = .ok (.aload_n 0, 1) := dk_42 (dk_at dksJ15_init_2_3 7 rfl rfl)
theorem dJ15_init_2_80 : decode cJ15_init_2 80 = .ok (.iconst 1, 1) := dk_4 (dk_at dksJ15_init_2_3 8 rfl rfl)
theorem dJ15_init_2_81 : decode cJ15_init_2 81 = .ok (.putfield 15, 3) := dk_181 0 15 (dk_at dksJ15_init_2_3 9 rfl rfl)
theorem dJ15_init_2_84 : decode cJ15_init_2 84 = .ok (.aload_n 0, 1) := dk_42 (dk_at dksJ15_init_2_3 12 rfl rfl)
theorem dJ15_init_2_85 : decode cJ15_init_2 85 = .ok (.aload_n 3, 1) := dk_45 (dk_at dksJ15_init_2_3 13 rfl rfl)
theorem dJ15_init_2_86 : decode cJ15_init_2 86 = .ok (.iconst 0, 1) := dk_3 (dk_at dksJ15_init_2_3 14 rfl rfl)
theorem dJ15_init_2_87 : decode cJ15_init_2 87 = .ok (.iload 4, 2) := dk_21 4 (dk_at dksJ15_init_2_3 15 rfl rfl)
theorem dJ15_init_2_89 : decode cJ15_init_2 89 = .ok (.iconst 1, 1) := dk_4 (dk_at dksJ15_init_2_3 17 rfl rfl)
theorem dJ15_init_2_90 : decode cJ15_init_2 90 = .ok (.ishl, 1) := dk_120 (dk_at dksJ15_init_2_3 18 rfl rfl)
theorem dJ15_init_2_91 : decode cJ15_init_2 91 = .ok (.invokestatic 54, 3) := dk_184 0 54 (dk_at dksJ15_init_2_3 19 rfl rfl)
theorem dJ15_init_2_94 : decode cJ15_init_2 94 = .ok (.putfield 9, 3) := dk_181 0 9 (dk_at dksJ15_init_2_4 0 rfl rfl)
theorem dJ15_init_2_97 : decode cJ15_init_2 97 = .ok (.return_, 1) := dk_177 (dk_at dksJ15_init_2_4 3 rfl rfl)
abbrev cJ15_compareTo : ByteArray := prog_32_method_162_code
def yJ15_compareTo : MethodName := ⟨RJ15, "compareTo", "(Ljava/lang/Object;)I"⟩
def dkwJ15_compareTo_0 : List UInt8 := [42, 43, 192, 0, 10, 182, 4, 60, 172]
abbrev dktJ15_compareTo_0 : List UInt8 := dkwJ15_compareTo_0 ++ []
theorem dksJ15_compareTo_0 : cJ15_compareTo.data.toList.drop 0 = dktJ15_compareTo_0 := by decide +kernel
theorem dJ15_compareTo_0 : decode cJ15_compareTo 0 = .ok (.aload_n 0, 1) := dk_42 (dk_at dksJ15_compareTo_0 0 rfl rfl)
theorem dJ15_compareTo_1 : decode cJ15_compareTo 1 = .ok (.aload_n 1, 1) := dk_43 (dk_at dksJ15_compareTo_0 1 rfl rfl)
theorem dJ15_compareTo_2 : decode cJ15_compareTo 2 = .ok (.checkcast 10, 3) := dk_192 0 10 (dk_at dksJ15_compareTo_0 2 rfl rfl)
theorem dJ15_compareTo_5 : decode cJ15_compareTo 5 = .ok (.invokevirtual 1084, 3) := dk_182 4 60 (dk_at dksJ15_compareTo_0 5 rfl rfl)
theorem dJ15_compareTo_8 : decode cJ15_compareTo 8 = .ok (.ireturn, 1) := dk_172 (dk_at dksJ15_compareTo_0 8 rfl rfl)
abbrev cJ15_compareTo_2 : ByteArray := prog_32_method_71_code
def yJ15_compareTo_2 : MethodName := ⟨RJ15, "compareTo", "(Ljava/lang/String;)I"⟩
def dkwJ15_compareTo_2_2 : List UInt8 := [154, 0, 11, 44, 45, 184, 2, 79, 167, 0, 8, 44, 45, 184, 2, 82, 172]
abbrev dktJ15_compareTo_2_2 : List UInt8 := dkwJ15_compareTo_2_2 ++ []
def dkwJ15_compareTo_2_1 : List UInt8 := [160, 0, 22, 21, 4, 154, 0, 11, 44, 45, 184, 2, 74, 167, 0, 8, 44, 45, 184, 2, 78, 172, 21, 4]
abbrev dktJ15_compareTo_2_1 : List UInt8 := dkwJ15_compareTo_2_1 ++ dktJ15_compareTo_2_2
def dkwJ15_compareTo_2_0 : List UInt8 := [42, 180, 0, 9, 77, 43, 180, 0, 9, 78, 42, 182, 1, 79, 54, 4, 21, 4, 43, 182, 1, 79]
abbrev dktJ15_compareTo_2_0 : List UInt8 := dkwJ15_compareTo_2_0 ++ dktJ15_compareTo_2_1
theorem dksJ15_compareTo_2_0 : cJ15_compareTo_2.data.toList.drop 0 = dktJ15_compareTo_2_0 := by decide +kernel
theorem dksJ15_compareTo_2_1 : cJ15_compareTo_2.data.toList.drop 22 = dktJ15_compareTo_2_1 := dk_seg dksJ15_compareTo_2_0 22 rfl rfl
theorem dksJ15_compareTo_2_2 : cJ15_compareTo_2.data.toList.drop 46 = dktJ15_compareTo_2_2 := dk_seg dksJ15_compareTo_2_1 24 rfl rfl
theorem dJ15_compareTo_2_0 : decode cJ15_compareTo_2 0 = .ok (.aload_n 0, 1) := dk_42 (dk_at dksJ15_compareTo_2_0 0 rfl rfl)
theorem dJ15_compareTo_2_1 : decode cJ15_compareTo_2 1 = .ok (.getfield 9, 3) := dk_180 0 9 (dk_at dksJ15_compareTo_2_0 1 rfl rfl)
theorem dJ15_compareTo_2_4 : decode cJ15_compareTo_2 4 = .ok (.astore_n 2, 1) := dk_77 (dk_at dksJ15_compareTo_2_0 4 rfl rfl)
theorem dJ15_compareTo_2_5 : decode cJ15_compareTo_2 5 = .ok (.aload_n 1, 1) := dk_43 (dk_at dksJ15_compareTo_2_0 5 rfl rfl)
theorem dJ15_compareTo_2_6 : decode cJ15_compareTo_2 6 = .ok (.getfield 9, 3) := dk_180 0 9 (dk_at dksJ15_compareTo_2_0 6 rfl rfl)
theorem dJ15_compareTo_2_9 : decode cJ15_compareTo_2 9 = .ok (.astore_n 3, 1) := dk_78 (dk_at dksJ15_compareTo_2_0 9 rfl rfl)
theorem dJ15_compareTo_2_10 : decode cJ15_compareTo_2 10 = .ok (.aload_n 0, 1) := dk_42 (dk_at dksJ15_compareTo_2_0 10 rfl rfl)
theorem dJ15_compareTo_2_11 : decode cJ15_compareTo_2 11 = .ok (.invokevirtual 335, 3) := dk_182 1 79 (dk_at dksJ15_compareTo_2_0 11 rfl rfl)
theorem dJ15_compareTo_2_14 : decode cJ15_compareTo_2 14 = .ok (.istore 4, 2) := dk_54 4 (dk_at dksJ15_compareTo_2_0 14 rfl rfl)
theorem dJ15_compareTo_2_16 : decode cJ15_compareTo_2 16 = .ok (.iload 4, 2) := dk_21 4 (dk_at dksJ15_compareTo_2_0 16 rfl rfl)
theorem dJ15_compareTo_2_18 : decode cJ15_compareTo_2 18 = .ok (.aload_n 1, 1) := dk_43 (dk_at dksJ15_compareTo_2_0 18 rfl rfl)
theorem dJ15_compareTo_2_19 : decode cJ15_compareTo_2 19 = .ok (.invokevirtual 335, 3) := dk_182 1 79 (dk_at dksJ15_compareTo_2_0 19 rfl rfl)
theorem dJ15_compareTo_2_22 : decode cJ15_compareTo_2 22 = .ok (.if_icmp .ne 22, 3) := dk_160 0 22 (dk_at dksJ15_compareTo_2_1 0 rfl rfl)
theorem dJ15_compareTo_2_25 : decode cJ15_compareTo_2 25 = .ok (.iload 4, 2) := dk_21 4 (dk_at dksJ15_compareTo_2_1 3 rfl rfl)
theorem dJ15_compareTo_2_27 : decode cJ15_compareTo_2 27 = .ok (.ifCond .ne 11, 3) := dk_154 0 11 (dk_at dksJ15_compareTo_2_1 5 rfl rfl)
theorem dJ15_compareTo_2_30 : decode cJ15_compareTo_2 30 = .ok (.aload_n 2, 1) := dk_44 (dk_at dksJ15_compareTo_2_1 8 rfl rfl)
theorem dJ15_compareTo_2_31 : decode cJ15_compareTo_2 31 = .ok (.aload_n 3, 1) := dk_45 (dk_at dksJ15_compareTo_2_1 9 rfl rfl)
theorem dJ15_compareTo_2_32 : decode cJ15_compareTo_2 32 = .ok (.invokestatic 586, 3) := dk_184 2 74 (dk_at dksJ15_compareTo_2_1 10 rfl rfl)
theorem dJ15_compareTo_2_35 : decode cJ15_compareTo_2 35 = .ok (.goto 8, 3) := dk_167 0 8 (dk_at dksJ15_compareTo_2_1 13 rfl rfl)
theorem dJ15_compareTo_2_38 : decode cJ15_compareTo_2 38 = .ok (.aload_n 2, 1) := dk_44 (dk_at dksJ15_compareTo_2_1 16 rfl rfl)
theorem dJ15_compareTo_2_39 : decode cJ15_compareTo_2 39 = .ok (.aload_n 3, 1) := dk_45 (dk_at dksJ15_compareTo_2_1 17 rfl rfl)
theorem dJ15_compareTo_2_40 : decode cJ15_compareTo_2 40 = .ok (.invokestatic 590, 3) := dk_184 2 78 (dk_at dksJ15_compareTo_2_1 18 rfl rfl)
theorem dJ15_compareTo_2_43 : decode cJ15_compareTo_2 43 = .ok (.ireturn, 1) := dk_172 (dk_at dksJ15_compareTo_2_1 21 rfl rfl)
theorem dJ15_compareTo_2_44 : decode cJ15_compareTo_2 44 = .ok (.iload 4, 2) := dk_21 4 (dk_at dksJ15_compareTo_2_1 22 rfl rfl)
theorem dJ15_compareTo_2_46 : decode cJ15_compareTo_2 46 = .ok (.ifCond .ne 11, 3) := dk_154 0 11 (dk_at dksJ15_compareTo_2_2 0 rfl rfl)
theorem dJ15_compareTo_2_49 : decode cJ15_compareTo_2 49 = .ok (.aload_n 2, 1) := dk_44 (dk_at dksJ15_compareTo_2_2 3 rfl rfl)
theorem dJ15_compareTo_2_50 : decode cJ15_compareTo_2 50 = .ok (.aload_n 3, 1) := dk_45 (dk_at dksJ15_compareTo_2_2 4 rfl rfl)
theorem dJ15_compareTo_2_51 : decode cJ15_compareTo_2 51 = .ok (.invokestatic 591, 3) := dk_184 2 79 (dk_at dksJ15_compareTo_2_2 5 rfl rfl)
theorem dJ15_compareTo_2_54 : decode cJ15_compareTo_2 54 = .ok (.goto 8, 3) := dk_167 0 8 (dk_at dksJ15_compareTo_2_2 8 rfl rfl)
theorem dJ15_compareTo_2_57 : decode cJ15_compareTo_2 57 = .ok (.aload_n 2, 1) := dk_44 (dk_at dksJ15_compareTo_2_2 11 rfl rfl)
theorem dJ15_compareTo_2_58 : decode cJ15_compareTo_2 58 = .ok (.aload_n 3, 1) := dk_45 (dk_at dksJ15_compareTo_2_2 12 rfl rfl)
theorem dJ15_compareTo_2_59 : decode cJ15_compareTo_2 59 = .ok (.invokestatic 594, 3) := dk_184 2 82 (dk_at dksJ15_compareTo_2_2 13 rfl rfl)
theorem dJ15_compareTo_2_62 : decode cJ15_compareTo_2 62 = .ok (.ireturn, 1) := dk_172 (dk_at dksJ15_compareTo_2_2 16 rfl rfl)
abbrev cJ15_checkOffset : ByteArray := prog_32_method_156_code
def yJ15_checkOffset : MethodName := ⟨RJ15, "checkOffset", "(II)V"⟩
def dkwJ15_checkOffset_0 : List UInt8 := [26, 27, 27, 178, 4, 29, 184, 4, 38, 87, 177]
abbrev dktJ15_checkOffset_0 : List UInt8 := dkwJ15_checkOffset_0 ++ []
theorem dksJ15_checkOffset_0 : cJ15_checkOffset.data.toList.drop 0 = dktJ15_checkOffset_0 := by decide +kernel
theorem dJ15_checkOffset_0 : decode cJ15_checkOffset 0 = .ok (.iload_n 0, 1) := dk_26 (dk_at dksJ15_checkOffset_0 0 rfl rfl)
theorem dJ15_checkOffset_1 : decode cJ15_checkOffset 1 = .ok (.iload_n 1, 1) := dk_27 (dk_at dksJ15_checkOffset_0 1 rfl rfl)
theorem dJ15_checkOffset_2 : decode cJ15_checkOffset 2 = .ok (.iload_n 1, 1) := dk_27 (dk_at dksJ15_checkOffset_0 2 rfl rfl)
theorem dJ15_checkOffset_3 : decode cJ15_checkOffset 3 = .ok (.getstatic 1053, 3) := dk_178 4 29 (dk_at dksJ15_checkOffset_0 3 rfl rfl)
theorem dJ15_checkOffset_6 : decode cJ15_checkOffset 6 = .ok (.invokestatic 1062, 3) := dk_184 4 38 (dk_at dksJ15_checkOffset_0 6 rfl rfl)
theorem dJ15_checkOffset_9 : decode cJ15_checkOffset 9 = .ok (.pop, 1) := dk_87 (dk_at dksJ15_checkOffset_0 9 rfl rfl)
theorem dJ15_checkOffset_10 : decode cJ15_checkOffset 10 = .ok (.return_, 1) := dk_177 (dk_at dksJ15_checkOffset_0 10 rfl rfl)
abbrev cJ15_charAt : ByteArray := prog_32_method_56_code
def yJ15_charAt : MethodName := ⟨RJ15, "charAt", "(I)C"⟩
def dkwJ15_charAt_1 : List UInt8 := [172]
abbrev dktJ15_charAt_1 : List UInt8 := dkwJ15_charAt_1 ++ []
def dkwJ15_charAt_0 : List UInt8 := [42, 182, 1, 236, 153, 0, 12, 42, 180, 0, 9, 27, 184, 1, 239, 172, 42, 180, 0, 9, 27, 184, 1, 242]
abbrev dktJ15_charAt_0 : List UInt8 := dkwJ15_charAt_0 ++ dktJ15_charAt_1
theorem dksJ15_charAt_0 : cJ15_charAt.data.toList.drop 0 = dktJ15_charAt_0 := by decide +kernel
theorem dksJ15_charAt_1 : cJ15_charAt.data.toList.drop 24 = dktJ15_charAt_1 := dk_seg dksJ15_charAt_0 24 rfl rfl
theorem dJ15_charAt_0 : decode cJ15_charAt 0 = .ok (.aload_n 0, 1) := dk_42 (dk_at dksJ15_charAt_0 0 rfl rfl)
theorem dJ15_charAt_1 : decode cJ15_charAt 1 = .ok (.invokevirtual 492, 3) := dk_182 1 236 (dk_at dksJ15_charAt_0 1 rfl rfl)
theorem dJ15_charAt_4 : decode cJ15_charAt 4 = .ok (.ifCond .eq 12, 3) := dk_153 0 12 (dk_at dksJ15_charAt_0 4 rfl rfl)
theorem dJ15_charAt_7 : decode cJ15_charAt 7 = .ok (.aload_n 0, 1) := dk_42 (dk_at dksJ15_charAt_0 7 rfl rfl)
theorem dJ15_charAt_8 : decode cJ15_charAt 8 = .ok (.getfield 9, 3) := dk_180 0 9 (dk_at dksJ15_charAt_0 8 rfl rfl)
theorem dJ15_charAt_11 : decode cJ15_charAt 11 = .ok (.iload_n 1, 1) := dk_27 (dk_at dksJ15_charAt_0 11 rfl rfl)
theorem dJ15_charAt_12 : decode cJ15_charAt 12 = .ok (.invokestatic 495, 3) := dk_184 1 239 (dk_at dksJ15_charAt_0 12 rfl rfl)
theorem dJ15_charAt_15 : decode cJ15_charAt 15 = .ok (.ireturn, 1) := dk_172 (dk_at dksJ15_charAt_0 15 rfl rfl)
theorem dJ15_charAt_16 : decode cJ15_charAt 16 = .ok (.aload_n 0, 1) := dk_42 (dk_at dksJ15_charAt_0 16 rfl rfl)
theorem dJ15_charAt_17 : decode cJ15_charAt 17 = .ok (.getfield 9, 3) := dk_180 0 9 (dk_at dksJ15_charAt_0 17 rfl rfl)
theorem dJ15_charAt_20 : decode cJ15_charAt 20 = .ok (.iload_n 1, 1) := dk_27 (dk_at dksJ15_charAt_0 20 rfl rfl)
theorem dJ15_charAt_21 : decode cJ15_charAt 21 = .ok (.invokestatic 498, 3) := dk_184 1 242 (dk_at dksJ15_charAt_0 21 rfl rfl)
theorem dJ15_charAt_24 : decode cJ15_charAt 24 = .ok (.ireturn, 1) := dk_172 (dk_at dksJ15_charAt_1 0 rfl rfl)
abbrev cJ15_isLatin1 : ByteArray := prog_32_method_154_code
def yJ15_isLatin1 : MethodName := ⟨RJ15, "isLatin1", "()Z"⟩
def dkwJ15_isLatin1_0 : List UInt8 := [178, 0, 38, 153, 0, 14, 42, 180, 0, 15, 154, 0, 7, 4, 167, 0, 4, 3, 172]
abbrev dktJ15_isLatin1_0 : List UInt8 := dkwJ15_isLatin1_0 ++ []
theorem dksJ15_isLatin1_0 : cJ15_isLatin1.data.toList.drop 0 = dktJ15_isLatin1_0 := by decide +kernel
theorem dJ15_isLatin1_0 : decode cJ15_isLatin1 0 = .ok (.getstatic 38, 3) := dk_178 0 38 (dk_at dksJ15_isLatin1_0 0 rfl rfl)
theorem dJ15_isLatin1_3 : decode cJ15_isLatin1 3 = .ok (.ifCond .eq 14, 3) := dk_153 0 14 (dk_at dksJ15_isLatin1_0 3 rfl rfl)
theorem dJ15_isLatin1_6 : decode cJ15_isLatin1 6 = .ok (.aload_n 0, 1) := dk_42 (dk_at dksJ15_isLatin1_0 6 rfl rfl)
theorem dJ15_isLatin1_7 : decode cJ15_isLatin1 7 = .ok (.getfield 15, 3) := dk_180 0 15 (dk_at dksJ15_isLatin1_0 7 rfl rfl)
theorem dJ15_isLatin1_10 : decode cJ15_isLatin1 10 = .ok (.ifCond .ne 7, 3) := dk_154 0 7 (dk_at dksJ15_isLatin1_0 10 rfl rfl)
theorem dJ15_isLatin1_13 : decode cJ15_isLatin1 13 = .ok (.iconst 1, 1) := dk_4 (dk_at dksJ15_isLatin1_0 13 rfl rfl)
theorem dJ15_isLatin1_14 : decode cJ15_isLatin1 14 = .ok (.goto 4, 3) := dk_167 0 4 (dk_at dksJ15_isLatin1_0 14 rfl rfl)
theorem dJ15_isLatin1_17 : decode cJ15_isLatin1 17 = .ok (.iconst 0, 1) := dk_3 (dk_at dksJ15_isLatin1_0 17 rfl rfl)
theorem dJ15_isLatin1_18 : decode cJ15_isLatin1 18 = .ok (.ireturn, 1) := dk_172 (dk_at dksJ15_isLatin1_0 18 rfl rfl)
abbrev cJ15_checkIndex : ByteArray := prog_32_method_155_code
def yJ15_checkIndex : MethodName := ⟨RJ15, "checkIndex", "(II)V"⟩
def dkwJ15_checkIndex_0 : List UInt8 := [26, 27, 178, 4, 29, 184, 4, 35, 87, 177]
abbrev dktJ15_checkIndex_0 : List UInt8 := dkwJ15_checkIndex_0 ++ []
theorem dksJ15_checkIndex_0 : cJ15_checkIndex.data.toList.drop 0 = dktJ15_checkIndex_0 := by decide +kernel
theorem dJ15_checkIndex_0 : decode cJ15_checkIndex 0 = .ok (.iload_n 0, 1) := dk_26 (dk_at dksJ15_checkIndex_0 0 rfl rfl)
theorem dJ15_checkIndex_1 : decode cJ15_checkIndex 1 = .ok (.iload_n 1, 1) := dk_27 (dk_at dksJ15_checkIndex_0 1 rfl rfl)
theorem dJ15_checkIndex_2 : decode cJ15_checkIndex 2 = .ok (.getstatic 1053, 3) := dk_178 4 29 (dk_at dksJ15_checkIndex_0 2 rfl rfl)
theorem dJ15_checkIndex_5 : decode cJ15_checkIndex 5 = .ok (.invokestatic 1059, 3) := dk_184 4 35 (dk_at dksJ15_checkIndex_0 5 rfl rfl)
theorem dJ15_checkIndex_8 : decode cJ15_checkIndex 8 = .ok (.pop, 1) := dk_87 (dk_at dksJ15_checkIndex_0 8 rfl rfl)
theorem dJ15_checkIndex_9 : decode cJ15_checkIndex 9 = .ok (.return_, 1) := dk_177 (dk_at dksJ15_checkIndex_0 9 rfl rfl)
abbrev cJ15_equals : ByteArray := prog_32_method_66_code
def yJ15_equals : MethodName := ⟨RJ15, "equals", "(Ljava/lang/Object;)Z"⟩
def dkwJ15_equals_2 : List UInt8 := [184, 2, 29, 153, 0, 7, 4, 167, 0, 4, 3, 172]
abbrev dktJ15_equals_2 : List UInt8 := dkwJ15_equals_2 ++ []
def dkwJ15_equals_1 : List UInt8 := [153, 0, 14, 42, 180, 0, 15, 44, 180, 0, 15, 160, 0, 21, 42, 180, 0, 9, 44, 180, 0, 9]
abbrev dktJ15_equals_1 : List UInt8 := dkwJ15_equals_1 ++ dktJ15_equals_2
def dkwJ15_equals_0 : List UInt8 := [42, 43, 166, 0, 5, 4, 172, 43, 193, 0, 10, 153, 0, 43, 43, 192, 0, 10, 77, 178, 0, 38]
abbrev dktJ15_equals_0 : List UInt8 := dkwJ15_equals_0 ++ dktJ15_equals_1
theorem dksJ15_equals_0 : cJ15_equals.data.toList.drop 0 = dktJ15_equals_0 := by decide +kernel
theorem dksJ15_equals_1 : cJ15_equals.data.toList.drop 22 = dktJ15_equals_1 := dk_seg dksJ15_equals_0 22 rfl rfl
theorem dksJ15_equals_2 : cJ15_equals.data.toList.drop 44 = dktJ15_equals_2 := dk_seg dksJ15_equals_1 22 rfl rfl
theorem dJ15_equals_0 : decode cJ15_equals 0 = .ok (.aload_n 0, 1) := dk_42 (dk_at dksJ15_equals_0 0 rfl rfl)
theorem dJ15_equals_1 : decode cJ15_equals 1 = .ok (.aload_n 1, 1) := dk_43 (dk_at dksJ15_equals_0 1 rfl rfl)
theorem dJ15_equals_2 : decode cJ15_equals 2 = .ok (.if_acmp .ne 5, 3) := dk_166 0 5 (dk_at dksJ15_equals_0 2 rfl rfl)
theorem dJ15_equals_5 : decode cJ15_equals 5 = .ok (.iconst 1, 1) := dk_4 (dk_at dksJ15_equals_0 5 rfl rfl)
theorem dJ15_equals_6 : decode cJ15_equals 6 = .ok (.ireturn, 1) := dk_172 (dk_at dksJ15_equals_0 6 rfl rfl)
theorem dJ15_equals_7 : decode cJ15_equals 7 = .ok (.aload_n 1, 1) := dk_43 (dk_at dksJ15_equals_0 7 rfl rfl)
theorem dJ15_equals_8 : decode cJ15_equals 8 = .ok (.instanceof 10, 3) := dk_193 0 10 (dk_at dksJ15_equals_0 8 rfl rfl)
theorem dJ15_equals_11 : decode cJ15_equals 11 = .ok (.ifCond .eq 43, 3) := dk_153 0 43 (dk_at dksJ15_equals_0 11 rfl rfl)
theorem dJ15_equals_14 : decode cJ15_equals 14 = .ok (.aload_n 1, 1) := dk_43 (dk_at dksJ15_equals_0 14 rfl rfl)
theorem dJ15_equals_15 : decode cJ15_equals 15 = .ok (.checkcast 10, 3) := dk_192 0 10 (dk_at dksJ15_equals_0 15 rfl rfl)
theorem dJ15_equals_18 : decode cJ15_equals 18 = .ok (.astore_n 2, 1) := dk_77 (dk_at dksJ15_equals_0 18 rfl rfl)
theorem dJ15_equals_19 : decode cJ15_equals 19 = .ok (.getstatic 38, 3) := dk_178 0 38 (dk_at dksJ15_equals_0 19 rfl rfl)
theorem dJ15_equals_22 : decode cJ15_equals 22 = .ok (.ifCond .eq 14, 3) := dk_153 0 14 (dk_at dksJ15_equals_1 0 rfl rfl)
theorem dJ15_equals_25 : decode cJ15_equals 25 = .ok (.aload_n 0, 1) := dk_42 (dk_at dksJ15_equals_1 3 rfl rfl)
theorem dJ15_equals_26 : decode cJ15_equals 26 = .ok (.getfield 15, 3) := dk_180 0 15 (dk_at dksJ15_equals_1 4 rfl rfl)
theorem dJ15_equals_29 : decode cJ15_equals 29 = .ok (.aload_n 2, 1) := dk_44 (dk_at dksJ15_equals_1 7 rfl rfl)
theorem dJ15_equals_30 : decode cJ15_equals 30 = .ok (.getfield 15, 3) := dk_180 0 15 (dk_at dksJ15_equals_1 8 rfl rfl)
theorem dJ15_equals_33 : decode cJ15_equals 33 = .ok (.if_icmp .ne 21, 3) := dk_160 0 21 (dk_at dksJ15_equals_1 11 rfl rfl)
theorem dJ15_equals_36 : decode cJ15_equals 36 = .ok (.aload_n 0, 1) := dk_42 (dk_at dksJ15_equals_1 14 rfl rfl)
theorem dJ15_equals_37 : decode cJ15_equals 37 = .ok (.getfield 9, 3) := dk_180 0 9 (dk_at dksJ15_equals_1 15 rfl rfl)
theorem dJ15_equals_40 : decode cJ15_equals 40 = .ok (.aload_n 2, 1) := dk_44 (dk_at dksJ15_equals_1 18 rfl rfl)
theorem dJ15_equals_41 : decode cJ15_equals 41 = .ok (.getfield 9, 3) := dk_180 0 9 (dk_at dksJ15_equals_1 19 rfl rfl)
theorem dJ15_equals_44 : decode cJ15_equals 44 = .ok (.invokestatic 541, 3) := dk_184 2 29 (dk_at dksJ15_equals_2 0 rfl rfl)
theorem dJ15_equals_47 : decode cJ15_equals 47 = .ok (.ifCond .eq 7, 3) := dk_153 0 7 (dk_at dksJ15_equals_2 3 rfl rfl)
theorem dJ15_equals_50 : decode cJ15_equals 50 = .ok (.iconst 1, 1) := dk_4 (dk_at dksJ15_equals_2 6 rfl rfl)
theorem dJ15_equals_51 : decode cJ15_equals 51 = .ok (.goto 4, 3) := dk_167 0 4 (dk_at dksJ15_equals_2 7 rfl rfl)
theorem dJ15_equals_54 : decode cJ15_equals 54 = .ok (.iconst 0, 1) := dk_3 (dk_at dksJ15_equals_2 10 rfl rfl)
theorem dJ15_equals_55 : decode cJ15_equals 55 = .ok (.ireturn, 1) := dk_172 (dk_at dksJ15_equals_2 11 rfl rfl)
abbrev cJ15_isEmpty : ByteArray := prog_32_method_55_code
def yJ15_isEmpty : MethodName := ⟨RJ15, "isEmpty", "()Z"⟩
def dkwJ15_isEmpty_0 : List UInt8 := [42, 180, 0, 9, 190, 154, 0, 7, 4, 167, 0, 4, 3, 172]
abbrev dktJ15_isEmpty_0 : List UInt8 := dkwJ15_isEmpty_0 ++ []
theorem dksJ15_isEmpty_0 : cJ15_isEmpty.data.toList.drop 0 = dktJ15_isEmpty_0 := by decide +kernel
theorem dJ15_isEmpty_0 : decode cJ15_isEmpty 0 = .ok (.aload_n 0, 1) := dk_42 (dk_at dksJ15_isEmpty_0 0 rfl rfl)
theorem dJ15_isEmpty_1 : decode cJ15_isEmpty 1 = .ok (.getfield 9, 3) := dk_180 0 9 (dk_at dksJ15_isEmpty_0 1 rfl rfl)
theorem dJ15_isEmpty_4 : decode cJ15_isEmpty 4 = .ok (.arraylength, 1) := dk_190 (dk_at dksJ15_isEmpty_0 4 rfl rfl)
theorem dJ15_isEmpty_5 : decode cJ15_isEmpty 5 = .ok (.ifCond .ne 7, 3) := dk_154 0 7 (dk_at dksJ15_isEmpty_0 5 rfl rfl)
theorem dJ15_isEmpty_8 : decode cJ15_isEmpty 8 = .ok (.iconst 1, 1) := dk_4 (dk_at dksJ15_isEmpty_0 8 rfl rfl)
theorem dJ15_isEmpty_9 : decode cJ15_isEmpty 9 = .ok (.goto 4, 3) := dk_167 0 4 (dk_at dksJ15_isEmpty_0 9 rfl rfl)
theorem dJ15_isEmpty_12 : decode cJ15_isEmpty 12 = .ok (.iconst 0, 1) := dk_3 (dk_at dksJ15_isEmpty_0 12 rfl rfl)
theorem dJ15_isEmpty_13 : decode cJ15_isEmpty 13 = .ok (.ireturn, 1) := dk_172 (dk_at dksJ15_isEmpty_0 13 rfl rfl)
abbrev cJ15_valueOf : ByteArray := prog_32_method_133_code
def yJ15_valueOf : MethodName := ⟨RJ15, "valueOf", "(Ljava/lang/Object;)Ljava/lang/String;"⟩
def dkwJ15_valueOf_0 : List UInt8 := [42, 199, 0, 9, 19, 3, 237, 167, 0, 7, 42, 182, 3, 239, 176]
abbrev dktJ15_valueOf_0 : List UInt8 := dkwJ15_valueOf_0 ++ []
theorem dksJ15_valueOf_0 : cJ15_valueOf.data.toList.drop 0 = dktJ15_valueOf_0 := by decide +kernel
theorem dJ15_valueOf_0 : decode cJ15_valueOf 0 = .ok (.aload_n 0, 1) := dk_42 (dk_at dksJ15_valueOf_0 0 rfl rfl)
theorem dJ15_valueOf_1 : decode cJ15_valueOf 1 = .ok (.ifnonnull 9, 3) := dk_199 0 9 (dk_at dksJ15_valueOf_0 1 rfl rfl)
theorem dJ15_valueOf_4 : decode cJ15_valueOf 4 = .ok (.ldc_w 1005, 3) := dk_19 3 237 (dk_at dksJ15_valueOf_0 4 rfl rfl)
theorem dJ15_valueOf_7 : decode cJ15_valueOf 7 = .ok (.goto 7, 3) := dk_167 0 7 (dk_at dksJ15_valueOf_0 7 rfl rfl)
theorem dJ15_valueOf_10 : decode cJ15_valueOf 10 = .ok (.aload_n 0, 1) := dk_42 (dk_at dksJ15_valueOf_0 10 rfl rfl)
theorem dJ15_valueOf_11 : decode cJ15_valueOf 11 = .ok (.invokevirtual 1007, 3) := dk_182 3 239 (dk_at dksJ15_valueOf_0 11 rfl rfl)
theorem dJ15_valueOf_14 : decode cJ15_valueOf 14 = .ok (.areturn, 1) := dk_176 (dk_at dksJ15_valueOf_0 14 rfl rfl)
abbrev cJ15_init_3 : ByteArray := prog_32_method_151_code
def yJ15_init_3 : MethodName := ⟨RJ15, "<init>", "([BB)V"⟩
def dkwJ15_init_3_0 : List UInt8 := [42, 183, 0, 1, 42, 43, 181, 0, 9, 42, 28, 181, 0, 15, 177]
abbrev dktJ15_init_3_0 : List UInt8 := dkwJ15_init_3_0 ++ []
theorem dksJ15_init_3_0 : cJ15_init_3.data.toList.drop 0 = dktJ15_init_3_0 := by decide +kernel
theorem dJ15_init_3_0 : decode cJ15_init_3 0 = .ok (.aload_n 0, 1) := dk_42 (dk_at dksJ15_init_3_0 0 rfl rfl)
theorem dJ15_init_3_1 : decode cJ15_init_3 1 = .ok (.invokespecial 1, 3) := dk_183 0 1 (dk_at dksJ15_init_3_0 1 rfl rfl)
theorem dJ15_init_3_4 : decode cJ15_init_3 4 = .ok (.aload_n 0, 1) := dk_42 (dk_at dksJ15_init_3_0 4 rfl rfl)
theorem dJ15_init_3_5 : decode cJ15_init_3 5 = .ok (.aload_n 1, 1) := dk_43 (dk_at dksJ15_init_3_0 5 rfl rfl)
theorem dJ15_init_3_6 : decode cJ15_init_3 6 = .ok (.putfield 9, 3) := dk_181 0 9 (dk_at dksJ15_init_3_0 6 rfl rfl)
theorem dJ15_init_3_9 : decode cJ15_init_3 9 = .ok (.aload_n 0, 1) := dk_42 (dk_at dksJ15_init_3_0 9 rfl rfl)
theorem dJ15_init_3_10 : decode cJ15_init_3 10 = .ok (.iload_n 2, 1) := dk_28 (dk_at dksJ15_init_3_0 10 rfl rfl)
theorem dJ15_init_3_11 : decode cJ15_init_3 11 = .ok (.putfield 15, 3) := dk_181 0 15 (dk_at dksJ15_init_3_0 11 rfl rfl)
theorem dJ15_init_3_14 : decode cJ15_init_3 14 = .ok (.return_, 1) := dk_177 (dk_at dksJ15_init_3_0 14 rfl rfl)
abbrev cJ15_toString : ByteArray := prog_32_method_126_code
def yJ15_toString : MethodName := ⟨RJ15, "toString", "()Ljava/lang/String;"⟩
theorem dJ15_toString_0 : decode cJ15_toString 0 = .ok (.aload_n 0, 1) := by decide +kernel
theorem dJ15_toString_1 : decode cJ15_toString 1 = .ok (.areturn, 1) := by decide +kernel
theorem q133 : (Jvm.Cond.initialized "java/lang/String") ∈ lw_all := lw_g (lw_at lw_m1 19 rfl) rfl
theorem q438 : (Jvm.Cond.laysStatic "java/lang/String" "COMPACT_STRINGS" "Z") ∈ lw_tbl := lw_at lw_m2 84 rfl
theorem q449 : (Jvm.Cond.fieldLink "java/lang/String" (1048 : Nat) "java/lang/AbstractStringBuilder" "maybeLatin1" "Z") ∈ lw_all := lw_g (lw_at lw_m2 95 rfl) rfl
theorem q523 : (Jvm.Cond.static ({ cls := "java/lang/String", name := "checkBoundsBeginEnd", desc := "(III)V" } : Jvm.MethodName)) ∈ lw_all := lw_g (lw_at lw_m2 169 rfl) rfl
theorem q524 : (Jvm.Cond.code ({ cls := "java/lang/String", name := "checkBoundsBeginEnd", desc := "(III)V" } : Jvm.MethodName) prog_32_method_158_code (3 : Nat) (Option.none : Option Jvm.ClassFile.FieldType)) ∈ lw_all := lw_g (lw_at lw_m2 170 rfl) rfl
theorem q525 : (Jvm.Cond.fieldLink "java/lang/String" (1053 : Nat) "jdk/internal/util/Preconditions" "SIOOBE_FORMATTER" "Ljava/util/function/BiFunction;") ∈ lw_all := lw_g (lw_at lw_m2 171 rfl) rfl
theorem q527 : (Jvm.Cond.methodLink "java/lang/String" (1062 : Nat) ({ cls := "jdk/internal/util/Preconditions", name := "checkFromToIndex", desc := "(IIILjava/util/function/BiFunction;)I" } : Jvm.MethodName)) ∈ lw_all := lw_g (lw_at lw_m2 173 rfl) rfl
theorem q540 : (Jvm.Cond.instanceMethod ({ cls := "java/lang/String", name := "length", desc := "()I" } : Jvm.MethodName)) ∈ lw_all := lw_g (lw_at lw_m2 186 rfl) rfl
theorem q541 : (Jvm.Cond.selects "java/lang/String" ({ cls := "java/lang/String", name := "length", desc := "()I" } : Jvm.MethodName) ({ cls := "java/lang/String", name := "length", desc := "()I" } : Jvm.MethodName)) ∈ lw_all := lw_g (lw_at lw_m2 187 rfl) rfl
theorem q542 : (Jvm.Cond.code ({ cls := "java/lang/String", name := "length", desc := "()I" } : Jvm.MethodName) prog_32_method_54_code (1 : Nat) (Option.some Jvm.ClassFile.FieldType.int)) ∈ lw_all := lw_g (lw_at lw_m2 188 rfl) rfl
theorem q543 : (Jvm.Cond.methodLink "java/lang/String" (335 : Nat) ({ cls := "java/lang/String", name := "coder", desc := "()B" } : Jvm.MethodName)) ∈ lw_all := lw_g (lw_at lw_m2 189 rfl) rfl
theorem q544 : (Jvm.Cond.instanceMethod ({ cls := "java/lang/String", name := "coder", desc := "()B" } : Jvm.MethodName)) ∈ lw_all := lw_g (lw_at lw_m2 190 rfl) rfl
theorem q545 : (Jvm.Cond.selects "java/lang/String" ({ cls := "java/lang/String", name := "coder", desc := "()B" } : Jvm.MethodName) ({ cls := "java/lang/String", name := "coder", desc := "()B" } : Jvm.MethodName)) ∈ lw_all := lw_g (lw_at lw_m2 191 rfl) rfl
theorem q546 : (Jvm.Cond.code ({ cls := "java/lang/String", name := "coder", desc := "()B" } : Jvm.MethodName) prog_32_method_152_code (1 : Nat) (Option.some Jvm.ClassFile.FieldType.byte)) ∈ lw_all := lw_g (lw_at lw_m2 192 rfl) rfl
theorem q547 : (Jvm.Cond.fieldLink "java/lang/String" (38 : Nat) "java/lang/String" "COMPACT_STRINGS" "Z") ∈ lw_all := lw_g (lw_at lw_m2 193 rfl) rfl
theorem q571 : (Jvm.Cond.static ({ cls := "java/lang/String", name := "checkBoundsOffCount", desc := "(III)I" } : Jvm.MethodName)) ∈ lw_all := lw_g (lw_at lw_m2 217 rfl) rfl
theorem q572 : (Jvm.Cond.code ({ cls := "java/lang/String", name := "checkBoundsOffCount", desc := "(III)I" } : Jvm.MethodName) prog_32_method_157_code (3 : Nat) (Option.some Jvm.ClassFile.FieldType.int)) ∈ lw_all := lw_g (lw_at lw_m2 218 rfl) rfl
theorem q573 : (Jvm.Cond.methodLink "java/lang/String" (1065 : Nat) ({ cls := "jdk/internal/util/Preconditions", name := "checkFromIndexSize", desc := "(IIILjava/util/function/BiFunction;)I" } : Jvm.MethodName)) ∈ lw_all := lw_g (lw_at lw_m2 219 rfl) rfl
theorem q577 : (Jvm.Cond.instanceMethod ({ cls := "java/lang/String", name := "getBytes", desc := "([BIB)V" } : Jvm.MethodName)) ∈ lw_all := lw_g (lw_at lw_m2 223 rfl) rfl
theorem q578 : (Jvm.Cond.selects "java/lang/String" ({ cls := "java/lang/String", name := "getBytes", desc := "([BIB)V" } : Jvm.MethodName) ({ cls := "java/lang/String", name := "getBytes", desc := "([BIB)V" } : Jvm.MethodName)) ∈ lw_all := lw_g (lw_at lw_m2 224 rfl) rfl
theorem q579 : (Jvm.Cond.code ({ cls := "java/lang/String", name := "getBytes", desc := "([BIB)V" } : Jvm.MethodName) prog_32_method_147_code (4 : Nat) (Option.none : Option Jvm.ClassFile.FieldType)) ∈ lw_all := lw_g (lw_at lw_m2 225 rfl) rfl
theorem q580 : (Jvm.Cond.methodLink "java/lang/String" (212 : Nat) ({ cls := "java/lang/System", name := "arraycopy", desc := "(Ljava/lang/Object;ILjava/lang/Object;II)V" } : Jvm.MethodName)) ∈ lw_all := lw_g (lw_at lw_m2 226 rfl) rfl
theorem q581 : (Jvm.Cond.methodLink "java/lang/String" (106 : Nat) ({ cls := "java/lang/StringLatin1", name := "inflate", desc := "([BI[BII)V" } : Jvm.MethodName)) ∈ lw_all := lw_g (lw_at lw_m2 227 rfl) rfl
theorem q613 : (Jvm.Cond.instantiable "java/lang/String" (4 : Nat)) ∈ lw_all := lw_g (lw_at lw_m3 19 rfl) rfl
theorem q615 : (Jvm.Cond.instanceMethod ({ cls := "java/lang/String", name := "<init>", desc := "(Ljava/lang/StringBuilder;)V" } : Jvm.MethodName)) ∈ lw_all := lw_g (lw_at lw_m3 21 rfl) rfl
theorem q616 : (Jvm.Cond.code ({ cls := "java/lang/String", name := "<init>", desc := "(Ljava/lang/StringBuilder;)V" } : Jvm.MethodName) prog_32_method_53_code (2 : Nat) (Option.none : Option Jvm.ClassFile.FieldType)) ∈ lw_all := lw_g (lw_at lw_m3 22 rfl) rfl
theorem q617 : (Jvm.Cond.methodLink "java/lang/String" (489 : Nat) ({ cls := "java/lang/String", name := "<init>", desc := "(Ljava/lang/AbstractStringBuilder;Ljava/lang/Void;)V" } : Jvm.MethodName)) ∈ lw_all := lw_g (lw_at lw_m3 23 rfl) rfl
theorem q618 : (Jvm.Cond.instanceMethod ({ cls := "java/lang/String", name := "<init>", desc := "(Ljava/lang/AbstractStringBuilder;Ljava/lang/Void;)V" } : Jvm.MethodName)) ∈ lw_all := lw_g (lw_at lw_m3 24 rfl) rfl
theorem q619 : (Jvm.Cond.code ({ cls := "java/lang/String", name := "<init>", desc := "(Ljava/lang/AbstractStringBuilder;Ljava/lang/Void;)V" } : Jvm.MethodName) prog_32_method_150_code (5 : Nat) (Option.none : Option Jvm.ClassFile.FieldType)) ∈ lw_all := lw_g (lw_at lw_m3 25 rfl) rfl
theorem q620 : (Jvm.Cond.methodLink "java/lang/String" (1 : Nat) ({ cls := "java/lang/Object", name := "<init>", desc := "()V" } : Jvm.MethodName)) ∈ lw_all := lw_g (lw_at lw_m3 26 rfl) rfl
theorem q621 : (Jvm.Cond.methodLink "java/lang/String" (552 : Nat) ({ cls := "java/lang/AbstractStringBuilder", name := "getValue", desc := "()[B" } : Jvm.MethodName)) ∈ lw_all := lw_g (lw_at lw_m3 27 rfl) rfl
theorem q626 : (Jvm.Cond.methodLink "java/lang/String" (549 : Nat) ({ cls := "java/lang/AbstractStringBuilder", name := "length", desc := "()I" } : Jvm.MethodName)) ∈ lw_all := lw_g (lw_at lw_m3 32 rfl) rfl
theorem q634 : (Jvm.Cond.methodLink "java/lang/String" (1047 : Nat) ({ cls := "java/lang/AbstractStringBuilder", name := "isLatin1", desc := "()Z" } : Jvm.MethodName)) ∈ lw_all := lw_g (lw_at lw_m3 40 rfl) rfl
theorem q635 : (Jvm.Cond.methodLink "java/lang/String" (54 : Nat) ({ cls := "java/util/Arrays", name := "copyOfRange", desc := "([BII)[B" } : Jvm.MethodName)) ∈ lw_all := lw_g (lw_at lw_m3 41 rfl) rfl
theorem q673 : (Jvm.Cond.methodLink "java/lang/String" (1051 : Nat) ({ cls := "java/lang/StringUTF16", name := "compress", desc := "([BII)[B" } : Jvm.MethodName)) ∈ lw_all := lw_g (lw_at lw_m3 79 rfl) rfl
theorem q683 : (Jvm.Cond.methodLink "java/lang/String" (47 : Nat) ({ cls := "java/lang/StringUTF16", name := "coderFromArrayLen", desc := "([BI)B" } : Jvm.MethodName)) ∈ lw_all := lw_g (lw_at lw_m3 89 rfl) rfl
theorem q686 : (Jvm.Cond.fieldLink "java/lang/String" (9 : Nat) "java/lang/String" "value" "[B") ∈ lw_all := lw_g (lw_at lw_m3 92 rfl) rfl
theorem q687 : (Jvm.Cond.fieldLink "java/lang/String" (15 : Nat) "java/lang/String" "coder" "B") ∈ lw_all := lw_g (lw_at lw_m3 93 rfl) rfl
theorem q688 : (Jvm.Cond.fieldLink "java/lang/String" (19 : Nat) "java/lang/String" "hash" "I") ∈ lw_all := lw_g (lw_at lw_m3 94 rfl) rfl
theorem q689 : (Jvm.Cond.fieldLink "java/lang/String" (23 : Nat) "java/lang/String" "hashIsZero" "Z") ∈ lw_all := lw_g (lw_at lw_m3 95 rfl) rfl
theorem q690 : (Jvm.Cond.laysFinal "java/lang/String" "java/lang/String" "value" "[B") ∈ lw_all := lw_g (lw_at lw_m3 96 rfl) rfl
theorem q691 : (Jvm.Cond.soleField "java/lang/String" "value") ∈ lw_all := lw_g (lw_at lw_m3 97 rfl) rfl
theorem q692 : (Jvm.Cond.laysFinal "java/lang/String" "java/lang/String" "coder" "B") ∈ lw_all := lw_g (lw_at lw_m3 98 rfl) rfl
theorem q693 : (Jvm.Cond.soleField "java/lang/String" "coder") ∈ lw_all := lw_g (lw_at lw_m3 99 rfl) rfl
theorem q694 : (Jvm.Cond.lays "java/lang/String" "java/lang/String" "hash" "I") ∈ lw_all := lw_g (lw_at lw_m3 100 rfl) rfl
theorem q695 : (Jvm.Cond.soleField "java/lang/String" "hash") ∈ lw_all := lw_g (lw_at lw_m3 101 rfl) rfl
theorem q696 : (Jvm.Cond.lays "java/lang/String" "java/lang/String" "hashIsZero" "Z") ∈ lw_all := lw_g (lw_at lw_m3 102 rfl) rfl
theorem q697 : (Jvm.Cond.soleField "java/lang/String" "hashIsZero") ∈ lw_all := lw_g (lw_at lw_m3 103 rfl) rfl
theorem q698 : (Jvm.Cond.superclass "java/lang/String" "java/lang/Object") ∈ lw_all := lw_g (lw_at lw_m3 104 rfl) rfl
theorem q757 : (Jvm.Cond.selects "java/lang/String" ({ cls := "java/lang/Object", name := "getClass", desc := "()Ljava/lang/Class;" } : Jvm.MethodName) ({ cls := "java/lang/Object", name := "getClass", desc := "()Ljava/lang/Class;" } : Jvm.MethodName)) ∈ lw_all := lw_g (lw_at lw_m3 163 rfl) rfl
theorem q979 : (Jvm.Cond.castable "java/lang/String" "java/lang/Comparable") ∈ lw_tbl := lw_at lw_m4 145 rfl
theorem q980 : (Jvm.Cond.selects "java/lang/String" ({ cls := "java/lang/Comparable", name := "compareTo", desc := "(Ljava/lang/Object;)I" } : Jvm.MethodName) ({ cls := "java/lang/String", name := "compareTo", desc := "(Ljava/lang/Object;)I" } : Jvm.MethodName)) ∈ lw_all := lw_g (lw_at lw_m4 146 rfl) rfl
theorem q981 : (Jvm.Cond.unhidden "java/lang/String" "compareTo" "(Ljava/lang/Object;)I") ∈ lw_tbl := lw_at lw_m4 147 rfl
theorem q982 : (Jvm.Cond.instanceMethod ({ cls := "java/lang/String", name := "compareTo", desc := "(Ljava/lang/Object;)I" } : Jvm.MethodName)) ∈ lw_all := lw_g (lw_at lw_m4 148 rfl) rfl
theorem q983 : (Jvm.Cond.publicMethod ({ cls := "java/lang/String", name := "compareTo", desc := "(Ljava/lang/Object;)I" } : Jvm.MethodName)) ∈ lw_tbl := lw_at lw_m4 149 rfl
theorem q984 : (Jvm.Cond.code ({ cls := "java/lang/String", name := "compareTo", desc := "(Ljava/lang/Object;)I" } : Jvm.MethodName) prog_32_method_162_code (2 : Nat) (Option.some Jvm.ClassFile.FieldType.int)) ∈ lw_all := lw_g (lw_at lw_m4 150 rfl) rfl
theorem q985 : (Jvm.Cond.classLink "java/lang/String" (10 : Nat) "java/lang/String") ∈ lw_all := lw_g (lw_at lw_m4 151 rfl) rfl
theorem q986 : (Jvm.Cond.methodLink "java/lang/String" (1084 : Nat) ({ cls := "java/lang/String", name := "compareTo", desc := "(Ljava/lang/String;)I" } : Jvm.MethodName)) ∈ lw_all := lw_g (lw_at lw_m4 152 rfl) rfl
theorem q987 : (Jvm.Cond.instanceMethod ({ cls := "java/lang/String", name := "compareTo", desc := "(Ljava/lang/String;)I" } : Jvm.MethodName)) ∈ lw_all := lw_g (lw_at lw_m4 153 rfl) rfl
theorem q988 : (Jvm.Cond.selects "java/lang/String" ({ cls := "java/lang/String", name := "compareTo", desc := "(Ljava/lang/String;)I" } : Jvm.MethodName) ({ cls := "java/lang/String", name := "compareTo", desc := "(Ljava/lang/String;)I" } : Jvm.MethodName)) ∈ lw_all := lw_g (lw_at lw_m4 154 rfl) rfl
theorem q989 : (Jvm.Cond.code ({ cls := "java/lang/String", name := "compareTo", desc := "(Ljava/lang/String;)I" } : Jvm.MethodName) prog_32_method_71_code (5 : Nat) (Option.some Jvm.ClassFile.FieldType.int)) ∈ lw_all := lw_g (lw_at lw_m4 155 rfl) rfl
theorem q990 : (Jvm.Cond.methodLink "java/lang/String" (586 : Nat) ({ cls := "java/lang/StringLatin1", name := "compareTo", desc := "([B[B)I" } : Jvm.MethodName)) ∈ lw_all := lw_g (lw_at lw_m4 156 rfl) rfl
theorem q1104 : (Jvm.Cond.methodLink "java/lang/String" (590 : Nat) ({ cls := "java/lang/StringUTF16", name := "compareTo", desc := "([B[B)I" } : Jvm.MethodName)) ∈ lw_all := lw_g (lw_at lw_m5 30 rfl) rfl
theorem q1111 : (Jvm.Cond.methodLink "java/lang/String" (591 : Nat) ({ cls := "java/lang/StringLatin1", name := "compareToUTF16", desc := "([B[B)I" } : Jvm.MethodName)) ∈ lw_all := lw_g (lw_at lw_m5 37 rfl) rfl
theorem q1122 : (Jvm.Cond.methodLink "java/lang/String" (594 : Nat) ({ cls := "java/lang/StringUTF16", name := "compareToLatin1", desc := "([B[B)I" } : Jvm.MethodName)) ∈ lw_all := lw_g (lw_at lw_m5 48 rfl) rfl
theorem q1148 : (Jvm.Cond.static ({ cls := "java/lang/String", name := "checkOffset", desc := "(II)V" } : Jvm.MethodName)) ∈ lw_all := lw_g (lw_at lw_m5 74 rfl) rfl
theorem q1149 : (Jvm.Cond.code ({ cls := "java/lang/String", name := "checkOffset", desc := "(II)V" } : Jvm.MethodName) prog_32_method_156_code (2 : Nat) (Option.none : Option Jvm.ClassFile.FieldType)) ∈ lw_all := lw_g (lw_at lw_m5 75 rfl) rfl
theorem q1626 : (Jvm.Cond.instanceMethod ({ cls := "java/lang/String", name := "charAt", desc := "(I)C" } : Jvm.MethodName)) ∈ lw_all := lw_g (lw_at lw_m7 72 rfl) rfl
theorem q1627 : (Jvm.Cond.selects "java/lang/String" ({ cls := "java/lang/String", name := "charAt", desc := "(I)C" } : Jvm.MethodName) ({ cls := "java/lang/String", name := "charAt", desc := "(I)C" } : Jvm.MethodName)) ∈ lw_all := lw_g (lw_at lw_m7 73 rfl) rfl
theorem q1628 : (Jvm.Cond.code ({ cls := "java/lang/String", name := "charAt", desc := "(I)C" } : Jvm.MethodName) prog_32_method_56_code (2 : Nat) (Option.some Jvm.ClassFile.FieldType.char)) ∈ lw_all := lw_g (lw_at lw_m7 74 rfl) rfl
theorem q1629 : (Jvm.Cond.methodLink "java/lang/String" (492 : Nat) ({ cls := "java/lang/String", name := "isLatin1", desc := "()Z" } : Jvm.MethodName)) ∈ lw_all := lw_g (lw_at lw_m7 75 rfl) rfl
theorem q1630 : (Jvm.Cond.instanceMethod ({ cls := "java/lang/String", name := "isLatin1", desc := "()Z" } : Jvm.MethodName)) ∈ lw_all := lw_g (lw_at lw_m7 76 rfl) rfl
theorem q1631 : (Jvm.Cond.selects "java/lang/String" ({ cls := "java/lang/String", name := "isLatin1", desc := "()Z" } : Jvm.MethodName) ({ cls := "java/lang/String", name := "isLatin1", desc := "()Z" } : Jvm.MethodName)) ∈ lw_all := lw_g (lw_at lw_m7 77 rfl) rfl
theorem q1632 : (Jvm.Cond.code ({ cls := "java/lang/String", name := "isLatin1", desc := "()Z" } : Jvm.MethodName) prog_32_method_154_code (1 : Nat) (Option.some Jvm.ClassFile.FieldType.boolean)) ∈ lw_all := lw_g (lw_at lw_m7 78 rfl) rfl
theorem q1633 : (Jvm.Cond.methodLink "java/lang/String" (495 : Nat) ({ cls := "java/lang/StringLatin1", name := "charAt", desc := "([BI)C" } : Jvm.MethodName)) ∈ lw_all := lw_g (lw_at lw_m7 79 rfl) rfl
theorem q1637 : (Jvm.Cond.static ({ cls := "java/lang/String", name := "checkIndex", desc := "(II)V" } : Jvm.MethodName)) ∈ lw_all := lw_g (lw_at lw_m7 83 rfl) rfl
theorem q1638 : (Jvm.Cond.code ({ cls := "java/lang/String", name := "checkIndex", desc := "(II)V" } : Jvm.MethodName) prog_32_method_155_code (2 : Nat) (Option.none : Option Jvm.ClassFile.FieldType)) ∈ lw_all := lw_g (lw_at lw_m7 84 rfl) rfl
theorem q1639 : (Jvm.Cond.methodLink "java/lang/String" (1059 : Nat) ({ cls := "jdk/internal/util/Preconditions", name := "checkIndex", desc := "(IILjava/util/function/BiFunction;)I" } : Jvm.MethodName)) ∈ lw_all := lw_g (lw_at lw_m7 85 rfl) rfl
theorem q1640 : (Jvm.Cond.methodLink "java/lang/String" (498 : Nat) ({ cls := "java/lang/StringUTF16", name := "charAt", desc := "([BI)C" } : Jvm.MethodName)) ∈ lw_all := lw_g (lw_at lw_m7 86 rfl) rfl
theorem q1851 : (Jvm.Cond.selects "java/lang/String" ({ cls := "java/lang/Object", name := "equals", desc := "(Ljava/lang/Object;)Z" } : Jvm.MethodName) ({ cls := "java/lang/String", name := "equals", desc := "(Ljava/lang/Object;)Z" } : Jvm.MethodName)) ∈ lw_all := lw_g (lw_at lw_m8 57 rfl) rfl
theorem q1852 : (Jvm.Cond.instanceMethod ({ cls := "java/lang/String", name := "equals", desc := "(Ljava/lang/Object;)Z" } : Jvm.MethodName)) ∈ lw_all := lw_g (lw_at lw_m8 58 rfl) rfl
theorem q1853 : (Jvm.Cond.code ({ cls := "java/lang/String", name := "equals", desc := "(Ljava/lang/Object;)Z" } : Jvm.MethodName) prog_32_method_66_code (3 : Nat) (Option.some Jvm.ClassFile.FieldType.boolean)) ∈ lw_all := lw_g (lw_at lw_m8 59 rfl) rfl
theorem q1854 : (Jvm.Cond.methodLink "java/lang/String" (541 : Nat) ({ cls := "java/lang/StringLatin1", name := "equals", desc := "([B[B)Z" } : Jvm.MethodName)) ∈ lw_all := lw_g (lw_at lw_m8 60 rfl) rfl
theorem q2411 : (Jvm.Cond.instanceMethod ({ cls := "java/lang/String", name := "isEmpty", desc := "()Z" } : Jvm.MethodName)) ∈ lw_all := lw_g (lw_at lw_m10 137 rfl) rfl
theorem q2412 : (Jvm.Cond.selects "java/lang/String" ({ cls := "java/lang/String", name := "isEmpty", desc := "()Z" } : Jvm.MethodName) ({ cls := "java/lang/String", name := "isEmpty", desc := "()Z" } : Jvm.MethodName)) ∈ lw_all := lw_g (lw_at lw_m10 138 rfl) rfl
theorem q2413 : (Jvm.Cond.code ({ cls := "java/lang/String", name := "isEmpty", desc := "()Z" } : Jvm.MethodName) prog_32_method_55_code (1 : Nat) (Option.some Jvm.ClassFile.FieldType.boolean)) ∈ lw_all := lw_g (lw_at lw_m10 139 rfl) rfl
theorem q2420 : (Jvm.Cond.static ({ cls := "java/lang/String", name := "valueOf", desc := "(Ljava/lang/Object;)Ljava/lang/String;" } : Jvm.MethodName)) ∈ lw_all := lw_g (lw_at lw_m10 146 rfl) rfl
theorem q2421 : (Jvm.Cond.code ({ cls := "java/lang/String", name := "valueOf", desc := "(Ljava/lang/Object;)Ljava/lang/String;" } : Jvm.MethodName) prog_32_method_133_code (1 : Nat) (Option.some (Jvm.ClassFile.FieldType.object "java/lang/String"))) ∈ lw_all := lw_g (lw_at lw_m10 147 rfl) rfl
theorem q2422 : (Jvm.Cond.stringRef "java/lang/String" (1005 : Nat) "null") ∈ lw_tbl := lw_at lw_m10 148 rfl
theorem q2424 : (Jvm.Cond.methodLink "java/lang/String" (1007 : Nat) ({ cls := "java/lang/Object", name := "toString", desc := "()Ljava/lang/String;" } : Jvm.MethodName)) ∈ lw_all := lw_g (lw_at lw_m10 150 rfl) rfl
theorem q2506 : (Jvm.Cond.instanceMethod ({ cls := "java/lang/String", name := "<init>", desc := "([BB)V" } : Jvm.MethodName)) ∈ lw_all := lw_g (lw_at lw_m10 232 rfl) rfl
theorem q2507 : (Jvm.Cond.code ({ cls := "java/lang/String", name := "<init>", desc := "([BB)V" } : Jvm.MethodName) prog_32_method_151_code (3 : Nat) (Option.none : Option Jvm.ClassFile.FieldType)) ∈ lw_all := lw_g (lw_at lw_m10 233 rfl) rfl
theorem q2509 : (Jvm.Cond.selects "java/lang/String" ({ cls := "java/lang/Object", name := "toString", desc := "()Ljava/lang/String;" } : Jvm.MethodName) ({ cls := "java/lang/String", name := "toString", desc := "()Ljava/lang/String;" } : Jvm.MethodName)) ∈ lw_all := lw_g (lw_at lw_m10 235 rfl) rfl
theorem q2510 : (Jvm.Cond.instanceMethod ({ cls := "java/lang/String", name := "toString", desc := "()Ljava/lang/String;" } : Jvm.MethodName)) ∈ lw_all := lw_g (lw_at lw_m10 236 rfl) rfl
theorem q2511 : (Jvm.Cond.code ({ cls := "java/lang/String", name := "toString", desc := "()Ljava/lang/String;" } : Jvm.MethodName) prog_32_method_126_code (1 : Nat) (Option.some (Jvm.ClassFile.FieldType.object "java/lang/String"))) ∈ lw_all := lw_g (lw_at lw_m10 237 rfl) rfl
theorem q3246 : (Jvm.Cond.castable "java/lang/String" "java/lang/Object") ∈ lw_tbl := lw_at lw_m14 12 rfl
theorem in_J15 : ∀ w ∈ wsJ150, w ∈ lw_all := lw_in wsJ150 [690, 692, 694, 696] (by decide +kernel) (by decide +kernel)

/-! jdk/internal/util/ArraysSupport -/
set_option maxRecDepth 100000
def RJ17 : String := "jdk/internal/util/ArraysSupport"
abbrev cJ17_newLength : ByteArray := prog_66_method_27_code
def yJ17_newLength : MethodName := ⟨RJ17, "newLength", "(III)I"⟩
def dkwJ17_newLength_1 : List UInt8 := [184, 0, 201, 172]
abbrev dktJ17_newLength_1 : List UInt8 := dkwJ17_newLength_1 ++ []
def dkwJ17_newLength_0 : List UInt8 := [26, 27, 28, 184, 0, 194, 96, 62, 3, 29, 162, 0, 11, 29, 18, 200, 163, 0, 5, 29, 172, 26, 27]
abbrev dktJ17_newLength_0 : List UInt8 := dkwJ17_newLength_0 ++ dktJ17_newLength_1
theorem dksJ17_newLength_0 : cJ17_newLength.data.toList.drop 0 = dktJ17_newLength_0 := by decide +kernel
theorem dksJ17_newLength_1 : cJ17_newLength.data.toList.drop 23 = dktJ17_newLength_1 := dk_seg dksJ17_newLength_0 23 rfl rfl
theorem dJ17_newLength_0 : decode cJ17_newLength 0 = .ok (.iload_n 0, 1) := dk_26 (dk_at dksJ17_newLength_0 0 rfl rfl)
theorem dJ17_newLength_1 : decode cJ17_newLength 1 = .ok (.iload_n 1, 1) := dk_27 (dk_at dksJ17_newLength_0 1 rfl rfl)
theorem dJ17_newLength_2 : decode cJ17_newLength 2 = .ok (.iload_n 2, 1) := dk_28 (dk_at dksJ17_newLength_0 2 rfl rfl)
theorem dJ17_newLength_3 : decode cJ17_newLength 3 = .ok (.invokestatic 194, 3) := dk_184 0 194 (dk_at dksJ17_newLength_0 3 rfl rfl)
theorem dJ17_newLength_6 : decode cJ17_newLength 6 = .ok (.iadd, 1) := dk_96 (dk_at dksJ17_newLength_0 6 rfl rfl)
theorem dJ17_newLength_7 : decode cJ17_newLength 7 = .ok (.istore_n 3, 1) := dk_62 (dk_at dksJ17_newLength_0 7 rfl rfl)
theorem dJ17_newLength_8 : decode cJ17_newLength 8 = .ok (.iconst 0, 1) := dk_3 (dk_at dksJ17_newLength_0 8 rfl rfl)
theorem dJ17_newLength_9 : decode cJ17_newLength 9 = .ok (.iload_n 3, 1) := dk_29 (dk_at dksJ17_newLength_0 9 rfl rfl)
theorem dJ17_newLength_10 : decode cJ17_newLength 10 = .ok (.if_icmp .ge 11, 3) := dk_162 0 11 (dk_at dksJ17_newLength_0 10 rfl rfl)
theorem dJ17_newLength_13 : decode cJ17_newLength 13 = .ok (.iload_n 3, 1) := dk_29 (dk_at dksJ17_newLength_0 13 rfl rfl)
theorem dJ17_newLength_14 : decode cJ17_newLength 14 = .ok (.ldc 200, 2) := dk_18 200 (dk_at dksJ17_newLength_0 14 rfl rfl)
theorem dJ17_newLength_16 : decode cJ17_newLength 16 = .ok (.if_icmp .gt 5, 3) := dk_163 0 5 (dk_at dksJ17_newLength_0 16 rfl rfl)
theorem dJ17_newLength_19 : decode cJ17_newLength 19 = .ok (.iload_n 3, 1) := dk_29 (dk_at dksJ17_newLength_0 19 rfl rfl)
theorem dJ17_newLength_20 : decode cJ17_newLength 20 = .ok (.ireturn, 1) := dk_172 (dk_at dksJ17_newLength_0 20 rfl rfl)
theorem dJ17_newLength_21 : decode cJ17_newLength 21 = .ok (.iload_n 0, 1) := dk_26 (dk_at dksJ17_newLength_0 21 rfl rfl)
theorem dJ17_newLength_22 : decode cJ17_newLength 22 = .ok (.iload_n 1, 1) := dk_27 (dk_at dksJ17_newLength_0 22 rfl rfl)
theorem dJ17_newLength_23 : decode cJ17_newLength 23 = .ok (.invokestatic 201, 3) := dk_184 0 201 (dk_at dksJ17_newLength_1 0 rfl rfl)
theorem dJ17_newLength_26 : decode cJ17_newLength 26 = .ok (.ireturn, 1) := dk_172 (dk_at dksJ17_newLength_1 3 rfl rfl)
abbrev cJ17_hugeLength : ByteArray := prog_66_method_28_code
def yJ17_hugeLength : MethodName := ⟨RJ17, "hugeLength", "(II)I"⟩
def dkwJ17_hugeLength_2 : List UInt8 := [191, 28, 18, 200, 163, 0, 6, 18, 200, 172, 28, 172]
abbrev dktJ17_hugeLength_2 : List UInt8 := dkwJ17_hugeLength_2 ++ []
def dkwJ17_hugeLength_1 : List UInt8 := [26, 182, 0, 98, 18, 208, 182, 0, 94, 27, 182, 0, 98, 18, 210, 182, 0, 94, 182, 0, 101, 183, 0, 212]
abbrev dktJ17_hugeLength_1 : List UInt8 := dkwJ17_hugeLength_1 ++ dktJ17_hugeLength_2
def dkwJ17_hugeLength_0 : List UInt8 := [26, 27, 96, 61, 28, 156, 0, 44, 187, 0, 204, 89, 187, 0, 89, 89, 183, 0, 91, 18, 206, 182, 0, 94]
abbrev dktJ17_hugeLength_0 : List UInt8 := dkwJ17_hugeLength_0 ++ dktJ17_hugeLength_1
theorem dksJ17_hugeLength_0 : cJ17_hugeLength.data.toList.drop 0 = dktJ17_hugeLength_0 := by decide +kernel
theorem dksJ17_hugeLength_1 : cJ17_hugeLength.data.toList.drop 24 = dktJ17_hugeLength_1 := dk_seg dksJ17_hugeLength_0 24 rfl rfl
theorem dksJ17_hugeLength_2 : cJ17_hugeLength.data.toList.drop 48 = dktJ17_hugeLength_2 := dk_seg dksJ17_hugeLength_1 24 rfl rfl
theorem dJ17_hugeLength_0 : decode cJ17_hugeLength 0 = .ok (.iload_n 0, 1) := dk_26 (dk_at dksJ17_hugeLength_0 0 rfl rfl)
theorem dJ17_hugeLength_1 : decode cJ17_hugeLength 1 = .ok (.iload_n 1, 1) := dk_27 (dk_at dksJ17_hugeLength_0 1 rfl rfl)
theorem dJ17_hugeLength_2 : decode cJ17_hugeLength 2 = .ok (.iadd, 1) := dk_96 (dk_at dksJ17_hugeLength_0 2 rfl rfl)
theorem dJ17_hugeLength_3 : decode cJ17_hugeLength 3 = .ok (.istore_n 2, 1) := dk_61 (dk_at dksJ17_hugeLength_0 3 rfl rfl)
theorem dJ17_hugeLength_4 : decode cJ17_hugeLength 4 = .ok (.iload_n 2, 1) := dk_28 (dk_at dksJ17_hugeLength_0 4 rfl rfl)
theorem dJ17_hugeLength_5 : decode cJ17_hugeLength 5 = .ok (.ifCond .ge 44, 3) := dk_156 0 44 (dk_at dksJ17_hugeLength_0 5 rfl rfl)
theorem dJ17_hugeLength_8 : decode cJ17_hugeLength 8 = .ok (.new 204, 3) := dk_187 0 204 (dk_at dksJ17_hugeLength_0 8 rfl rfl)
theorem dJ17_hugeLength_11 : decode cJ17_hugeLength 11 = .ok (.dup, 1) := dk_89 (dk_at dksJ17_hugeLength_0 11 rfl rfl)
theorem dJ17_hugeLength_12 : decode cJ17_hugeLength 12 = .ok (.new 89, 3) := dk_187 0 89 (dk_at dksJ17_hugeLength_0 12 rfl rfl)
theorem dJ17_hugeLength_15 : decode cJ17_hugeLength 15 = .ok (.dup, 1) := dk_89 (dk_at dksJ17_hugeLength_0 15 rfl rfl)
theorem dJ17_hugeLength_16 : decode cJ17_hugeLength 16 = .ok (.invokespecial 91, 3) := dk_183 0 91 (dk_at dksJ17_hugeLength_0 16 rfl rfl)
theorem dJ17_hugeLength_19 : decode cJ17_hugeLength 19 = .ok (.ldc 206, 2) := dk_18 206 (dk_at dksJ17_hugeLength_0 19 rfl rfl)
theorem dJ17_hugeLength_21 : decode cJ17_hugeLength 21 = .ok (.invokevirtual 94, 3) := dk_182 0 94 (dk_at dksJ17_hugeLength_0 21 rfl rfl)
theorem dJ17_hugeLength_24 : decode cJ17_hugeLength 24 = .ok (.iload_n 0, 1) := dk_26 (dk_at dksJ17_hugeLength_1 0 rfl rfl)
theorem dJ17_hugeLength_25 : decode cJ17_hugeLength 25 = .ok (.invokevirtual 98, 3) := dk_182 0 98 (dk_at dksJ17_hugeLength_1 1 rfl rfl)
theorem dJ17_hugeLength_28 : decode cJ17_hugeLength 28 = .ok (.ldc 208, 2) := dk_18 208 (dk_at dksJ17_hugeLength_1 4 rfl rfl)
theorem dJ17_hugeLength_30 : decode cJ17_hugeLength 30 = .ok (.invokevirtual 94, 3) := dk_182 0 94 (dk_at dksJ17_hugeLength_1 6 rfl rfl)
theorem dJ17_hugeLength_33 : decode cJ17_hugeLength 33 = .ok (.iload_n 1, 1) := dk_27 (dk_at dksJ17_hugeLength_1 9 rfl rfl)
theorem dJ17_hugeLength_34 : decode cJ17_hugeLength 34 = .ok (.invokevirtual 98, 3) := dk_182 0 98 (dk_at dksJ17_hugeLength_1 10 rfl rfl)
theorem dJ17_hugeLength_37 : decode cJ17_hugeLength 37 = .ok (.ldc 210, 2) := dk_18 210 (dk_at dksJ17_hugeLength_1 13 rfl rfl)
theorem dJ17_hugeLength_39 : decode cJ17_hugeLength 39 = .ok (.invokevirtual 94, 3) := dk_182 0 94 (dk_at dksJ17_hugeLength_1 15 rfl rfl)
theorem dJ17_hugeLength_42 : decode cJ17_hugeLength 42 = .ok (.invokevirtual 101, 3) := dk_182 0 101 (dk_at dksJ17_hugeLength_1 18 rfl rfl)
theorem dJ17_hugeLength_45 : decode cJ17_hugeLength 45 = .ok (.invokespecial 212, 3) := dk_183 0 212 (dk_at dksJ17_hugeLength_1 21 rfl rfl)
theorem dJ17_hugeLength_48 : decode cJ17_hugeLength 48 = .ok (.athrow, 1) := dk_191 (dk_at dksJ17_hugeLength_2 0 rfl rfl)
theorem dJ17_hugeLength_49 : decode cJ17_hugeLength 49 = .ok (.iload_n 2, 1) := dk_28 (dk_at dksJ17_hugeLength_2 1 rfl rfl)
theorem dJ17_hugeLength_50 : decode cJ17_hugeLength 50 = .ok (.ldc 200, 2) := dk_18 200 (dk_at dksJ17_hugeLength_2 2 rfl rfl)
theorem dJ17_hugeLength_52 : decode cJ17_hugeLength 52 = .ok (.if_icmp .gt 6, 3) := dk_163 0 6 (dk_at dksJ17_hugeLength_2 4 rfl rfl)
theorem dJ17_hugeLength_55 : decode cJ17_hugeLength 55 = .ok (.ldc 200, 2) := dk_18 200 (dk_at dksJ17_hugeLength_2 7 rfl rfl)
theorem dJ17_hugeLength_57 : decode cJ17_hugeLength 57 = .ok (.ireturn, 1) := dk_172 (dk_at dksJ17_hugeLength_2 9 rfl rfl)
theorem dJ17_hugeLength_58 : decode cJ17_hugeLength 58 = .ok (.iload_n 2, 1) := dk_28 (dk_at dksJ17_hugeLength_2 10 rfl rfl)
theorem dJ17_hugeLength_59 : decode cJ17_hugeLength 59 = .ok (.ireturn, 1) := dk_172 (dk_at dksJ17_hugeLength_2 11 rfl rfl)
abbrev cJ17_mismatch : ByteArray := prog_66_method_13_code
def yJ17_mismatch : MethodName := ⟨RJ17, "mismatch", "([B[BI)I"⟩
def dkwJ17_mismatch_3 : List UInt8 := [172]
abbrev dktJ17_mismatch_3 : List UInt8 := dkwJ17_mismatch_3 ++ []
def dkwJ17_mismatch_2 : List UInt8 := [62, 29, 28, 162, 0, 20, 42, 29, 51, 43, 29, 51, 159, 0, 5, 29, 172, 132, 3, 1, 167, 255, 237, 2]
abbrev dktJ17_mismatch_2 : List UInt8 := dkwJ17_mismatch_2 ++ dktJ17_mismatch_3
def dkwJ17_mismatch_1 : List UInt8 := [43, 178, 0, 126, 133, 28, 178, 0, 129, 184, 0, 122, 62, 29, 155, 0, 5, 29, 172, 28, 29, 2, 130, 100]
abbrev dktJ17_mismatch_1 : List UInt8 := dkwJ17_mismatch_1 ++ dktJ17_mismatch_2
def dkwJ17_mismatch_0 : List UInt8 := [3, 62, 28, 16, 7, 164, 0, 44, 42, 3, 51, 43, 3, 51, 159, 0, 5, 3, 172, 42, 178, 0, 126, 133]
abbrev dktJ17_mismatch_0 : List UInt8 := dkwJ17_mismatch_0 ++ dktJ17_mismatch_1
theorem dksJ17_mismatch_0 : cJ17_mismatch.data.toList.drop 0 = dktJ17_mismatch_0 := by decide +kernel
theorem dksJ17_mismatch_1 : cJ17_mismatch.data.toList.drop 24 = dktJ17_mismatch_1 := dk_seg dksJ17_mismatch_0 24 rfl rfl
theorem dksJ17_mismatch_2 : cJ17_mismatch.data.toList.drop 48 = dktJ17_mismatch_2 := dk_seg dksJ17_mismatch_1 24 rfl rfl
theorem dksJ17_mismatch_3 : cJ17_mismatch.data.toList.drop 72 = dktJ17_mismatch_3 := dk_seg dksJ17_mismatch_2 24 rfl rfl
theorem dJ17_mismatch_0 : decode cJ17_mismatch 0 = .ok (.iconst 0, 1) := dk_3 (dk_at dksJ17_mismatch_0 0 rfl rfl)
theorem dJ17_mismatch_1 : decode cJ17_mismatch 1 = .ok (.istore_n 3, 1) := dk_62 (dk_at dksJ17_mismatch_0 1 rfl rfl)
theorem dJ17_mismatch_2 : decode cJ17_mismatch 2 = .ok (.iload_n 2, 1) := dk_28 (dk_at dksJ17_mismatch_0 2 rfl rfl)
theorem dJ17_mismatch_3 : decode cJ17_mismatch 3 = .ok (.bipush 7, 2) := dk_16 7 (dk_at dksJ17_mismatch_0 3 rfl rfl)
theorem dJ17_mismatch_5 : decode cJ17_mismatch 5 = .ok (.if_icmp .le 44, 3) := dk_164 0 44 (dk_at dksJ17_mismatch_0 5 rfl rfl)
theorem dJ17_mismatch_8 : decode cJ17_mismatch 8 = .ok (.aload_n 0, 1) := dk_42 (dk_at dksJ17_mismatch_0 8 rfl rfl)
theorem dJ17_mismatch_9 : decode cJ17_mismatch 9 = .ok (.iconst 0, 1) := dk_3 (dk_at dksJ17_mismatch_0 9 rfl rfl)
theorem dJ17_mismatch_10 : decode cJ17_mismatch 10 = .ok (.baload, 1) := dk_51 (dk_at dksJ17_mismatch_0 10 rfl rfl)
theorem dJ17_mismatch_11 : decode cJ17_mismatch 11 = .ok (.aload_n 1, 1) := dk_43 (dk_at dksJ17_mismatch_0 11 rfl rfl)
theorem dJ17_mismatch_12 : decode cJ17_mismatch 12 = .ok (.iconst 0, 1) := dk_3 (dk_at dksJ17_mismatch_0 12 rfl rfl)
theorem dJ17_mismatch_13 : decode cJ17_mismatch 13 = .ok (.baload, 1) := dk_51 (dk_at dksJ17_mismatch_0 13 rfl rfl)
theorem dJ17_mismatch_14 : decode cJ17_mismatch 14 = .ok (.if_icmp .eq 5, 3) := dk_159 0 5 (dk_at dksJ17_mismatch_0 14 rfl rfl)
theorem dJ17_mismatch_17 : decode cJ17_mismatch 17 = .ok (.iconst 0, 1) := dk_3 (dk_at dksJ17_mismatch_0 17 rfl rfl)
theorem dJ17_mismatch_18 : decode cJ17_mismatch 18 = .ok (.ireturn, 1) := dk_172 (dk_at dksJ17_mismatch_0 18 rfl rfl)
theorem dJ17_mismatch_19 : decode cJ17_mismatch 19 = .ok (.aload_n 0, 1) := dk_42 (dk_at dksJ17_mismatch_0 19 rfl rfl)
theorem dJ17_mismatch_20 : decode cJ17_mismatch 20 = .ok (.getstatic 126, 3) := dk_178 0 126 (dk_at dksJ17_mismatch_0 20 rfl rfl)
theorem dJ17_mismatch_23 : decode cJ17_mismatch 23 = .ok (.i2l, 1) := dk_133 (dk_at dksJ17_mismatch_0 23 rfl rfl)
theorem dJ17_mismatch_24 : decode cJ17_mismatch 24 = .ok (.aload_n 1, 1) := dk_43 (dk_at dksJ17_mismatch_1 0 rfl rfl)
theorem dJ17_mismatch_25 : decode cJ17_mismatch 25 = .ok (.getstatic 126, 3) := dk_178 0 126 (dk_at dksJ17_mismatch_1 1 rfl rfl)
theorem dJ17_mismatch_28 : decode cJ17_mismatch 28 = .ok (.i2l, 1) := dk_133 (dk_at dksJ17_mismatch_1 4 rfl rfl)
theorem dJ17_mismatch_29 : decode cJ17_mismatch 29 = .ok (.iload_n 2, 1) := dk_28 (dk_at dksJ17_mismatch_1 5 rfl rfl)
theorem dJ17_mismatch_30 : decode cJ17_mismatch 30 = .ok (.getstatic 129, 3) := dk_178 0 129 (dk_at dksJ17_mismatch_1 6 rfl rfl)
theorem dJ17_mismatch_33 : decode cJ17_mismatch 33 = .ok (.invokestatic 122, 3) := dk_184 0 122 (dk_at dksJ17_mismatch_1 9 rfl rfl)
theorem dJ17_mismatch_36 : decode cJ17_mismatch 36 = .ok (.istore_n 3, 1) := dk_62 (dk_at dksJ17_mismatch_1 12 rfl rfl)
theorem dJ17_mismatch_37 : decode cJ17_mismatch 37 = .ok (.iload_n 3, 1) := dk_29 (dk_at dksJ17_mismatch_1 13 rfl rfl)
theorem dJ17_mismatch_38 : decode cJ17_mismatch 38 = .ok (.ifCond .lt 5, 3) := dk_155 0 5 (dk_at dksJ17_mismatch_1 14 rfl rfl)
theorem dJ17_mismatch_41 : decode cJ17_mismatch 41 = .ok (.iload_n 3, 1) := dk_29 (dk_at dksJ17_mismatch_1 17 rfl rfl)
theorem dJ17_mismatch_42 : decode cJ17_mismatch 42 = .ok (.ireturn, 1) := dk_172 (dk_at dksJ17_mismatch_1 18 rfl rfl)
theorem dJ17_mismatch_43 : decode cJ17_mismatch 43 = .ok (.iload_n 2, 1) := dk_28 (dk_at dksJ17_mismatch_1 19 rfl rfl)
theorem dJ17_mismatch_44 : decode cJ17_mismatch 44 = .ok (.iload_n 3, 1) := dk_29 (dk_at dksJ17_mismatch_1 20 rfl rfl)
theorem dJ17_mismatch_45 : decode cJ17_mismatch 45 = .ok (.iconst (-1), 1) := dk_2 (dk_at dksJ17_mismatch_1 21 rfl rfl)
theorem dJ17_mismatch_46 : decode cJ17_mismatch 46 = .ok (.ixor, 1) := dk_130 (dk_at dksJ17_mismatch_1 22 rfl rfl)
theorem dJ17_mismatch_47 : decode cJ17_mismatch 47 = .ok (.isub, 1) := dk_100 (dk_at dksJ17_mismatch_1 23 rfl rfl)
theorem dJ17_mismatch_48 : decode cJ17_mismatch 48 = .ok (.istore_n 3, 1) := dk_62 (dk_at dksJ17_mismatch_2 0 rfl rfl)
theorem dJ17_mismatch_49 : decode cJ17_mismatch 49 = .ok (.iload_n 3, 1) := dk_29 (dk_at dksJ17_mismatch_2 1 rfl rfl)
theorem dJ17_mismatch_50 : decode cJ17_mismatch 50 = .ok (.iload_n 2, 1) := dk_28 (dk_at dksJ17_mismatch_2 2 rfl rfl)
theorem dJ17_mismatch_51 : decode cJ17_mismatch 51 = .ok (.if_icmp .ge 20, 3) := dk_162 0 20 (dk_at dksJ17_mismatch_2 3 rfl rfl)
theorem dJ17_mismatch_54 : decode cJ17_mismatch 54 = .ok (.aload_n 0, 1) := dk_42 (dk_at dksJ17_mismatch_2 6 rfl rfl)
theorem dJ17_mismatch_55 : decode cJ17_mismatch 55 = .ok (.iload_n 3, 1) := dk_29 (dk_at dksJ17_mismatch_2 7 rfl rfl)
theorem dJ17_mismatch_56 : decode cJ17_mismatch 56 = .ok (.baload, 1) := dk_51 (dk_at dksJ17_mismatch_2 8 rfl rfl)
theorem dJ17_mismatch_57 : decode cJ17_mismatch 57 = .ok (.aload_n 1, 1) := dk_43 (dk_at dksJ17_mismatch_2 9 rfl rfl)
theorem dJ17_mismatch_58 : decode cJ17_mismatch 58 = .ok (.iload_n 3, 1) := dk_29 (dk_at dksJ17_mismatch_2 10 rfl rfl)
theorem dJ17_mismatch_59 : decode cJ17_mismatch 59 = .ok (.baload, 1) := dk_51 (dk_at dksJ17_mismatch_2 11 rfl rfl)
theorem dJ17_mismatch_60 : decode cJ17_mismatch 60 = .ok (.if_icmp .eq 5, 3) := dk_159 0 5 (dk_at dksJ17_mismatch_2 12 rfl rfl)
theorem dJ17_mismatch_63 : decode cJ17_mismatch 63 = .ok (.iload_n 3, 1) := dk_29 (dk_at dksJ17_mismatch_2 15 rfl rfl)
theorem dJ17_mismatch_64 : decode cJ17_mismatch 64 = .ok (.ireturn, 1) := dk_172 (dk_at dksJ17_mismatch_2 16 rfl rfl)
theorem dJ17_mismatch_65 : decode cJ17_mismatch 65 = .ok (.iinc 3 1, 3) := dk_132 3 1 (dk_at dksJ17_mismatch_2 17 rfl rfl)
theorem dJ17_mismatch_68 : decode cJ17_mismatch 68 = .ok (.goto (-19), 3) := dk_167 255 237 (dk_at dksJ17_mismatch_2 20 rfl rfl)
theorem dJ17_mismatch_71 : decode cJ17_mismatch 71 = .ok (.iconst (-1), 1) := dk_2 (dk_at dksJ17_mismatch_2 23 rfl rfl)
theorem dJ17_mismatch_72 : decode cJ17_mismatch 72 = .ok (.ireturn, 1) := dk_172 (dk_at dksJ17_mismatch_3 0 rfl rfl)
abbrev cJ17_vectorizedMismatch : ByteArray := prog_66_method_3_code
def yJ17_vectorizedMismatch : MethodName := ⟨RJ17, "vectorizedMismatch", "(Ljava/lang/Object;JLjava/lang/Object;JII)I"⟩
def dkwJ17_vectorizedMismatch_11 : List UInt8 := [54, 10, 21, 10, 2, 130, 172, 21, 10, 2, 130, 172]
abbrev dktJ17_vectorizedMismatch_11 : List UInt8 := dkwJ17_vectorizedMismatch_11 ++ []
def dkwJ17_vectorizedMismatch_10 : List UInt8 := [178, 0, 46, 21, 7, 96, 122, 54, 17, 21, 9, 21, 8, 120, 21, 17, 96, 172, 21, 10, 21, 11, 100]
abbrev dktJ17_vectorizedMismatch_10 : List UInt8 := dkwJ17_vectorizedMismatch_10 ++ dktJ17_vectorizedMismatch_11
def dkwJ17_vectorizedMismatch_9 : List UInt8 := [153, 0, 18, 21, 16, 184, 0, 58, 178, 0, 46, 21, 7, 96, 122, 167, 0, 15, 21, 16, 184, 0, 11]
abbrev dktJ17_vectorizedMismatch_9 : List UInt8 := dkwJ17_vectorizedMismatch_9 ++ dktJ17_vectorizedMismatch_10
def dkwJ17_vectorizedMismatch_8 : List UInt8 := [182, 0, 54, 54, 15, 21, 14, 21, 15, 159, 0, 54, 21, 14, 21, 15, 130, 54, 16, 178, 0, 36]
abbrev dktJ17_vectorizedMismatch_8 : List UInt8 := dkwJ17_vectorizedMismatch_8 ++ dktJ17_vectorizedMismatch_9
def dkwJ17_vectorizedMismatch_7 : List UInt8 := [55, 12, 178, 0, 26, 42, 31, 22, 12, 97, 182, 0, 54, 54, 14, 178, 0, 26, 45, 22, 4, 22, 12, 97]
abbrev dktJ17_vectorizedMismatch_7 : List UInt8 := dkwJ17_vectorizedMismatch_7 ++ dktJ17_vectorizedMismatch_8
def dkwJ17_vectorizedMismatch_6 : List UInt8 := [4, 178, 0, 51, 21, 7, 100, 120, 54, 11, 21, 10, 21, 11, 161, 0, 104, 21, 9, 133, 178, 0, 20, 121]
abbrev dktJ17_vectorizedMismatch_6 : List UInt8 := dkwJ17_vectorizedMismatch_6 ++ dktJ17_vectorizedMismatch_7
def dkwJ17_vectorizedMismatch_5 : List UInt8 := [132, 9, 1, 167, 255, 148, 21, 6, 21, 9, 21, 8, 120, 100, 54, 10, 21, 7, 178, 0, 51, 162, 0, 126]
abbrev dktJ17_vectorizedMismatch_5 : List UInt8 := dkwJ17_vectorizedMismatch_5 ++ dktJ17_vectorizedMismatch_6
def dkwJ17_vectorizedMismatch_4 : List UInt8 := [22, 16, 184, 0, 49, 178, 0, 46, 21, 7, 96, 122, 54, 18, 21, 9, 21, 8, 120, 21, 18, 96, 172]
abbrev dktJ17_vectorizedMismatch_4 : List UInt8 := dkwJ17_vectorizedMismatch_4 ++ dktJ17_vectorizedMismatch_5
def dkwJ17_vectorizedMismatch_3 : List UInt8 := [55, 16, 178, 0, 36, 153, 0, 18, 22, 16, 184, 0, 40, 178, 0, 46, 21, 7, 96, 122, 167, 0, 15]
abbrev dktJ17_vectorizedMismatch_3 : List UInt8 := dkwJ17_vectorizedMismatch_3 ++ dktJ17_vectorizedMismatch_4
def dkwJ17_vectorizedMismatch_2 : List UInt8 := [22, 4, 22, 10, 97, 182, 0, 30, 55, 14, 22, 12, 22, 14, 148, 153, 0, 54, 22, 12, 22, 14, 131]
abbrev dktJ17_vectorizedMismatch_2 : List UInt8 := dkwJ17_vectorizedMismatch_2 ++ dktJ17_vectorizedMismatch_3
def dkwJ17_vectorizedMismatch_1 : List UInt8 := [178, 0, 20, 121, 55, 10, 178, 0, 26, 42, 31, 22, 10, 97, 182, 0, 30, 55, 12, 178, 0, 26, 45]
abbrev dktJ17_vectorizedMismatch_1 : List UInt8 := dkwJ17_vectorizedMismatch_1 ++ dktJ17_vectorizedMismatch_2
def dkwJ17_vectorizedMismatch_0 : List UInt8 := [178, 0, 20, 21, 7, 100, 54, 8, 3, 54, 9, 21, 9, 21, 6, 21, 8, 122, 162, 0, 104, 21, 9, 133]
abbrev dktJ17_vectorizedMismatch_0 : List UInt8 := dkwJ17_vectorizedMismatch_0 ++ dktJ17_vectorizedMismatch_1
theorem dksJ17_vectorizedMismatch_0 : cJ17_vectorizedMismatch.data.toList.drop 0 = dktJ17_vectorizedMismatch_0 := by decide +kernel
theorem dksJ17_vectorizedMismatch_1 : cJ17_vectorizedMismatch.data.toList.drop 24 = dktJ17_vectorizedMismatch_1 := dk_seg dksJ17_vectorizedMismatch_0 24 rfl rfl
theorem dksJ17_vectorizedMismatch_2 : cJ17_vectorizedMismatch.data.toList.drop 47 = dktJ17_vectorizedMismatch_2 := dk_seg dksJ17_vectorizedMismatch_1 23 rfl rfl
theorem dksJ17_vectorizedMismatch_3 : cJ17_vectorizedMismatch.data.toList.drop 70 = dktJ17_vectorizedMismatch_3 := dk_seg dksJ17_vectorizedMismatch_2 23 rfl rfl
theorem dksJ17_vectorizedMismatch_4 : cJ17_vectorizedMismatch.data.toList.drop 93 = dktJ17_vectorizedMismatch_4 := dk_seg dksJ17_vectorizedMismatch_3 23 rfl rfl
theorem dksJ17_vectorizedMismatch_5 : cJ17_vectorizedMismatch.data.toList.drop 116 = dktJ17_vectorizedMismatch_5 := dk_seg dksJ17_vectorizedMismatch_4 23 rfl rfl
theorem dksJ17_vectorizedMismatch_6 : cJ17_vectorizedMismatch.data.toList.drop 140 = dktJ17_vectorizedMismatch_6 := dk_seg dksJ17_vectorizedMismatch_5 24 rfl rfl
theorem dksJ17_vectorizedMismatch_7 : cJ17_vectorizedMismatch.data.toList.drop 164 = dktJ17_vectorizedMismatch_7 := dk_seg dksJ17_vectorizedMismatch_6 24 rfl rfl
theorem dksJ17_vectorizedMismatch_8 : cJ17_vectorizedMismatch.data.toList.drop 188 = dktJ17_vectorizedMismatch_8 := dk_seg dksJ17_vectorizedMismatch_7 24 rfl rfl
theorem dksJ17_vectorizedMismatch_9 : cJ17_vectorizedMismatch.data.toList.drop 210 = dktJ17_vectorizedMismatch_9 := dk_seg dksJ17_vectorizedMismatch_8 22 rfl rfl
theorem dksJ17_vectorizedMismatch_10 : cJ17_vectorizedMismatch.data.toList.drop 233 = dktJ17_vectorizedMismatch_10 := dk_seg dksJ17_vectorizedMismatch_9 23 rfl rfl
theorem dksJ17_vectorizedMismatch_11 : cJ17_vectorizedMismatch.data.toList.drop 256 = dktJ17_vectorizedMismatch_11 := dk_seg dksJ17_vectorizedMismatch_10 23 rfl rfl
theorem dJ17_vectorizedMismatch_0 : decode cJ17_vectorizedMismatch 0 = .ok (.getstatic 20, 3) := dk_178 0 20 (dk_at dksJ17_vectorizedMismatch_0 0 rfl rfl)
theorem dJ17_vectorizedMismatch_3 : decode cJ17_vectorizedMismatch 3 = .ok (.iload 7, 2) := dk_21 7 (dk_at dksJ17_vectorizedMismatch_0 3 rfl rfl)
theorem dJ17_vectorizedMismatch_5 : decode cJ17_vectorizedMismatch 5 = .ok (.isub, 1) := dk_100 (dk_at dksJ17_vectorizedMismatch_0 5 rfl rfl)
theorem dJ17_vectorizedMismatch_6 : decode cJ17_vectorizedMismatch 6 = .ok (.istore 8, 2) := dk_54 8 (dk_at dksJ17_vectorizedMismatch_0 6 rfl rfl)
theorem dJ17_vectorizedMismatch_8 : decode cJ17_vectorizedMismatch 8 = .ok (.iconst 0, 1) := dk_3 (dk_at dksJ17_vectorizedMismatch_0 8 rfl rfl)
theorem dJ17_vectorizedMismatch_9 : decode cJ17_vectorizedMismatch 9 = .ok (.istore 9, 2) := dk_54 9 (dk_at dksJ17_vectorizedMismatch_0 9 rfl rfl)
theorem dJ17_vectorizedMismatch_11 : decode cJ17_vectorizedMismatch 11 = .ok (.iload 9, 2) := dk_21 9 (dk_at dksJ17_vectorizedMismatch_0 11 rfl rfl)
theorem dJ17_vectorizedMismatch_13 : decode cJ17_vectorizedMismatch 13 = .ok (.iload 6, 2) := dk_21 6 (dk_at dksJ17_vectorizedMismatch_0 13 rfl rfl)
theorem dJ17_vectorizedMismatch_15 : decode cJ17_vectorizedMismatch 15 = .ok (.iload 8, 2) := dk_21 8 (dk_at dksJ17_vectorizedMismatch_0 15 rfl rfl)
theorem dJ17_vectorizedMismatch_17 : decode cJ17_vectorizedMismatch 17 = .ok (.ishr, 1) := dk_122 (dk_at dksJ17_vectorizedMismatch_0 17 rfl rfl)
theorem dJ17_vectorizedMismatch_18 : decode cJ17_vectorizedMismatch 18 = .ok (.if_icmp .ge 104, 3) := dk_162 0 104 (dk_at dksJ17_vectorizedMismatch_0 18 rfl rfl)
theorem dJ17_vectorizedMismatch_21 : decode cJ17_vectorizedMismatch 21 = .ok (.iload 9, 2) := dk_21 9 (dk_at dksJ17_vectorizedMismatch_0 21 rfl rfl)
theorem dJ17_vectorizedMismatch_23 : decode cJ17_vectorizedMismatch 23 = .ok (.i2l, 1) := dk_133 (dk_at dksJ17_vectorizedMismatch_0 23 rfl rfl)
theorem dJ17_vectorizedMismatch_24 : decode cJ17_vectorizedMismatch 24 = .ok (.getstatic 20, 3) := dk_178 0 20 (dk_at dksJ17_vectorizedMismatch_1 0 rfl rfl)
theorem dJ17_vectorizedMismatch_27 : decode cJ17_vectorizedMismatch 27 = .ok (.lshl, 1) := dk_121 (dk_at dksJ17_vectorizedMismatch_1 3 rfl rfl)
theorem dJ17_vectorizedMismatch_28 : decode cJ17_vectorizedMismatch 28 = .ok (.lstore 10, 2) := dk_55 10 (dk_at dksJ17_vectorizedMismatch_1 4 rfl rfl)
theorem dJ17_vectorizedMismatch_30 : decode cJ17_vectorizedMismatch 30 = .ok (.getstatic 26, 3) := dk_178 0 26 (dk_at dksJ17_vectorizedMismatch_1 6 rfl rfl)
theorem dJ17_vectorizedMismatch_33 : decode cJ17_vectorizedMismatch 33 = .ok (.aload_n 0, 1) := dk_42 (dk_at dksJ17_vectorizedMismatch_1 9 rfl rfl)
theorem dJ17_vectorizedMismatch_34 : decode cJ17_vectorizedMismatch 34 = .ok (.lload_n 1, 1) := dk_31 (dk_at dksJ17_vectorizedMismatch_1 10 rfl rfl)
theorem dJ17_vectorizedMismatch_35 : decode cJ17_vectorizedMismatch 35 = .ok (.lload 10, 2) := dk_22 10 (dk_at dksJ17_vectorizedMismatch_1 11 rfl rfl)
theorem dJ17_vectorizedMismatch_37 : decode cJ17_vectorizedMismatch 37 = .ok (.ladd, 1) := dk_97 (dk_at dksJ17_vectorizedMismatch_1 13 rfl rfl)
theorem dJ17_vectorizedMismatch_38 : decode cJ17_vectorizedMismatch 38 = .ok (.invokevirtual 30, 3) := dk_182 0 30 (dk_at dksJ17_vectorizedMismatch_1 14 rfl rfl)
theorem dJ17_vectorizedMismatch_41 : decode cJ17_vectorizedMismatch 41 = .ok (.lstore 12, 2) := dk_55 12 (dk_at dksJ17_vectorizedMismatch_1 17 rfl rfl)
theorem dJ17_vectorizedMismatch_43 : decode cJ17_vectorizedMismatch 43 = .ok (.getstatic 26, 3) := dk_178 0 26 (dk_at dksJ17_vectorizedMismatch_1 19 rfl rfl)
theorem dJ17_vectorizedMismatch_46 : decode cJ17_vectorizedMismatch 46 = .ok (.aload_n 3, 1) := dk_45 (dk_at dksJ17_vectorizedMismatch_1 22 rfl rfl)
theorem dJ17_vectorizedMismatch_47 : decode cJ17_vectorizedMismatch 47 = .ok (.lload 4, 2) := dk_22 4 (dk_at dksJ17_vectorizedMismatch_2 0 rfl rfl)
theorem dJ17_vectorizedMismatch_49 : decode cJ17_vectorizedMismatch 49 = .ok (.lload 10, 2) := dk_22 10 (dk_at dksJ17_vectorizedMismatch_2 2 rfl rfl)
theorem dJ17_vectorizedMismatch_51 : decode cJ17_vectorizedMismatch 51 = .ok (.ladd, 1) := dk_97 (dk_at dksJ17_vectorizedMismatch_2 4 rfl rfl)
theorem dJ17_vectorizedMismatch_52 : decode cJ17_vectorizedMismatch 52 = .ok (.invokevirtual 30, 3) := dk_182 0 30 (dk_at dksJ17_vectorizedMismatch_2 5 rfl rfl)
theorem dJ17_vectorizedMismatch_55 : decode cJ17_vectorizedMismatch 55 = .ok (.lstore 14, 2) := dk_55 14 (dk_at dksJ17_vectorizedMismatch_2 8 rfl rfl)
theorem dJ17_vectorizedMismatch_57 : decode cJ17_vectorizedMismatch 57 = .ok (.lload 12, 2) := dk_22 12 (dk_at dksJ17_vectorizedMismatch_2 10 rfl rfl)
theorem dJ17_vectorizedMismatch_59 : decode cJ17_vectorizedMismatch 59 = .ok (.lload 14, 2) := dk_22 14 (dk_at dksJ17_vectorizedMismatch_2 12 rfl rfl)
theorem dJ17_vectorizedMismatch_61 : decode cJ17_vectorizedMismatch 61 = .ok (.lcmp, 1) := dk_148 (dk_at dksJ17_vectorizedMismatch_2 14 rfl rfl)
theorem dJ17_vectorizedMismatch_62 : decode cJ17_vectorizedMismatch 62 = .ok (.ifCond .eq 54, 3) := dk_153 0 54 (dk_at dksJ17_vectorizedMismatch_2 15 rfl rfl)
theorem dJ17_vectorizedMismatch_65 : decode cJ17_vectorizedMismatch 65 = .ok (.lload 12, 2) := dk_22 12 (dk_at dksJ17_vectorizedMismatch_2 18 rfl rfl)
theorem dJ17_vectorizedMismatch_67 : decode cJ17_vectorizedMismatch 67 = .ok (.lload 14, 2) := dk_22 14 (dk_at dksJ17_vectorizedMismatch_2 20 rfl rfl)
theorem dJ17_vectorizedMismatch_69 : decode cJ17_vectorizedMismatch 69 = .ok (.lxor, 1) := dk_131 (dk_at dksJ17_vectorizedMismatch_2 22 rfl rfl)
theorem dJ17_vectorizedMismatch_70 : decode cJ17_vectorizedMismatch 70 = .ok (.lstore 16, 2) := dk_55 16 (dk_at dksJ17_vectorizedMismatch_3 0 rfl rfl)
theorem dJ17_vectorizedMismatch_72 : decode cJ17_vectorizedMismatch 72 = .ok (.getstatic 36, 3) := dk_178 0 36 (dk_at dksJ17_vectorizedMismatch_3 2 rfl rfl)
theorem dJ17_vectorizedMismatch_75 : decode cJ17_vectorizedMismatch 75 = .ok (.ifCond .eq 18, 3) := dk_153 0 18 (dk_at dksJ17_vectorizedMismatch_3 5 rfl rfl)
theorem dJ17_vectorizedMismatch_78 : decode cJ17_vectorizedMismatch 78 = .ok (.lload 16, 2) := dk_22 16 (dk_at dksJ17_vectorizedMismatch_3 8 rfl rfl)
theorem dJ17_vectorizedMismatch_80 : decode cJ17_vectorizedMismatch 80 = .ok (.invokestatic 40, 3) := dk_184 0 40 (dk_at dksJ17_vectorizedMismatch_3 10 rfl rfl)
theorem dJ17_vectorizedMismatch_83 : decode cJ17_vectorizedMismatch 83 = .ok (.getstatic 46, 3) := dk_178 0 46 (dk_at dksJ17_vectorizedMismatch_3 13 rfl rfl)
theorem dJ17_vectorizedMismatch_86 : decode cJ17_vectorizedMismatch 86 = .ok (.iload 7, 2) := dk_21 7 (dk_at dksJ17_vectorizedMismatch_3 16 rfl rfl)
theorem dJ17_vectorizedMismatch_88 : decode cJ17_vectorizedMismatch 88 = .ok (.iadd, 1) := dk_96 (dk_at dksJ17_vectorizedMismatch_3 18 rfl rfl)
theorem dJ17_vectorizedMismatch_89 : decode cJ17_vectorizedMismatch 89 = .ok (.ishr, 1) := dk_122 (dk_at dksJ17_vectorizedMismatch_3 19 rfl rfl)
theorem dJ17_vectorizedMismatch_90 : decode cJ17_vectorizedMismatch 90 = .ok (.goto 15, 3) := dk_167 0 15 (dk_at dksJ17_vectorizedMismatch_3 20 rfl rfl)
theorem dJ17_vectorizedMismatch_93 : decode cJ17_vectorizedMismatch 93 = .ok (.lload 16, 2) := dk_22 16 (dk_at dksJ17_vectorizedMismatch_4 0 rfl rfl)
theorem dJ17_vectorizedMismatch_95 : decode cJ17_vectorizedMismatch 95 = .ok (.invokestatic 49, 3) := dk_184 0 49 (dk_at dksJ17_vectorizedMismatch_4 2 rfl rfl)
theorem dJ17_vectorizedMismatch_98 : decode cJ17_vectorizedMismatch 98 = .ok (.getstatic 46, 3) := dk_178 0 46 (dk_at dksJ17_vectorizedMismatch_4 5 rfl rfl)
theorem dJ17_vectorizedMismatch_101 : decode cJ17_vectorizedMismatch 101 = .ok (.iload 7, 2) := dk_21 7 (dk_at dksJ17_vectorizedMismatch_4 8 rfl rfl)
theorem dJ17_vectorizedMismatch_103 : decode cJ17_vectorizedMismatch 103 = .ok (.iadd, 1) := dk_96 (dk_at dksJ17_vectorizedMismatch_4 10 rfl rfl)
theorem dJ17_vectorizedMismatch_104 : decode cJ17_vectorizedMismatch 104 = .ok (.ishr, 1) := dk_122 (dk_at dksJ17_vectorizedMismatch_4 11 rfl rfl)
theorem dJ17_vectorizedMismatch_105 : decode cJ17_vectorizedMismatch 105 = .ok (.istore 18, 2) := dk_54 18 (dk_at dksJ17_vectorizedMismatch_4 12 rfl rfl)
theorem dJ17_vectorizedMismatch_107 : decode cJ17_vectorizedMismatch 107 = .ok (.iload 9, 2) := dk_21 9 (dk_at dksJ17_vectorizedMismatch_4 14 rfl rfl)
theorem dJ17_vectorizedMismatch_109 : decode cJ17_vectorizedMismatch 109 = .ok (.iload 8, 2) := dk_21 8 (dk_at dksJ17_vectorizedMismatch_4 16 rfl rfl)
theorem dJ17_vectorizedMismatch_111 : decode cJ17_vectorizedMismatch 111 = .ok (.ishl, 1) := dk_120 (dk_at dksJ17_vectorizedMismatch_4 18 rfl rfl)
theorem dJ17_vectorizedMismatch_112 : decode cJ17_vectorizedMismatch 112 = .ok (.iload 18, 2) := dk_21 18 (dk_at dksJ17_vectorizedMismatch_4 19 rfl rfl)
theorem dJ17_vectorizedMismatch_114 : decode cJ17_vectorizedMismatch 114 = .ok (.iadd, 1) := dk_96 (dk_at dksJ17_vectorizedMismatch_4 21 rfl rfl)
theorem dJ17_vectorizedMismatch_115 : decode cJ17_vectorizedMismatch 115 = .ok (.ireturn, 1) := dk_172 (dk_at dksJ17_vectorizedMismatch_4 22 rfl rfl)
theorem dJ17_vectorizedMismatch_116 : decode cJ17_vectorizedMismatch 116 = .ok (.iinc 9 1, 3) := dk_132 9 1 (dk_at dksJ17_vectorizedMismatch_5 0 rfl rfl)
theorem dJ17_vectorizedMismatch_119 : decode cJ17_vectorizedMismatch 119 = .ok (.goto (-108), 3) := dk_167 255 148 (dk_at dksJ17_vectorizedMismatch_5 3 rfl rfl)
theorem dJ17_vectorizedMismatch_122 : decode cJ17_vectorizedMismatch 122 = .ok (.iload 6, 2) := dk_21 6 (dk_at dksJ17_vectorizedMismatch_5 6 rfl rfl)
theorem dJ17_vectorizedMismatch_124 : decode cJ17_vectorizedMismatch 124 = .ok (.iload 9, 2) := dk_21 9 (dk_at dksJ17_vectorizedMismatch_5 8 rfl rfl)
theorem dJ17_vectorizedMismatch_126 : decode cJ17_vectorizedMismatch 126 = .ok (.iload 8, 2) := dk_21 8 (dk_at dksJ17_vectorizedMismatch_5 10 rfl rfl)
theorem dJ17_vectorizedMismatch_128 : decode cJ17_vectorizedMismatch 128 = .ok (.ishl, 1) := dk_120 (dk_at dksJ17_vectorizedMismatch_5 12 rfl rfl)
theorem dJ17_vectorizedMismatch_129 : decode cJ17_vectorizedMismatch 129 = .ok (.isub, 1) := dk_100 (dk_at dksJ17_vectorizedMismatch_5 13 rfl rfl)
theorem dJ17_vectorizedMismatch_130 : decode cJ17_vectorizedMismatch 130 = .ok (.istore 10, 2) := dk_54 10 (dk_at dksJ17_vectorizedMismatch_5 14 rfl rfl)
theorem dJ17_vectorizedMismatch_132 : decode cJ17_vectorizedMismatch 132 = .ok (.iload 7, 2) := dk_21 7 (dk_at dksJ17_vectorizedMismatch_5 16 rfl rfl)
theorem dJ17_vectorizedMismatch_134 : decode cJ17_vectorizedMismatch 134 = .ok (.getstatic 51, 3) := dk_178 0 51 (dk_at dksJ17_vectorizedMismatch_5 18 rfl rfl)
theorem dJ17_vectorizedMismatch_137 : decode cJ17_vectorizedMismatch 137 = .ok (.if_icmp .ge 126, 3) := dk_162 0 126 (dk_at dksJ17_vectorizedMismatch_5 21 rfl rfl)
theorem dJ17_vectorizedMismatch_140 : decode cJ17_vectorizedMismatch 140 = .ok (.iconst 1, 1) := dk_4 (dk_at dksJ17_vectorizedMismatch_6 0 rfl rfl)
theorem dJ17_vectorizedMismatch_141 : decode cJ17_vectorizedMismatch 141 = .ok (.getstatic 51, 3) := dk_178 0 51 (dk_at dksJ17_vectorizedMismatch_6 1 rfl rfl)
theorem dJ17_vectorizedMismatch_144 : decode cJ17_vectorizedMismatch 144 = .ok (.iload 7, 2) := dk_21 7 (dk_at dksJ17_vectorizedMismatch_6 4 rfl rfl)
theorem dJ17_vectorizedMismatch_146 : decode cJ17_vectorizedMismatch 146 = .ok (.isub, 1) := dk_100 (dk_at dksJ17_vectorizedMismatch_6 6 rfl rfl)
theorem dJ17_vectorizedMismatch_147 : decode cJ17_vectorizedMismatch 147 = .ok (.ishl, 1) := dk_120 (dk_at dksJ17_vectorizedMismatch_6 7 rfl rfl)
theorem dJ17_vectorizedMismatch_148 : decode cJ17_vectorizedMismatch 148 = .ok (.istore 11, 2) := dk_54 11 (dk_at dksJ17_vectorizedMismatch_6 8 rfl rfl)
theorem dJ17_vectorizedMismatch_150 : decode cJ17_vectorizedMismatch 150 = .ok (.iload 10, 2) := dk_21 10 (dk_at dksJ17_vectorizedMismatch_6 10 rfl rfl)
theorem dJ17_vectorizedMismatch_152 : decode cJ17_vectorizedMismatch 152 = .ok (.iload 11, 2) := dk_21 11 (dk_at dksJ17_vectorizedMismatch_6 12 rfl rfl)
theorem dJ17_vectorizedMismatch_154 : decode cJ17_vectorizedMismatch 154 = .ok (.if_icmp .lt 104, 3) := dk_161 0 104 (dk_at dksJ17_vectorizedMismatch_6 14 rfl rfl)
theorem dJ17_vectorizedMismatch_157 : decode cJ17_vectorizedMismatch 157 = .ok (.iload 9, 2) := dk_21 9 (dk_at dksJ17_vectorizedMismatch_6 17 rfl rfl)
theorem dJ17_vectorizedMismatch_159 : decode cJ17_vectorizedMismatch 159 = .ok (.i2l, 1) := dk_133 (dk_at dksJ17_vectorizedMismatch_6 19 rfl rfl)
theorem dJ17_vectorizedMismatch_160 : decode cJ17_vectorizedMismatch 160 = .ok (.getstatic 20, 3) := dk_178 0 20 (dk_at dksJ17_vectorizedMismatch_6 20 rfl rfl)
theorem dJ17_vectorizedMismatch_163 : decode cJ17_vectorizedMismatch 163 = .ok (.lshl, 1) := dk_121 (dk_at dksJ17_vectorizedMismatch_6 23 rfl rfl)
theorem dJ17_vectorizedMismatch_164 : decode cJ17_vectorizedMismatch 164 = .ok (.lstore 12, 2) := dk_55 12 (dk_at dksJ17_vectorizedMismatch_7 0 rfl rfl)
theorem dJ17_vectorizedMismatch_166 : decode cJ17_vectorizedMismatch 166 = .ok (.getstatic 26, 3) := dk_178 0 26 (dk_at dksJ17_vectorizedMismatch_7 2 rfl rfl)
theorem dJ17_vectorizedMismatch_169 : decode cJ17_vectorizedMismatch 169 = .ok (.aload_n 0, 1) := dk_42 (dk_at dksJ17_vectorizedMismatch_7 5 rfl rfl)
theorem dJ17_vectorizedMismatch_170 : decode cJ17_vectorizedMismatch 170 = .ok (.lload_n 1, 1) := dk_31 (dk_at dksJ17_vectorizedMismatch_7 6 rfl rfl)
theorem dJ17_vectorizedMismatch_171 : decode cJ17_vectorizedMismatch 171 = .ok (.lload 12, 2) := dk_22 12 (dk_at dksJ17_vectorizedMismatch_7 7 rfl rfl)
theorem dJ17_vectorizedMismatch_173 : decode cJ17_vectorizedMismatch 173 = .ok (.ladd, 1) := dk_97 (dk_at dksJ17_vectorizedMismatch_7 9 rfl rfl)
theorem dJ17_vectorizedMismatch_174 : decode cJ17_vectorizedMismatch 174 = .ok (.invokevirtual 54, 3) := dk_182 0 54 (dk_at dksJ17_vectorizedMismatch_7 10 rfl rfl)
theorem dJ17_vectorizedMismatch_177 : decode cJ17_vectorizedMismatch 177 = .ok (.istore 14, 2) := dk_54 14 (dk_at dksJ17_vectorizedMismatch_7 13 rfl rfl)
theorem dJ17_vectorizedMismatch_179 : decode cJ17_vectorizedMismatch 179 = .ok (.getstatic 26, 3) := dk_178 0 26 (dk_at dksJ17_vectorizedMismatch_7 15 rfl rfl)
theorem dJ17_vectorizedMismatch_182 : decode cJ17_vectorizedMismatch 182 = .ok (.aload_n 3, 1) := dk_45 (dk_at dksJ17_vectorizedMismatch_7 18 rfl rfl)
theorem dJ17_vectorizedMismatch_183 : decode cJ17_vectorizedMismatch 183 = .ok (.lload 4, 2) := dk_22 4 (dk_at dksJ17_vectorizedMismatch_7 19 rfl rfl)
theorem dJ17_vectorizedMismatch_185 : decode cJ17_vectorizedMismatch 185 = .ok (.lload 12, 2) := dk_22 12 (dk_at dksJ17_vectorizedMismatch_7 21 rfl rfl)
theorem dJ17_vectorizedMismatch_187 : decode cJ17_vectorizedMismatch 187 = .ok (.ladd, 1) := dk_97 (dk_at dksJ17_vectorizedMismatch_7 23 rfl rfl)
theorem dJ17_vectorizedMismatch_188 : decode cJ17_vectorizedMismatch 188 = .ok (.invokevirtual 54, 3) := dk_182 0 54 (dk_at dksJ17_vectorizedMismatch_8 0 rfl rfl)
theorem dJ17_vectorizedMismatch_191 : decode cJ17_vectorizedMismatch 191 = .ok (.istore 15, 2) := dk_54 15 (dk_at dksJ17_vectorizedMismatch_8 3 rfl rfl)
theorem dJ17_vectorizedMismatch_193 : decode cJ17_vectorizedMismatch 193 = .ok (.iload 14, 2) := dk_21 14 (dk_at dksJ17_vectorizedMismatch_8 5 rfl rfl)
theorem dJ17_vectorizedMismatch_195 : decode cJ17_vectorizedMismatch 195 = .ok (.iload 15, 2) := dk_21 15 (dk_at dksJ17_vectorizedMismatch_8 7 rfl rfl)
theorem dJ17_vectorizedMismatch_197 : decode cJ17_vectorizedMismatch 197 = .ok (.if_icmp .eq 54, 3) := dk_159 0 54 (dk_at dksJ17_vectorizedMismatch_8 9 rfl rfl)
theorem dJ17_vectorizedMismatch_200 : decode cJ17_vectorizedMismatch 200 = .ok (.iload 14, 2) := dk_21 14 (dk_at dksJ17_vectorizedMismatch_8 12 rfl rfl)
theorem dJ17_vectorizedMismatch_202 : decode cJ17_vectorizedMismatch 202 = .ok (.iload 15, 2) := dk_21 15 (dk_at dksJ17_vectorizedMismatch_8 14 rfl rfl)
theorem dJ17_vectorizedMismatch_204 : decode cJ17_vectorizedMismatch 204 = .ok (.ixor, 1) := dk_130 (dk_at dksJ17_vectorizedMismatch_8 16 rfl rfl)
theorem dJ17_vectorizedMismatch_205 : decode cJ17_vectorizedMismatch 205 = .ok (.istore 16, 2) := dk_54 16 (dk_at dksJ17_vectorizedMismatch_8 17 rfl rfl)
theorem dJ17_vectorizedMismatch_207 : decode cJ17_vectorizedMismatch 207 = .ok (.getstatic 36, 3) := dk_178 0 36 (dk_at dksJ17_vectorizedMismatch_8 19 rfl rfl)
theorem dJ17_vectorizedMismatch_210 : decode cJ17_vectorizedMismatch 210 = .ok (.ifCond .eq 18, 3) := dk_153 0 18 (dk_at dksJ17_vectorizedMismatch_9 0 rfl rfl)
theorem dJ17_vectorizedMismatch_213 : decode cJ17_vectorizedMismatch 213 = .ok (.iload 16, 2) := dk_21 16 (dk_at dksJ17_vectorizedMismatch_9 3 rfl rfl)
theorem dJ17_vectorizedMismatch_215 : decode cJ17_vectorizedMismatch 215 = .ok (.invokestatic 58, 3) := dk_184 0 58 (dk_at dksJ17_vectorizedMismatch_9 5 rfl rfl)
theorem dJ17_vectorizedMismatch_218 : decode cJ17_vectorizedMismatch 218 = .ok (.getstatic 46, 3) := dk_178 0 46 (dk_at dksJ17_vectorizedMismatch_9 8 rfl rfl)
theorem dJ17_vectorizedMismatch_221 : decode cJ17_vectorizedMismatch 221 = .ok (.iload 7, 2) := dk_21 7 (dk_at dksJ17_vectorizedMismatch_9 11 rfl rfl)
theorem dJ17_vectorizedMismatch_223 : decode cJ17_vectorizedMismatch 223 = .ok (.iadd, 1) := dk_96 (dk_at dksJ17_vectorizedMismatch_9 13 rfl rfl)
theorem dJ17_vectorizedMismatch_224 : decode cJ17_vectorizedMismatch 224 = .ok (.ishr, 1) := dk_122 (dk_at dksJ17_vectorizedMismatch_9 14 rfl rfl)
theorem dJ17_vectorizedMismatch_225 : decode cJ17_vectorizedMismatch 225 = .ok (.goto 15, 3) := dk_167 0 15 (dk_at dksJ17_vectorizedMismatch_9 15 rfl rfl)
theorem dJ17_vectorizedMismatch_228 : decode cJ17_vectorizedMismatch 228 = .ok (.iload 16, 2) := dk_21 16 (dk_at dksJ17_vectorizedMismatch_9 18 rfl rfl)
theorem dJ17_vectorizedMismatch_230 : decode cJ17_vectorizedMismatch 230 = .ok (.invokestatic 11, 3) := dk_184 0 11 (dk_at dksJ17_vectorizedMismatch_9 20 rfl rfl)
theorem dJ17_vectorizedMismatch_233 : decode cJ17_vectorizedMismatch 233 = .ok (.getstatic 46, 3) := dk_178 0 46 (dk_at dksJ17_vectorizedMismatch_10 0 rfl rfl)
theorem dJ17_vectorizedMismatch_236 : decode cJ17_vectorizedMismatch 236 = .ok (.iload 7, 2) := dk_21 7 (dk_at dksJ17_vectorizedMismatch_10 3 rfl rfl)
theorem dJ17_vectorizedMismatch_238 : decode cJ17_vectorizedMismatch 238 = .ok (.iadd, 1) := dk_96 (dk_at dksJ17_vectorizedMismatch_10 5 rfl rfl)
theorem dJ17_vectorizedMismatch_239 : decode cJ17_vectorizedMismatch 239 = .ok (.ishr, 1) := dk_122 (dk_at dksJ17_vectorizedMismatch_10 6 rfl rfl)
theorem dJ17_vectorizedMismatch_240 : decode cJ17_vectorizedMismatch 240 = .ok (.istore 17, 2) := dk_54 17 (dk_at dksJ17_vectorizedMismatch_10 7 rfl rfl)
theorem dJ17_vectorizedMismatch_242 : decode cJ17_vectorizedMismatch 242 = .ok (.iload 9, 2) := dk_21 9 (dk_at dksJ17_vectorizedMismatch_10 9 rfl rfl)
theorem dJ17_vectorizedMismatch_244 : decode cJ17_vectorizedMismatch 244 = .ok (.iload 8, 2) := dk_21 8 (dk_at dksJ17_vectorizedMismatch_10 11 rfl rfl)
theorem dJ17_vectorizedMismatch_246 : decode cJ17_vectorizedMismatch 246 = .ok (.ishl, 1) := dk_120 (dk_at dksJ17_vectorizedMismatch_10 13 rfl rfl)
theorem dJ17_vectorizedMismatch_247 : decode cJ17_vectorizedMismatch 247 = .ok (.iload 17, 2) := dk_21 17 (dk_at dksJ17_vectorizedMismatch_10 14 rfl rfl)
theorem dJ17_vectorizedMismatch_249 : decode cJ17_vectorizedMismatch 249 = .ok (.iadd, 1) := dk_96 (dk_at dksJ17_vectorizedMismatch_10 16 rfl rfl)
theorem dJ17_vectorizedMismatch_250 : decode cJ17_vectorizedMismatch 250 = .ok (.ireturn, 1) := dk_172 (dk_at dksJ17_vectorizedMismatch_10 17 rfl rfl)
theorem dJ17_vectorizedMismatch_251 : decode cJ17_vectorizedMismatch 251 = .ok (.iload 10, 2) := dk_21 10 (dk_at dksJ17_vectorizedMismatch_10 18 rfl rfl)
theorem dJ17_vectorizedMismatch_253 : decode cJ17_vectorizedMismatch 253 = .ok (.iload 11, 2) := dk_21 11 (dk_at dksJ17_vectorizedMismatch_10 20 rfl rfl)
theorem dJ17_vectorizedMismatch_255 : decode cJ17_vectorizedMismatch 255 = .ok (.isub, 1) := dk_100 (dk_at dksJ17_vectorizedMismatch_10 22 rfl rfl)
theorem dJ17_vectorizedMismatch_256 : decode cJ17_vectorizedMismatch 256 = .ok (.istore 10, 2) := dk_54 10 (dk_at dksJ17_vectorizedMismatch_11 0 rfl rfl)
theorem dJ17_vectorizedMismatch_258 : decode cJ17_vectorizedMismatch 258 = .ok (.iload 10, 2) := dk_21 10 (dk_at dksJ17_vectorizedMismatch_11 2 rfl rfl)
theorem dJ17_vectorizedMismatch_260 : decode cJ17_vectorizedMismatch 260 = .ok (.iconst (-1), 1) := dk_2 (dk_at dksJ17_vectorizedMismatch_11 4 rfl rfl)
theorem dJ17_vectorizedMismatch_261 : decode cJ17_vectorizedMismatch 261 = .ok (.ixor, 1) := dk_130 (dk_at dksJ17_vectorizedMismatch_11 5 rfl rfl)
theorem dJ17_vectorizedMismatch_262 : decode cJ17_vectorizedMismatch 262 = .ok (.ireturn, 1) := dk_172 (dk_at dksJ17_vectorizedMismatch_11 6 rfl rfl)
theorem dJ17_vectorizedMismatch_263 : decode cJ17_vectorizedMismatch 263 = .ok (.iload 10, 2) := dk_21 10 (dk_at dksJ17_vectorizedMismatch_11 7 rfl rfl)
theorem dJ17_vectorizedMismatch_265 : decode cJ17_vectorizedMismatch 265 = .ok (.iconst (-1), 1) := dk_2 (dk_at dksJ17_vectorizedMismatch_11 9 rfl rfl)
theorem dJ17_vectorizedMismatch_266 : decode cJ17_vectorizedMismatch 266 = .ok (.ixor, 1) := dk_130 (dk_at dksJ17_vectorizedMismatch_11 10 rfl rfl)
theorem dJ17_vectorizedMismatch_267 : decode cJ17_vectorizedMismatch 267 = .ok (.ireturn, 1) := dk_172 (dk_at dksJ17_vectorizedMismatch_11 11 rfl rfl)
theorem q135 : (Jvm.Cond.initialized "jdk/internal/util/ArraysSupport") ∈ lw_all := lw_g (lw_at lw_m1 21 rfl) rfl
theorem q482 : (Jvm.Cond.static ({ cls := "jdk/internal/util/ArraysSupport", name := "newLength", desc := "(III)I" } : Jvm.MethodName)) ∈ lw_all := lw_g (lw_at lw_m2 128 rfl) rfl
theorem q483 : (Jvm.Cond.code ({ cls := "jdk/internal/util/ArraysSupport", name := "newLength", desc := "(III)I" } : Jvm.MethodName) prog_66_method_27_code (4 : Nat) (Option.some Jvm.ClassFile.FieldType.int)) ∈ lw_all := lw_g (lw_at lw_m2 129 rfl) rfl
theorem q484 : (Jvm.Cond.methodLink "jdk/internal/util/ArraysSupport" (194 : Nat) ({ cls := "java/lang/Math", name := "max", desc := "(II)I" } : Jvm.MethodName)) ∈ lw_all := lw_g (lw_at lw_m2 130 rfl) rfl
theorem q487 : (Jvm.Cond.constant "jdk/internal/util/ArraysSupport" (200 : Nat) (2147483639 : Int32)) ∈ lw_all := lw_g (lw_at lw_m2 133 rfl) rfl
theorem q488 : (Jvm.Cond.methodLink "jdk/internal/util/ArraysSupport" (201 : Nat) ({ cls := "jdk/internal/util/ArraysSupport", name := "hugeLength", desc := "(II)I" } : Jvm.MethodName)) ∈ lw_all := lw_g (lw_at lw_m2 134 rfl) rfl
theorem q489 : (Jvm.Cond.static ({ cls := "jdk/internal/util/ArraysSupport", name := "hugeLength", desc := "(II)I" } : Jvm.MethodName)) ∈ lw_all := lw_g (lw_at lw_m2 135 rfl) rfl
theorem q490 : (Jvm.Cond.code ({ cls := "jdk/internal/util/ArraysSupport", name := "hugeLength", desc := "(II)I" } : Jvm.MethodName) prog_66_method_28_code (3 : Nat) (Option.some Jvm.ClassFile.FieldType.int)) ∈ lw_all := lw_g (lw_at lw_m2 136 rfl) rfl
theorem q998 : (Jvm.Cond.static ({ cls := "jdk/internal/util/ArraysSupport", name := "mismatch", desc := "([B[BI)I" } : Jvm.MethodName)) ∈ lw_all := lw_g (lw_at lw_m4 164 rfl) rfl
theorem q999 : (Jvm.Cond.code ({ cls := "jdk/internal/util/ArraysSupport", name := "mismatch", desc := "([B[BI)I" } : Jvm.MethodName) prog_66_method_13_code (4 : Nat) (Option.some Jvm.ClassFile.FieldType.int)) ∈ lw_all := lw_g (lw_at lw_m4 165 rfl) rfl
theorem q1000 : (Jvm.Cond.fieldLink "jdk/internal/util/ArraysSupport" (126 : Nat) "jdk/internal/misc/Unsafe" "ARRAY_BYTE_BASE_OFFSET" "I") ∈ lw_all := lw_g (lw_at lw_m4 166 rfl) rfl
theorem q1002 : (Jvm.Cond.fieldLink "jdk/internal/util/ArraysSupport" (129 : Nat) "jdk/internal/util/ArraysSupport" "LOG2_ARRAY_BYTE_INDEX_SCALE" "I") ∈ lw_all := lw_g (lw_at lw_m4 168 rfl) rfl
theorem q1003 : (Jvm.Cond.laysStatic "jdk/internal/util/ArraysSupport" "LOG2_ARRAY_BYTE_INDEX_SCALE" "I") ∈ lw_tbl := lw_at lw_m4 169 rfl
theorem q1004 : (Jvm.Cond.methodLink "jdk/internal/util/ArraysSupport" (122 : Nat) ({ cls := "jdk/internal/util/ArraysSupport", name := "vectorizedMismatch", desc := "(Ljava/lang/Object;JLjava/lang/Object;JII)I" } : Jvm.MethodName)) ∈ lw_all := lw_g (lw_at lw_m4 170 rfl) rfl
theorem q1005 : (Jvm.Cond.static ({ cls := "jdk/internal/util/ArraysSupport", name := "vectorizedMismatch", desc := "(Ljava/lang/Object;JLjava/lang/Object;JII)I" } : Jvm.MethodName)) ∈ lw_all := lw_g (lw_at lw_m4 171 rfl) rfl
theorem q1006 : (Jvm.Cond.code ({ cls := "jdk/internal/util/ArraysSupport", name := "vectorizedMismatch", desc := "(Ljava/lang/Object;JLjava/lang/Object;JII)I" } : Jvm.MethodName) prog_66_method_3_code (19 : Nat) (Option.some Jvm.ClassFile.FieldType.int)) ∈ lw_all := lw_g (lw_at lw_m4 172 rfl) rfl
theorem q1007 : (Jvm.Cond.fieldLink "jdk/internal/util/ArraysSupport" (20 : Nat) "jdk/internal/util/ArraysSupport" "LOG2_ARRAY_LONG_INDEX_SCALE" "I") ∈ lw_all := lw_g (lw_at lw_m4 173 rfl) rfl
theorem q1008 : (Jvm.Cond.laysStatic "jdk/internal/util/ArraysSupport" "LOG2_ARRAY_LONG_INDEX_SCALE" "I") ∈ lw_tbl := lw_at lw_m4 174 rfl
theorem q1009 : (Jvm.Cond.fieldLink "jdk/internal/util/ArraysSupport" (26 : Nat) "jdk/internal/util/ArraysSupport" "U" "Ljdk/internal/misc/Unsafe;") ∈ lw_all := lw_g (lw_at lw_m4 175 rfl) rfl
theorem q1010 : (Jvm.Cond.laysStatic "jdk/internal/util/ArraysSupport" "U" "Ljdk/internal/misc/Unsafe;") ∈ lw_tbl := lw_at lw_m4 176 rfl
theorem q1011 : (Jvm.Cond.methodLink "jdk/internal/util/ArraysSupport" (30 : Nat) ({ cls := "jdk/internal/misc/Unsafe", name := "getLongUnaligned", desc := "(Ljava/lang/Object;J)J" } : Jvm.MethodName)) ∈ lw_all := lw_g (lw_at lw_m4 177 rfl) rfl
theorem q1063 : (Jvm.Cond.fieldLink "jdk/internal/util/ArraysSupport" (36 : Nat) "jdk/internal/util/ArraysSupport" "BIG_ENDIAN" "Z") ∈ lw_all := lw_g (lw_at lw_m4 229 rfl) rfl
theorem q1064 : (Jvm.Cond.laysStatic "jdk/internal/util/ArraysSupport" "BIG_ENDIAN" "Z") ∈ lw_tbl := lw_at lw_m4 230 rfl
theorem q1065 : (Jvm.Cond.methodLink "jdk/internal/util/ArraysSupport" (40 : Nat) ({ cls := "java/lang/Long", name := "numberOfLeadingZeros", desc := "(J)I" } : Jvm.MethodName)) ∈ lw_all := lw_g (lw_at lw_m4 231 rfl) rfl
theorem q1072 : (Jvm.Cond.fieldLink "jdk/internal/util/ArraysSupport" (46 : Nat) "jdk/internal/util/ArraysSupport" "LOG2_BYTE_BIT_SIZE" "I") ∈ lw_all := lw_g (lw_at lw_m4 238 rfl) rfl
theorem q1073 : (Jvm.Cond.laysStatic "jdk/internal/util/ArraysSupport" "LOG2_BYTE_BIT_SIZE" "I") ∈ lw_tbl := lw_at lw_m4 239 rfl
theorem q1074 : (Jvm.Cond.methodLink "jdk/internal/util/ArraysSupport" (49 : Nat) ({ cls := "java/lang/Long", name := "numberOfTrailingZeros", desc := "(J)I" } : Jvm.MethodName)) ∈ lw_all := lw_g (lw_at lw_m5 0 rfl) rfl
theorem q1080 : (Jvm.Cond.fieldLink "jdk/internal/util/ArraysSupport" (51 : Nat) "jdk/internal/util/ArraysSupport" "LOG2_ARRAY_INT_INDEX_SCALE" "I") ∈ lw_all := lw_g (lw_at lw_m5 6 rfl) rfl
theorem q1081 : (Jvm.Cond.laysStatic "jdk/internal/util/ArraysSupport" "LOG2_ARRAY_INT_INDEX_SCALE" "I") ∈ lw_tbl := lw_at lw_m5 7 rfl
theorem q1082 : (Jvm.Cond.methodLink "jdk/internal/util/ArraysSupport" (54 : Nat) ({ cls := "jdk/internal/misc/Unsafe", name := "getIntUnaligned", desc := "(Ljava/lang/Object;J)I" } : Jvm.MethodName)) ∈ lw_all := lw_g (lw_at lw_m5 8 rfl) rfl
theorem q1099 : (Jvm.Cond.methodLink "jdk/internal/util/ArraysSupport" (58 : Nat) ({ cls := "java/lang/Integer", name := "numberOfLeadingZeros", desc := "(I)I" } : Jvm.MethodName)) ∈ lw_all := lw_g (lw_at lw_m5 25 rfl) rfl
theorem q1100 : (Jvm.Cond.methodLink "jdk/internal/util/ArraysSupport" (11 : Nat) ({ cls := "java/lang/Integer", name := "numberOfTrailingZeros", desc := "(I)I" } : Jvm.MethodName)) ∈ lw_all := lw_g (lw_at lw_m5 26 rfl) rfl

/-! java/lang/Math -/
set_option maxRecDepth 100000
def RJ18 : String := "java/lang/Math"
abbrev cJ18_max : ByteArray := prog_29_method_65_code
def yJ18_max : MethodName := ⟨RJ18, "max", "(II)I"⟩
def dkwJ18_max_0 : List UInt8 := [26, 27, 161, 0, 7, 26, 167, 0, 4, 27, 172]
abbrev dktJ18_max_0 : List UInt8 := dkwJ18_max_0 ++ []
theorem dksJ18_max_0 : cJ18_max.data.toList.drop 0 = dktJ18_max_0 := by decide +kernel
theorem dJ18_max_0 : decode cJ18_max 0 = .ok (.iload_n 0, 1) := dk_26 (dk_at dksJ18_max_0 0 rfl rfl)
theorem dJ18_max_1 : decode cJ18_max 1 = .ok (.iload_n 1, 1) := dk_27 (dk_at dksJ18_max_0 1 rfl rfl)
theorem dJ18_max_2 : decode cJ18_max 2 = .ok (.if_icmp .lt 7, 3) := dk_161 0 7 (dk_at dksJ18_max_0 2 rfl rfl)
theorem dJ18_max_5 : decode cJ18_max 5 = .ok (.iload_n 0, 1) := dk_26 (dk_at dksJ18_max_0 5 rfl rfl)
theorem dJ18_max_6 : decode cJ18_max 6 = .ok (.goto 4, 3) := dk_167 0 4 (dk_at dksJ18_max_0 6 rfl rfl)
theorem dJ18_max_9 : decode cJ18_max 9 = .ok (.iload_n 1, 1) := dk_27 (dk_at dksJ18_max_0 9 rfl rfl)
theorem dJ18_max_10 : decode cJ18_max 10 = .ok (.ireturn, 1) := dk_172 (dk_at dksJ18_max_0 10 rfl rfl)
abbrev cJ18_min : ByteArray := prog_29_method_69_code
def yJ18_min : MethodName := ⟨RJ18, "min", "(II)I"⟩
def dkwJ18_min_0 : List UInt8 := [26, 27, 163, 0, 7, 26, 167, 0, 4, 27, 172]
abbrev dktJ18_min_0 : List UInt8 := dkwJ18_min_0 ++ []
theorem dksJ18_min_0 : cJ18_min.data.toList.drop 0 = dktJ18_min_0 := by decide +kernel
theorem dJ18_min_0 : decode cJ18_min 0 = .ok (.iload_n 0, 1) := dk_26 (dk_at dksJ18_min_0 0 rfl rfl)
theorem dJ18_min_1 : decode cJ18_min 1 = .ok (.iload_n 1, 1) := dk_27 (dk_at dksJ18_min_0 1 rfl rfl)
theorem dJ18_min_2 : decode cJ18_min 2 = .ok (.if_icmp .gt 7, 3) := dk_163 0 7 (dk_at dksJ18_min_0 2 rfl rfl)
theorem dJ18_min_5 : decode cJ18_min 5 = .ok (.iload_n 0, 1) := dk_26 (dk_at dksJ18_min_0 5 rfl rfl)
theorem dJ18_min_6 : decode cJ18_min 6 = .ok (.goto 4, 3) := dk_167 0 4 (dk_at dksJ18_min_0 6 rfl rfl)
theorem dJ18_min_9 : decode cJ18_min 9 = .ok (.iload_n 1, 1) := dk_27 (dk_at dksJ18_min_0 9 rfl rfl)
theorem dJ18_min_10 : decode cJ18_min 10 = .ok (.ireturn, 1) := dk_172 (dk_at dksJ18_min_0 10 rfl rfl)
theorem q136 : (Jvm.Cond.initialized "java/lang/Math") ∈ lw_all := lw_g (lw_at lw_m1 22 rfl) rfl
theorem q485 : (Jvm.Cond.static ({ cls := "java/lang/Math", name := "max", desc := "(II)I" } : Jvm.MethodName)) ∈ lw_all := lw_g (lw_at lw_m2 131 rfl) rfl
theorem q486 : (Jvm.Cond.code ({ cls := "java/lang/Math", name := "max", desc := "(II)I" } : Jvm.MethodName) prog_29_method_65_code (2 : Nat) (Option.some Jvm.ClassFile.FieldType.int)) ∈ lw_all := lw_g (lw_at lw_m2 132 rfl) rfl
theorem q503 : (Jvm.Cond.static ({ cls := "java/lang/Math", name := "min", desc := "(II)I" } : Jvm.MethodName)) ∈ lw_all := lw_g (lw_at lw_m2 149 rfl) rfl
theorem q504 : (Jvm.Cond.code ({ cls := "java/lang/Math", name := "min", desc := "(II)I" } : Jvm.MethodName) prog_29_method_69_code (2 : Nat) (Option.some Jvm.ClassFile.FieldType.int)) ∈ lw_all := lw_g (lw_at lw_m2 150 rfl) rfl

/-! java/util/Arrays -/
set_option maxRecDepth 100000
def RJ19 : String := "java/util/Arrays"
abbrev cJ19_copyOf : ByteArray := prog_47_method_121_code
def yJ19_copyOf : MethodName := ⟨RJ19, "copyOf", "([BI)[B"⟩
def dkwJ19_copyOf_1 : List UInt8 := [27, 184, 1, 48, 184, 0, 150, 44, 176]
abbrev dktJ19_copyOf_1 : List UInt8 := dkwJ19_copyOf_1 ++ []
def dkwJ19_copyOf_0 : List UInt8 := [27, 42, 190, 160, 0, 11, 42, 182, 1, 54, 192, 1, 55, 176, 27, 188, 8, 77, 42, 3, 44, 3, 42, 190]
abbrev dktJ19_copyOf_0 : List UInt8 := dkwJ19_copyOf_0 ++ dktJ19_copyOf_1
theorem dksJ19_copyOf_0 : cJ19_copyOf.data.toList.drop 0 = dktJ19_copyOf_0 := by decide +kernel
theorem dksJ19_copyOf_1 : cJ19_copyOf.data.toList.drop 24 = dktJ19_copyOf_1 := dk_seg dksJ19_copyOf_0 24 rfl rfl
theorem dJ19_copyOf_0 : decode cJ19_copyOf 0 = .ok (.iload_n 1, 1) := dk_27 (dk_at dksJ19_copyOf_0 0 rfl rfl)
theorem dJ19_copyOf_1 : decode cJ19_copyOf 1 = .ok (.aload_n 0, 1) := dk_42 (dk_at dksJ19_copyOf_0 1 rfl rfl)
theorem dJ19_copyOf_2 : decode cJ19_copyOf 2 = .ok (.arraylength, 1) := dk_190 (dk_at dksJ19_copyOf_0 2 rfl rfl)
theorem dJ19_copyOf_3 : decode cJ19_copyOf 3 = .ok (.if_icmp .ne 11, 3) := dk_160 0 11 (dk_at dksJ19_copyOf_0 3 rfl rfl)
theorem dJ19_copyOf_6 : decode cJ19_copyOf 6 = .ok (.aload_n 0, 1) := dk_42 (dk_at dksJ19_copyOf_0 6 rfl rfl)
theorem dJ19_copyOf_7 : decode cJ19_copyOf 7 = .ok (.invokevirtual 310, 3) := dk_182 1 54 (dk_at dksJ19_copyOf_0 7 rfl rfl)
theorem dJ19_copyOf_10 : decode cJ19_copyOf 10 = .ok (.checkcast 311, 3) := dk_192 1 55 (dk_at dksJ19_copyOf_0 10 rfl rfl)
theorem dJ19_copyOf_13 : decode cJ19_copyOf 13 = .ok (.areturn, 1) := dk_176 (dk_at dksJ19_copyOf_0 13 rfl rfl)
theorem dJ19_copyOf_14 : decode cJ19_copyOf 14 = .ok (.iload_n 1, 1) := dk_27 (dk_at dksJ19_copyOf_0 14 rfl rfl)
theorem dJ19_copyOf_15 : decode cJ19_copyOf 15 = .ok (.newarray .byte, 2) := dk_188_8 (dk_at dksJ19_copyOf_0 15 rfl rfl)
theorem dJ19_copyOf_17 : decode cJ19_copyOf 17 = .ok (.astore_n 2, 1) := dk_77 (dk_at dksJ19_copyOf_0 17 rfl rfl)
theorem dJ19_copyOf_18 : decode cJ19_copyOf 18 = .ok (.aload_n 0, 1) := dk_42 (dk_at dksJ19_copyOf_0 18 rfl rfl)
theorem dJ19_copyOf_19 : decode cJ19_copyOf 19 = .ok (.iconst 0, 1) := dk_3 (dk_at dksJ19_copyOf_0 19 rfl rfl)
theorem dJ19_copyOf_20 : decode cJ19_copyOf 20 = .ok (.aload_n 2, 1) := dk_44 (dk_at dksJ19_copyOf_0 20 rfl rfl)
theorem dJ19_copyOf_21 : decode cJ19_copyOf 21 = .ok (.iconst 0, 1) := dk_3 (dk_at dksJ19_copyOf_0 21 rfl rfl)
theorem dJ19_copyOf_22 : decode cJ19_copyOf 22 = .ok (.aload_n 0, 1) := dk_42 (dk_at dksJ19_copyOf_0 22 rfl rfl)
theorem dJ19_copyOf_23 : decode cJ19_copyOf 23 = .ok (.arraylength, 1) := dk_190 (dk_at dksJ19_copyOf_0 23 rfl rfl)
theorem dJ19_copyOf_24 : decode cJ19_copyOf 24 = .ok (.iload_n 1, 1) := dk_27 (dk_at dksJ19_copyOf_1 0 rfl rfl)
theorem dJ19_copyOf_25 : decode cJ19_copyOf 25 = .ok (.invokestatic 304, 3) := dk_184 1 48 (dk_at dksJ19_copyOf_1 1 rfl rfl)
theorem dJ19_copyOf_28 : decode cJ19_copyOf 28 = .ok (.invokestatic 150, 3) := dk_184 0 150 (dk_at dksJ19_copyOf_1 4 rfl rfl)
theorem dJ19_copyOf_31 : decode cJ19_copyOf 31 = .ok (.aload_n 2, 1) := dk_44 (dk_at dksJ19_copyOf_1 7 rfl rfl)
theorem dJ19_copyOf_32 : decode cJ19_copyOf 32 = .ok (.areturn, 1) := dk_176 (dk_at dksJ19_copyOf_1 8 rfl rfl)
abbrev cJ19_copyOfRange : ByteArray := prog_47_method_132_code
def yJ19_copyOfRange : MethodName := ⟨RJ19, "copyOfRange", "([BII)[B"⟩
def dkwJ19_copyOfRange_1 : List UInt8 := [176]
abbrev dktJ19_copyOfRange_1 : List UInt8 := dkwJ19_copyOfRange_1 ++ []
def dkwJ19_copyOfRange_0 : List UInt8 := [27, 154, 0, 9, 28, 42, 190, 159, 0, 10, 42, 27, 28, 184, 1, 83, 176, 42, 182, 1, 54, 192, 1, 55]
abbrev dktJ19_copyOfRange_0 : List UInt8 := dkwJ19_copyOfRange_0 ++ dktJ19_copyOfRange_1
theorem dksJ19_copyOfRange_0 : cJ19_copyOfRange.data.toList.drop 0 = dktJ19_copyOfRange_0 := by decide +kernel
theorem dksJ19_copyOfRange_1 : cJ19_copyOfRange.data.toList.drop 24 = dktJ19_copyOfRange_1 := dk_seg dksJ19_copyOfRange_0 24 rfl rfl
theorem dJ19_copyOfRange_0 : decode cJ19_copyOfRange 0 = .ok (.iload_n 1, 1) := dk_27 (dk_at dksJ19_copyOfRange_0 0 rfl rfl)
theorem dJ19_copyOfRange_1 : decode cJ19_copyOfRange 1 = .ok (.ifCond .ne 9, 3) := dk_154 0 9 (dk_at dksJ19_copyOfRange_0 1 rfl rfl)
theorem dJ19_copyOfRange_4 : decode cJ19_copyOfRange 4 = .ok (.iload_n 2, 1) := dk_28 (dk_at dksJ19_copyOfRange_0 4 rfl rfl)
theorem dJ19_copyOfRange_5 : decode cJ19_copyOfRange 5 = .ok (.aload_n 0, 1) := dk_42 (dk_at dksJ19_copyOfRange_0 5 rfl rfl)
theorem dJ19_copyOfRange_6 : decode cJ19_copyOfRange 6 = .ok (.arraylength, 1) := dk_190 (dk_at dksJ19_copyOfRange_0 6 rfl rfl)
theorem dJ19_copyOfRange_7 : decode cJ19_copyOfRange 7 = .ok (.if_icmp .eq 10, 3) := dk_159 0 10 (dk_at dksJ19_copyOfRange_0 7 rfl rfl)
theorem dJ19_copyOfRange_10 : decode cJ19_copyOfRange 10 = .ok (.aload_n 0, 1) := dk_42 (dk_at dksJ19_copyOfRange_0 10 rfl rfl)
theorem dJ19_copyOfRange_11 : decode cJ19_copyOfRange 11 = .ok (.iload_n 1, 1) := dk_27 (dk_at dksJ19_copyOfRange_0 11 rfl rfl)
theorem dJ19_copyOfRange_12 : decode cJ19_copyOfRange 12 = .ok (.iload_n 2, 1) := dk_28 (dk_at dksJ19_copyOfRange_0 12 rfl rfl)
theorem dJ19_copyOfRange_13 : decode cJ19_copyOfRange 13 = .ok (.invokestatic 339, 3) := dk_184 1 83 (dk_at dksJ19_copyOfRange_0 13 rfl rfl)
theorem dJ19_copyOfRange_16 : decode cJ19_copyOfRange 16 = .ok (.areturn, 1) := dk_176 (dk_at dksJ19_copyOfRange_0 16 rfl rfl)
theorem dJ19_copyOfRange_17 : decode cJ19_copyOfRange 17 = .ok (.aload_n 0, 1) := dk_42 (dk_at dksJ19_copyOfRange_0 17 rfl rfl)
theorem dJ19_copyOfRange_18 : decode cJ19_copyOfRange 18 = .ok (.invokevirtual 310, 3) := dk_182 1 54 (dk_at dksJ19_copyOfRange_0 18 rfl rfl)
theorem dJ19_copyOfRange_21 : decode cJ19_copyOfRange 21 = .ok (.checkcast 311, 3) := dk_192 1 55 (dk_at dksJ19_copyOfRange_0 21 rfl rfl)
theorem dJ19_copyOfRange_24 : decode cJ19_copyOfRange 24 = .ok (.areturn, 1) := dk_176 (dk_at dksJ19_copyOfRange_1 0 rfl rfl)
abbrev cJ19_copyOfRangeByte : ByteArray := prog_47_method_133_code
def yJ19_copyOfRangeByte : MethodName := ⟨RJ19, "copyOfRangeByte", "([BII)[B"⟩
def dkwJ19_copyOfRangeByte_1 : List UInt8 := [184, 1, 48, 184, 0, 150, 25, 4, 176]
abbrev dktJ19_copyOfRangeByte_1 : List UInt8 := dkwJ19_copyOfRangeByte_1 ++ []
def dkwJ19_copyOfRangeByte_0 : List UInt8 := [27, 28, 184, 1, 87, 28, 27, 100, 62, 29, 188, 8, 58, 4, 42, 27, 25, 4, 3, 42, 190, 27, 100, 29]
abbrev dktJ19_copyOfRangeByte_0 : List UInt8 := dkwJ19_copyOfRangeByte_0 ++ dktJ19_copyOfRangeByte_1
theorem dksJ19_copyOfRangeByte_0 : cJ19_copyOfRangeByte.data.toList.drop 0 = dktJ19_copyOfRangeByte_0 := by decide +kernel
theorem dksJ19_copyOfRangeByte_1 : cJ19_copyOfRangeByte.data.toList.drop 24 = dktJ19_copyOfRangeByte_1 := dk_seg dksJ19_copyOfRangeByte_0 24 rfl rfl
theorem dJ19_copyOfRangeByte_0 : decode cJ19_copyOfRangeByte 0 = .ok (.iload_n 1, 1) := dk_27 (dk_at dksJ19_copyOfRangeByte_0 0 rfl rfl)
theorem dJ19_copyOfRangeByte_1 : decode cJ19_copyOfRangeByte 1 = .ok (.iload_n 2, 1) := dk_28 (dk_at dksJ19_copyOfRangeByte_0 1 rfl rfl)
theorem dJ19_copyOfRangeByte_2 : decode cJ19_copyOfRangeByte 2 = .ok (.invokestatic 343, 3) := dk_184 1 87 (dk_at dksJ19_copyOfRangeByte_0 2 rfl rfl)
theorem dJ19_copyOfRangeByte_5 : decode cJ19_copyOfRangeByte 5 = .ok (.iload_n 2, 1) := dk_28 (dk_at dksJ19_copyOfRangeByte_0 5 rfl rfl)
theorem dJ19_copyOfRangeByte_6 : decode cJ19_copyOfRangeByte 6 = .ok (.iload_n 1, 1) := dk_27 (dk_at dksJ19_copyOfRangeByte_0 6 rfl rfl)
theorem dJ19_copyOfRangeByte_7 : decode cJ19_copyOfRangeByte 7 = .ok (.isub, 1) := dk_100 (dk_at dksJ19_copyOfRangeByte_0 7 rfl rfl)
theorem dJ19_copyOfRangeByte_8 : decode cJ19_copyOfRangeByte 8 = .ok (.istore_n 3, 1) := dk_62 (dk_at dksJ19_copyOfRangeByte_0 8 rfl rfl)
theorem dJ19_copyOfRangeByte_9 : decode cJ19_copyOfRangeByte 9 = .ok (.iload_n 3, 1) := dk_29 (dk_at dksJ19_copyOfRangeByte_0 9 rfl rfl)
theorem dJ19_copyOfRangeByte_10 : decode cJ19_copyOfRangeByte 10 = .ok (.newarray .byte, 2) := dk_188_8 (dk_at dksJ19_copyOfRangeByte_0 10 rfl rfl)
theorem dJ19_copyOfRangeByte_12 : decode cJ19_copyOfRangeByte 12 = .ok (.astore 4, 2) := dk_58 4 (dk_at dksJ19_copyOfRangeByte_0 12 rfl rfl)
theorem dJ19_copyOfRangeByte_14 : decode cJ19_copyOfRangeByte 14 = .ok (.aload_n 0, 1) := dk_42 (dk_at dksJ19_copyOfRangeByte_0 14 rfl rfl)
theorem dJ19_copyOfRangeByte_15 : decode cJ19_copyOfRangeByte 15 = .ok (.iload_n 1, 1) := dk_27 (dk_at dksJ19_copyOfRangeByte_0 15 rfl rfl)
theorem dJ19_copyOfRangeByte_16 : decode cJ19_copyOfRangeByte 16 = .ok (.aload 4, 2) := dk_25 4 (dk_at dksJ19_copyOfRangeByte_0 16 rfl rfl)
theorem dJ19_copyOfRangeByte_18 : decode cJ19_copyOfRangeByte 18 = .ok (.iconst 0, 1) := dk_3 (dk_at dksJ19_copyOfRangeByte_0 18 rfl rfl)
theorem dJ19_copyOfRangeByte_19 : decode cJ19_copyOfRangeByte 19 = .ok (.aload_n 0, 1) := dk_42 (dk_at dksJ19_copyOfRangeByte_0 19 rfl rfl)
theorem dJ19_copyOfRangeByte_20 : decode cJ19_copyOfRangeByte 20 = .ok (.arraylength, 1) := dk_190 (dk_at dksJ19_copyOfRangeByte_0 20 rfl rfl)
theorem dJ19_copyOfRangeByte_21 : decode cJ19_copyOfRangeByte 21 = .ok (.iload_n 1, 1) := dk_27 (dk_at dksJ19_copyOfRangeByte_0 21 rfl rfl)
theorem dJ19_copyOfRangeByte_22 : decode cJ19_copyOfRangeByte 22 = .ok (.isub, 1) := dk_100 (dk_at dksJ19_copyOfRangeByte_0 22 rfl rfl)
theorem dJ19_copyOfRangeByte_23 : decode cJ19_copyOfRangeByte 23 = .ok (.iload_n 3, 1) := dk_29 (dk_at dksJ19_copyOfRangeByte_0 23 rfl rfl)
theorem dJ19_copyOfRangeByte_24 : decode cJ19_copyOfRangeByte 24 = .ok (.invokestatic 304, 3) := dk_184 1 48 (dk_at dksJ19_copyOfRangeByte_1 0 rfl rfl)
theorem dJ19_copyOfRangeByte_27 : decode cJ19_copyOfRangeByte 27 = .ok (.invokestatic 150, 3) := dk_184 0 150 (dk_at dksJ19_copyOfRangeByte_1 3 rfl rfl)
theorem dJ19_copyOfRangeByte_30 : decode cJ19_copyOfRangeByte 30 = .ok (.aload 4, 2) := dk_25 4 (dk_at dksJ19_copyOfRangeByte_1 6 rfl rfl)
theorem dJ19_copyOfRangeByte_32 : decode cJ19_copyOfRangeByte 32 = .ok (.areturn, 1) := dk_176 (dk_at dksJ19_copyOfRangeByte_1 8 rfl rfl)
abbrev cJ19_checkLength : ByteArray := prog_47_method_131_code
def yJ19_checkLength : MethodName := ⟨RJ19, "checkLength", "(II)V"⟩
def dkwJ19_checkLength_1 : List UInt8 := [182, 0, 50, 27, 182, 0, 54, 182, 0, 61, 183, 0, 65, 191, 177]
abbrev dktJ19_checkLength_1 : List UInt8 := dkwJ19_checkLength_1 ++ []
def dkwJ19_checkLength_0 : List UInt8 := [27, 26, 162, 0, 35, 187, 0, 43, 89, 187, 0, 45, 89, 183, 0, 47, 26, 182, 0, 54, 19, 1, 81]
abbrev dktJ19_checkLength_0 : List UInt8 := dkwJ19_checkLength_0 ++ dktJ19_checkLength_1
theorem dksJ19_checkLength_0 : cJ19_checkLength.data.toList.drop 0 = dktJ19_checkLength_0 := by decide +kernel
theorem dksJ19_checkLength_1 : cJ19_checkLength.data.toList.drop 23 = dktJ19_checkLength_1 := dk_seg dksJ19_checkLength_0 23 rfl rfl
theorem dJ19_checkLength_0 : decode cJ19_checkLength 0 = .ok (.iload_n 1, 1) := dk_27 (dk_at dksJ19_checkLength_0 0 rfl rfl)
theorem dJ19_checkLength_1 : decode cJ19_checkLength 1 = .ok (.iload_n 0, 1) := dk_26 (dk_at dksJ19_checkLength_0 1 rfl rfl)
theorem dJ19_checkLength_2 : decode cJ19_checkLength 2 = .ok (.if_icmp .ge 35, 3) := dk_162 0 35 (dk_at dksJ19_checkLength_0 2 rfl rfl)
theorem dJ19_checkLength_5 : decode cJ19_checkLength 5 = .ok (.new 43, 3) := dk_187 0 43 (dk_at dksJ19_checkLength_0 5 rfl rfl)
theorem dJ19_checkLength_8 : decode cJ19_checkLength 8 = .ok (.dup, 1) := dk_89 (dk_at dksJ19_checkLength_0 8 rfl rfl)
theorem dJ19_checkLength_9 : decode cJ19_checkLength 9 = .ok (.new 45, 3) := dk_187 0 45 (dk_at dksJ19_checkLength_0 9 rfl rfl)
theorem dJ19_checkLength_12 : decode cJ19_checkLength 12 = .ok (.dup, 1) := dk_89 (dk_at dksJ19_checkLength_0 12 rfl rfl)
theorem dJ19_checkLength_13 : decode cJ19_checkLength 13 = .ok (.invokespecial 47, 3) := dk_183 0 47 (dk_at dksJ19_checkLength_0 13 rfl rfl)
theorem dJ19_checkLength_16 : decode cJ19_checkLength 16 = .ok (.iload_n 0, 1) := dk_26 (dk_at dksJ19_checkLength_0 16 rfl rfl)
theorem dJ19_checkLength_17 : decode cJ19_checkLength 17 = .ok (.invokevirtual 54, 3) := dk_182 0 54 (dk_at dksJ19_checkLength_0 17 rfl rfl)
theorem dJ19_checkLength_20 : decode cJ19_checkLength 20 = .ok (.ldc_w 337, 3) := dk_19 1 81 (dk_at dksJ19_checkLength_0 20 rfl rfl)
theorem dJ19_checkLength_23 : decode cJ19_checkLength 23 = .ok (.invokevirtual 50, 3) := dk_182 0 50 (dk_at dksJ19_checkLength_1 0 rfl rfl)
theorem dJ19_checkLength_26 : decode cJ19_checkLength 26 = .ok (.iload_n 1, 1) := dk_27 (dk_at dksJ19_checkLength_1 3 rfl rfl)
theorem dJ19_checkLength_27 : decode cJ19_checkLength 27 = .ok (.invokevirtual 54, 3) := dk_182 0 54 (dk_at dksJ19_checkLength_1 4 rfl rfl)
theorem dJ19_checkLength_30 : decode cJ19_checkLength 30 = .ok (.invokevirtual 61, 3) := dk_182 0 61 (dk_at dksJ19_checkLength_1 7 rfl rfl)
theorem dJ19_checkLength_33 : decode cJ19_checkLength 33 = .ok (.invokespecial 65, 3) := dk_183 0 65 (dk_at dksJ19_checkLength_1 10 rfl rfl)
theorem dJ19_checkLength_36 : decode cJ19_checkLength 36 = .ok (.athrow, 1) := dk_191 (dk_at dksJ19_checkLength_1 13 rfl rfl)
theorem dJ19_checkLength_37 : decode cJ19_checkLength 37 = .ok (.return_, 1) := dk_177 (dk_at dksJ19_checkLength_1 14 rfl rfl)
abbrev cJ19_copyOf_2 : ByteArray := prog_47_method_119_code
def yJ19_copyOf_2 : MethodName := ⟨RJ19, "copyOf", "([Ljava/lang/Object;I)[Ljava/lang/Object;"⟩
def dkwJ19_copyOf_2_0 : List UInt8 := [42, 27, 42, 182, 0, 86, 184, 1, 44, 176]
abbrev dktJ19_copyOf_2_0 : List UInt8 := dkwJ19_copyOf_2_0 ++ []
theorem dksJ19_copyOf_2_0 : cJ19_copyOf_2.data.toList.drop 0 = dktJ19_copyOf_2_0 := by decide +kernel
theorem dJ19_copyOf_2_0 : decode cJ19_copyOf_2 0 = .ok (.aload_n 0, 1) := dk_42 (dk_at dksJ19_copyOf_2_0 0 rfl rfl)
theorem dJ19_copyOf_2_1 : decode cJ19_copyOf_2 1 = .ok (.iload_n 1, 1) := dk_27 (dk_at dksJ19_copyOf_2_0 1 rfl rfl)
theorem dJ19_copyOf_2_2 : decode cJ19_copyOf_2 2 = .ok (.aload_n 0, 1) := dk_42 (dk_at dksJ19_copyOf_2_0 2 rfl rfl)
theorem dJ19_copyOf_2_3 : decode cJ19_copyOf_2 3 = .ok (.invokevirtual 86, 3) := dk_182 0 86 (dk_at dksJ19_copyOf_2_0 3 rfl rfl)
theorem dJ19_copyOf_2_6 : decode cJ19_copyOf_2 6 = .ok (.invokestatic 300, 3) := dk_184 1 44 (dk_at dksJ19_copyOf_2_0 6 rfl rfl)
theorem dJ19_copyOf_2_9 : decode cJ19_copyOf_2 9 = .ok (.areturn, 1) := dk_176 (dk_at dksJ19_copyOf_2_0 9 rfl rfl)
abbrev cJ19_copyOf_3 : ByteArray := prog_47_method_120_code
def yJ19_copyOf_3 : MethodName := ⟨RJ19, "copyOf", "([Ljava/lang/Object;ILjava/lang/Class;)[Ljava/lang/Object;"⟩
def dkwJ19_copyOf_3_1 : List UInt8 := [78, 42, 3, 45, 3, 42, 190, 27, 184, 1, 48, 184, 0, 150, 45, 176]
abbrev dktJ19_copyOf_3_1 : List UInt8 := dkwJ19_copyOf_3_1 ++ []
def dkwJ19_copyOf_3_0 : List UInt8 := [44, 18, 110, 166, 0, 10, 27, 189, 0, 2, 167, 0, 14, 44, 182, 0, 90, 27, 184, 0, 95, 192, 0, 110]
abbrev dktJ19_copyOf_3_0 : List UInt8 := dkwJ19_copyOf_3_0 ++ dktJ19_copyOf_3_1
theorem dksJ19_copyOf_3_0 : cJ19_copyOf_3.data.toList.drop 0 = dktJ19_copyOf_3_0 := by decide +kernel
theorem dksJ19_copyOf_3_1 : cJ19_copyOf_3.data.toList.drop 24 = dktJ19_copyOf_3_1 := dk_seg dksJ19_copyOf_3_0 24 rfl rfl
theorem dJ19_copyOf_3_0 : decode cJ19_copyOf_3 0 = .ok (.aload_n 2, 1) := dk_44 (dk_at dksJ19_copyOf_3_0 0 rfl rfl)
theorem dJ19_copyOf_3_1 : decode cJ19_copyOf_3 1 = .ok (.ldc 110, 2) := dk_18 110 (dk_at dksJ19_copyOf_3_0 1 rfl rfl)
theorem dJ19_copyOf_3_3 : decode cJ19_copyOf_3 3 = .ok (.if_acmp .ne 10, 3) := dk_166 0 10 (dk_at dksJ19_copyOf_3_0 3 rfl rfl)
theorem dJ19_copyOf_3_6 : decode cJ19_copyOf_3 6 = .ok (.iload_n 1, 1) := dk_27 (dk_at dksJ19_copyOf_3_0 6 rfl rfl)
theorem dJ19_copyOf_3_7 : decode cJ19_copyOf_3 7 = .ok (.anewarray 2, 3) := dk_189 0 2 (dk_at dksJ19_copyOf_3_0 7 rfl rfl)
theorem dJ19_copyOf_3_10 : decode cJ19_copyOf_3 10 = .ok (.goto 14, 3) := dk_167 0 14 (dk_at dksJ19_copyOf_3_0 10 rfl rfl)
theorem dJ19_copyOf_3_13 : decode cJ19_copyOf_3 13 = .ok (.aload_n 2, 1) := dk_44 (dk_at dksJ19_copyOf_3_0 13 rfl rfl)
theorem dJ19_copyOf_3_14 : decode cJ19_copyOf_3 14 = .ok (.invokevirtual 90, 3) := dk_182 0 90 (dk_at dksJ19_copyOf_3_0 14 rfl rfl)
theorem dJ19_copyOf_3_17 : decode cJ19_copyOf_3 17 = .ok (.iload_n 1, 1) := dk_27 (dk_at dksJ19_copyOf_3_0 17 rfl rfl)
theorem dJ19_copyOf_3_18 : decode cJ19_copyOf_3 18 = .ok (.invokestatic 95, 3) := dk_184 0 95 (dk_at dksJ19_copyOf_3_0 18 rfl rfl)
theorem dJ19_copyOf_3_21 : decode cJ19_copyOf_3 21 = .ok (.checkcast 110, 3) := dk_192 0 110 (dk_at dksJ19_copyOf_3_0 21 rfl rfl)
theorem dJ19_copyOf_3_24 : decode cJ19_copyOf_3 24 = .ok (.astore_n 3, 1) := dk_78 (dk_at dksJ19_copyOf_3_1 0 rfl rfl)
theorem dJ19_copyOf_3_25 : decode cJ19_copyOf_3 25 = .ok (.aload_n 0, 1) := dk_42 (dk_at dksJ19_copyOf_3_1 1 rfl rfl)
theorem dJ19_copyOf_3_26 : decode cJ19_copyOf_3 26 = .ok (.iconst 0, 1) := dk_3 (dk_at dksJ19_copyOf_3_1 2 rfl rfl)
theorem dJ19_copyOf_3_27 : decode cJ19_copyOf_3 27 = .ok (.aload_n 3, 1) := dk_45 (dk_at dksJ19_copyOf_3_1 3 rfl rfl)
theorem dJ19_copyOf_3_28 : decode cJ19_copyOf_3 28 = .ok (.iconst 0, 1) := dk_3 (dk_at dksJ19_copyOf_3_1 4 rfl rfl)
theorem dJ19_copyOf_3_29 : decode cJ19_copyOf_3 29 = .ok (.aload_n 0, 1) := dk_42 (dk_at dksJ19_copyOf_3_1 5 rfl rfl)
theorem dJ19_copyOf_3_30 : decode cJ19_copyOf_3 30 = .ok (.arraylength, 1) := dk_190 (dk_at dksJ19_copyOf_3_1 6 rfl rfl)
theorem dJ19_copyOf_3_31 : decode cJ19_copyOf_3 31 = .ok (.iload_n 1, 1) := dk_27 (dk_at dksJ19_copyOf_3_1 7 rfl rfl)
theorem dJ19_copyOf_3_32 : decode cJ19_copyOf_3 32 = .ok (.invokestatic 304, 3) := dk_184 1 48 (dk_at dksJ19_copyOf_3_1 8 rfl rfl)
theorem dJ19_copyOf_3_35 : decode cJ19_copyOf_3 35 = .ok (.invokestatic 150, 3) := dk_184 0 150 (dk_at dksJ19_copyOf_3_1 11 rfl rfl)
theorem dJ19_copyOf_3_38 : decode cJ19_copyOf_3 38 = .ok (.aload_n 3, 1) := dk_45 (dk_at dksJ19_copyOf_3_1 14 rfl rfl)
theorem dJ19_copyOf_3_39 : decode cJ19_copyOf_3 39 = .ok (.areturn, 1) := dk_176 (dk_at dksJ19_copyOf_3_1 15 rfl rfl)
abbrev cJ19_fill : ByteArray := prog_47_method_110_code
def yJ19_fill : MethodName := ⟨RJ19, "fill", "([BIIB)V"⟩
def dkwJ19_fill_1 : List UInt8 := [167, 255, 242, 177]
abbrev dktJ19_fill_1 : List UInt8 := dkwJ19_fill_1 ++ []
def dkwJ19_fill_0 : List UInt8 := [42, 190, 27, 28, 184, 0, 13, 27, 54, 4, 21, 4, 28, 162, 0, 14, 42, 21, 4, 29, 84, 132, 4, 1]
abbrev dktJ19_fill_0 : List UInt8 := dkwJ19_fill_0 ++ dktJ19_fill_1
theorem dksJ19_fill_0 : cJ19_fill.data.toList.drop 0 = dktJ19_fill_0 := by decide +kernel
theorem dksJ19_fill_1 : cJ19_fill.data.toList.drop 24 = dktJ19_fill_1 := dk_seg dksJ19_fill_0 24 rfl rfl
theorem dJ19_fill_0 : decode cJ19_fill 0 = .ok (.aload_n 0, 1) := dk_42 (dk_at dksJ19_fill_0 0 rfl rfl)
theorem dJ19_fill_1 : decode cJ19_fill 1 = .ok (.arraylength, 1) := dk_190 (dk_at dksJ19_fill_0 1 rfl rfl)
theorem dJ19_fill_2 : decode cJ19_fill 2 = .ok (.iload_n 1, 1) := dk_27 (dk_at dksJ19_fill_0 2 rfl rfl)
theorem dJ19_fill_3 : decode cJ19_fill 3 = .ok (.iload_n 2, 1) := dk_28 (dk_at dksJ19_fill_0 3 rfl rfl)
theorem dJ19_fill_4 : decode cJ19_fill 4 = .ok (.invokestatic 13, 3) := dk_184 0 13 (dk_at dksJ19_fill_0 4 rfl rfl)
theorem dJ19_fill_7 : decode cJ19_fill 7 = .ok (.iload_n 1, 1) := dk_27 (dk_at dksJ19_fill_0 7 rfl rfl)
theorem dJ19_fill_8 : decode cJ19_fill 8 = .ok (.istore 4, 2) := dk_54 4 (dk_at dksJ19_fill_0 8 rfl rfl)
theorem dJ19_fill_10 : decode cJ19_fill 10 = .ok (.iload 4, 2) := dk_21 4 (dk_at dksJ19_fill_0 10 rfl rfl)
theorem dJ19_fill_12 : decode cJ19_fill 12 = .ok (.iload_n 2, 1) := dk_28 (dk_at dksJ19_fill_0 12 rfl rfl)
theorem dJ19_fill_13 : decode cJ19_fill 13 = .ok (.if_icmp .ge 14, 3) := dk_162 0 14 (dk_at dksJ19_fill_0 13 rfl rfl)
theorem dJ19_fill_16 : decode cJ19_fill 16 = .ok (.aload_n 0, 1) := dk_42 (dk_at dksJ19_fill_0 16 rfl rfl)
theorem dJ19_fill_17 : decode cJ19_fill 17 = .ok (.iload 4, 2) := dk_21 4 (dk_at dksJ19_fill_0 17 rfl rfl)
theorem dJ19_fill_19 : decode cJ19_fill 19 = .ok (.iload_n 3, 1) := dk_29 (dk_at dksJ19_fill_0 19 rfl rfl)
theorem dJ19_fill_20 : decode cJ19_fill 20 = .ok (.bastore, 1) := dk_84 (dk_at dksJ19_fill_0 20 rfl rfl)
theorem dJ19_fill_21 : decode cJ19_fill 21 = .ok (.iinc 4 1, 3) := dk_132 4 1 (dk_at dksJ19_fill_0 21 rfl rfl)
theorem dJ19_fill_24 : decode cJ19_fill 24 = .ok (.goto (-14), 3) := dk_167 255 242 (dk_at dksJ19_fill_1 0 rfl rfl)
theorem dJ19_fill_27 : decode cJ19_fill 27 = .ok (.return_, 1) := dk_177 (dk_at dksJ19_fill_1 3 rfl rfl)
abbrev cJ19_rangeCheck : ByteArray := prog_47_method_30_code
def yJ19_rangeCheck : MethodName := ⟨RJ19, "rangeCheck", "(III)V"⟩
def dkwJ19_rangeCheck_3 : List UInt8 := [183, 0, 70, 191, 177]
abbrev dktJ19_rangeCheck_3 : List UInt8 := dkwJ19_rangeCheck_3 ++ []
def dkwJ19_rangeCheck_2 : List UInt8 := [27, 156, 0, 12, 187, 0, 68, 89, 27, 183, 0, 70, 191, 28, 26, 164, 0, 12, 187, 0, 68, 89, 28]
abbrev dktJ19_rangeCheck_2 : List UInt8 := dkwJ19_rangeCheck_2 ++ dktJ19_rangeCheck_3
def dkwJ19_rangeCheck_1 : List UInt8 := [182, 0, 54, 18, 57, 182, 0, 50, 28, 182, 0, 54, 18, 59, 182, 0, 50, 182, 0, 61, 183, 0, 65, 191]
abbrev dktJ19_rangeCheck_1 : List UInt8 := dkwJ19_rangeCheck_1 ++ dktJ19_rangeCheck_2
def dkwJ19_rangeCheck_0 : List UInt8 := [27, 28, 164, 0, 44, 187, 0, 43, 89, 187, 0, 45, 89, 183, 0, 47, 18, 48, 182, 0, 50, 27]
abbrev dktJ19_rangeCheck_0 : List UInt8 := dkwJ19_rangeCheck_0 ++ dktJ19_rangeCheck_1
theorem dksJ19_rangeCheck_0 : cJ19_rangeCheck.data.toList.drop 0 = dktJ19_rangeCheck_0 := by decide +kernel
theorem dksJ19_rangeCheck_1 : cJ19_rangeCheck.data.toList.drop 22 = dktJ19_rangeCheck_1 := dk_seg dksJ19_rangeCheck_0 22 rfl rfl
theorem dksJ19_rangeCheck_2 : cJ19_rangeCheck.data.toList.drop 46 = dktJ19_rangeCheck_2 := dk_seg dksJ19_rangeCheck_1 24 rfl rfl
theorem dksJ19_rangeCheck_3 : cJ19_rangeCheck.data.toList.drop 69 = dktJ19_rangeCheck_3 := dk_seg dksJ19_rangeCheck_2 23 rfl rfl
theorem dJ19_rangeCheck_0 : decode cJ19_rangeCheck 0 = .ok (.iload_n 1, 1) := dk_27 (dk_at dksJ19_rangeCheck_0 0 rfl rfl)
theorem dJ19_rangeCheck_1 : decode cJ19_rangeCheck 1 = .ok (.iload_n 2, 1) := dk_28 (dk_at dksJ19_rangeCheck_0 1 rfl rfl)
theorem dJ19_rangeCheck_2 : decode cJ19_rangeCheck 2 = .ok (.if_icmp .le 44, 3) := dk_164 0 44 (dk_at dksJ19_rangeCheck_0 2 rfl rfl)
theorem dJ19_rangeCheck_5 : decode cJ19_rangeCheck 5 = .ok (.new 43, 3) := dk_187 0 43 (dk_at dksJ19_rangeCheck_0 5 rfl rfl)
theorem dJ19_rangeCheck_8 : decode cJ19_rangeCheck 8 = .ok (.dup, 1) := dk_89 (dk_at dksJ19_rangeCheck_0 8 rfl rfl)
theorem dJ19_rangeCheck_9 : decode cJ19_rangeCheck 9 = .ok (.new 45, 3) := dk_187 0 45 (dk_at dksJ19_rangeCheck_0 9 rfl rfl)
theorem dJ19_rangeCheck_12 : decode cJ19_rangeCheck 12 = .ok (.dup, 1) := dk_89 (dk_at dksJ19_rangeCheck_0 12 rfl rfl)
theorem dJ19_rangeCheck_13 : decode cJ19_rangeCheck 13 = .ok (.invokespecial 47, 3) := dk_183 0 47 (dk_at dksJ19_rangeCheck_0 13 rfl rfl)
theorem dJ19_rangeCheck_16 : decode cJ19_rangeCheck 16 = .ok (.ldc 48, 2) := dk_18 48 (dk_at dksJ19_rangeCheck_0 16 rfl rfl)
theorem dJ19_rangeCheck_18 : decode cJ19_rangeCheck 18 = .ok (.invokevirtual 50, 3) := dk_182 0 50 (dk_at dksJ19_rangeCheck_0 18 rfl rfl)
theorem dJ19_rangeCheck_21 : decode cJ19_rangeCheck 21 = .ok (.iload_n 1, 1) := dk_27 (dk_at dksJ19_rangeCheck_0 21 rfl rfl)
theorem dJ19_rangeCheck_22 : decode cJ19_rangeCheck 22 = .ok (.invokevirtual 54, 3) := dk_182 0 54 (dk_at dksJ19_rangeCheck_1 0 rfl rfl)
theorem dJ19_rangeCheck_25 : decode cJ19_rangeCheck 25 = .ok (.ldc 57, 2) := dk_18 57 (dk_at dksJ19_rangeCheck_1 3 rfl rfl)
theorem dJ19_rangeCheck_27 : decode cJ19_rangeCheck 27 = .ok (.invokevirtual 50, 3) := dk_182 0 50 (dk_at dksJ19_rangeCheck_1 5 rfl rfl)
theorem dJ19_rangeCheck_30 : decode cJ19_rangeCheck 30 = .ok (.iload_n 2, 1) := dk_28 (dk_at dksJ19_rangeCheck_1 8 rfl rfl)
theorem dJ19_rangeCheck_31 : decode cJ19_rangeCheck 31 = .ok (.invokevirtual 54, 3) := dk_182 0 54 (dk_at dksJ19_rangeCheck_1 9 rfl rfl)
theorem dJ19_rangeCheck_34 : decode cJ19_rangeCheck 34 = .ok (.ldc 59, 2) := dk_18 59 (dk_at dksJ19_rangeCheck_1 12 rfl rfl)
theorem dJ19_rangeCheck_36 : decode cJ19_rangeCheck 36 = .ok (.invokevirtual 50, 3) := dk_182 0 50 (dk_at dksJ19_rangeCheck_1 14 rfl rfl)
theorem dJ19_rangeCheck_39 : decode cJ19_rangeCheck 39 = .ok (.invokevirtual 61, 3) := dk_182 0 61 (dk_at dksJ19_rangeCheck_1 17 rfl rfl)
theorem dJ19_rangeCheck_42 : decode cJ19_rangeCheck 42 = .ok (.invokespecial 65, 3) := dk_183 0 65 (dk_at dksJ19_rangeCheck_1 20 rfl rfl)
theorem dJ19_rangeCheck_45 : decode cJ19_rangeCheck 45 = .ok (.athrow, 1) := dk_191 (dk_at dksJ19_rangeCheck_1 23 rfl rfl)
theorem dJ19_rangeCheck_46 : decode cJ19_rangeCheck 46 = .ok (.iload_n 1, 1) := dk_27 (dk_at dksJ19_rangeCheck_2 0 rfl rfl)
theorem dJ19_rangeCheck_47 : decode cJ19_rangeCheck 47 = .ok (.ifCond .ge 12, 3) := dk_156 0 12 (dk_at dksJ19_rangeCheck_2 1 rfl rfl)
theorem dJ19_rangeCheck_50 : decode cJ19_rangeCheck 50 = .ok (.new 68, 3) := dk_187 0 68 (dk_at dksJ19_rangeCheck_2 4 rfl rfl)
theorem dJ19_rangeCheck_53 : decode cJ19_rangeCheck 53 = .ok (.dup, 1) := dk_89 (dk_at dksJ19_rangeCheck_2 7 rfl rfl)
theorem dJ19_rangeCheck_54 : decode cJ19_rangeCheck 54 = .ok (.iload_n 1, 1) := dk_27 (dk_at dksJ19_rangeCheck_2 8 rfl rfl)
theorem dJ19_rangeCheck_55 : decode cJ19_rangeCheck 55 = .ok (.invokespecial 70, 3) := dk_183 0 70 (dk_at dksJ19_rangeCheck_2 9 rfl rfl)
theorem dJ19_rangeCheck_58 : decode cJ19_rangeCheck 58 = .ok (.athrow, 1) := dk_191 (dk_at dksJ19_rangeCheck_2 12 rfl rfl)
theorem dJ19_rangeCheck_59 : decode cJ19_rangeCheck 59 = .ok (.iload_n 2, 1) := dk_28 (dk_at dksJ19_rangeCheck_2 13 rfl rfl)
theorem dJ19_rangeCheck_60 : decode cJ19_rangeCheck 60 = .ok (.iload_n 0, 1) := dk_26 (dk_at dksJ19_rangeCheck_2 14 rfl rfl)
theorem dJ19_rangeCheck_61 : decode cJ19_rangeCheck 61 = .ok (.if_icmp .le 12, 3) := dk_164 0 12 (dk_at dksJ19_rangeCheck_2 15 rfl rfl)
theorem dJ19_rangeCheck_64 : decode cJ19_rangeCheck 64 = .ok (.new 68, 3) := dk_187 0 68 (dk_at dksJ19_rangeCheck_2 18 rfl rfl)
theorem dJ19_rangeCheck_67 : decode cJ19_rangeCheck 67 = .ok (.dup, 1) := dk_89 (dk_at dksJ19_rangeCheck_2 21 rfl rfl)
theorem dJ19_rangeCheck_68 : decode cJ19_rangeCheck 68 = .ok (.iload_n 2, 1) := dk_28 (dk_at dksJ19_rangeCheck_2 22 rfl rfl)
theorem dJ19_rangeCheck_69 : decode cJ19_rangeCheck 69 = .ok (.invokespecial 70, 3) := dk_183 0 70 (dk_at dksJ19_rangeCheck_3 0 rfl rfl)
theorem dJ19_rangeCheck_72 : decode cJ19_rangeCheck 72 = .ok (.athrow, 1) := dk_191 (dk_at dksJ19_rangeCheck_3 3 rfl rfl)
theorem dJ19_rangeCheck_73 : decode cJ19_rangeCheck 73 = .ok (.return_, 1) := dk_177 (dk_at dksJ19_rangeCheck_3 4 rfl rfl)
theorem q137 : (Jvm.Cond.initialized "java/util/Arrays") ∈ lw_all := lw_g (lw_at lw_m1 23 rfl) rfl
theorem q493 : (Jvm.Cond.static ({ cls := "java/util/Arrays", name := "copyOf", desc := "([BI)[B" } : Jvm.MethodName)) ∈ lw_all := lw_g (lw_at lw_m2 139 rfl) rfl
theorem q494 : (Jvm.Cond.code ({ cls := "java/util/Arrays", name := "copyOf", desc := "([BI)[B" } : Jvm.MethodName) prog_47_method_121_code (3 : Nat) (Option.some (Jvm.ClassFile.FieldType.array Jvm.ClassFile.FieldType.byte))) ∈ lw_all := lw_g (lw_at lw_m2 140 rfl) rfl
theorem q495 : (Jvm.Cond.methodLink "java/util/Arrays" (310 : Nat) ({ cls := "[B", name := "clone", desc := "()Ljava/lang/Object;" } : Jvm.MethodName)) ∈ lw_all := lw_g (lw_at lw_m2 141 rfl) rfl
theorem q501 : (Jvm.Cond.classLink "java/util/Arrays" (311 : Nat) "[B") ∈ lw_all := lw_g (lw_at lw_m2 147 rfl) rfl
theorem q502 : (Jvm.Cond.methodLink "java/util/Arrays" (304 : Nat) ({ cls := "java/lang/Math", name := "min", desc := "(II)I" } : Jvm.MethodName)) ∈ lw_all := lw_g (lw_at lw_m2 148 rfl) rfl
theorem q505 : (Jvm.Cond.methodLink "java/util/Arrays" (150 : Nat) ({ cls := "java/lang/System", name := "arraycopy", desc := "(Ljava/lang/Object;ILjava/lang/Object;II)V" } : Jvm.MethodName)) ∈ lw_all := lw_g (lw_at lw_m2 151 rfl) rfl
theorem q636 : (Jvm.Cond.static ({ cls := "java/util/Arrays", name := "copyOfRange", desc := "([BII)[B" } : Jvm.MethodName)) ∈ lw_all := lw_g (lw_at lw_m3 42 rfl) rfl
theorem q637 : (Jvm.Cond.code ({ cls := "java/util/Arrays", name := "copyOfRange", desc := "([BII)[B" } : Jvm.MethodName) prog_47_method_132_code (3 : Nat) (Option.some (Jvm.ClassFile.FieldType.array Jvm.ClassFile.FieldType.byte))) ∈ lw_all := lw_g (lw_at lw_m3 43 rfl) rfl
theorem q638 : (Jvm.Cond.methodLink "java/util/Arrays" (339 : Nat) ({ cls := "java/util/Arrays", name := "copyOfRangeByte", desc := "([BII)[B" } : Jvm.MethodName)) ∈ lw_all := lw_g (lw_at lw_m3 44 rfl) rfl
theorem q639 : (Jvm.Cond.static ({ cls := "java/util/Arrays", name := "copyOfRangeByte", desc := "([BII)[B" } : Jvm.MethodName)) ∈ lw_all := lw_g (lw_at lw_m3 45 rfl) rfl
theorem q640 : (Jvm.Cond.code ({ cls := "java/util/Arrays", name := "copyOfRangeByte", desc := "([BII)[B" } : Jvm.MethodName) prog_47_method_133_code (5 : Nat) (Option.some (Jvm.ClassFile.FieldType.array Jvm.ClassFile.FieldType.byte))) ∈ lw_all := lw_g (lw_at lw_m3 46 rfl) rfl
theorem q641 : (Jvm.Cond.methodLink "java/util/Arrays" (343 : Nat) ({ cls := "java/util/Arrays", name := "checkLength", desc := "(II)V" } : Jvm.MethodName)) ∈ lw_all := lw_g (lw_at lw_m3 47 rfl) rfl
theorem q642 : (Jvm.Cond.static ({ cls := "java/util/Arrays", name := "checkLength", desc := "(II)V" } : Jvm.MethodName)) ∈ lw_all := lw_g (lw_at lw_m3 48 rfl) rfl
theorem q643 : (Jvm.Cond.code ({ cls := "java/util/Arrays", name := "checkLength", desc := "(II)V" } : Jvm.MethodName) prog_47_method_131_code (2 : Nat) (Option.none : Option Jvm.ClassFile.FieldType)) ∈ lw_all := lw_g (lw_at lw_m3 49 rfl) rfl
theorem q644 : (Jvm.Cond.classLink "java/util/Arrays" (43 : Nat) "java/lang/IllegalArgumentException") ∈ lw_all := lw_g (lw_at lw_m3 50 rfl) rfl
theorem q653 : (Jvm.Cond.classLink "java/util/Arrays" (45 : Nat) "java/lang/StringBuilder") ∈ lw_all := lw_g (lw_at lw_m3 59 rfl) rfl
theorem q654 : (Jvm.Cond.methodLink "java/util/Arrays" (47 : Nat) ({ cls := "java/lang/StringBuilder", name := "<init>", desc := "()V" } : Jvm.MethodName)) ∈ lw_all := lw_g (lw_at lw_m3 60 rfl) rfl
theorem q655 : (Jvm.Cond.methodLink "java/util/Arrays" (54 : Nat) ({ cls := "java/lang/StringBuilder", name := "append", desc := "(I)Ljava/lang/StringBuilder;" } : Jvm.MethodName)) ∈ lw_all := lw_g (lw_at lw_m3 61 rfl) rfl
theorem q656 : (Jvm.Cond.stringRef "java/util/Arrays" (337 : Nat) " > ") ∈ lw_tbl := lw_at lw_m3 62 rfl
theorem q657 : (Jvm.Cond.methodLink "java/util/Arrays" (50 : Nat) ({ cls := "java/lang/StringBuilder", name := "append", desc := "(Ljava/lang/String;)Ljava/lang/StringBuilder;" } : Jvm.MethodName)) ∈ lw_all := lw_g (lw_at lw_m3 63 rfl) rfl
theorem q658 : (Jvm.Cond.methodLink "java/util/Arrays" (61 : Nat) ({ cls := "java/lang/StringBuilder", name := "toString", desc := "()Ljava/lang/String;" } : Jvm.MethodName)) ∈ lw_all := lw_g (lw_at lw_m3 64 rfl) rfl
theorem q659 : (Jvm.Cond.methodLink "java/util/Arrays" (65 : Nat) ({ cls := "java/lang/IllegalArgumentException", name := "<init>", desc := "(Ljava/lang/String;)V" } : Jvm.MethodName)) ∈ lw_all := lw_g (lw_at lw_m3 65 rfl) rfl
theorem q736 : (Jvm.Cond.static ({ cls := "java/util/Arrays", name := "copyOf", desc := "([Ljava/lang/Object;I)[Ljava/lang/Object;" } : Jvm.MethodName)) ∈ lw_all := lw_g (lw_at lw_m3 142 rfl) rfl
theorem q737 : (Jvm.Cond.code ({ cls := "java/util/Arrays", name := "copyOf", desc := "([Ljava/lang/Object;I)[Ljava/lang/Object;" } : Jvm.MethodName) prog_47_method_119_code (2 : Nat) (Option.some (Jvm.ClassFile.FieldType.array (Jvm.ClassFile.FieldType.object "java/lang/Object")))) ∈ lw_all := lw_g (lw_at lw_m3 143 rfl) rfl
theorem q738 : (Jvm.Cond.methodLink "java/util/Arrays" (86 : Nat) ({ cls := "java/lang/Object", name := "getClass", desc := "()Ljava/lang/Class;" } : Jvm.MethodName)) ∈ lw_all := lw_g (lw_at lw_m3 144 rfl) rfl
theorem q770 : (Jvm.Cond.methodLink "java/util/Arrays" (300 : Nat) ({ cls := "java/util/Arrays", name := "copyOf", desc := "([Ljava/lang/Object;ILjava/lang/Class;)[Ljava/lang/Object;" } : Jvm.MethodName)) ∈ lw_all := lw_g (lw_at lw_m3 176 rfl) rfl
theorem q771 : (Jvm.Cond.static ({ cls := "java/util/Arrays", name := "copyOf", desc := "([Ljava/lang/Object;ILjava/lang/Class;)[Ljava/lang/Object;" } : Jvm.MethodName)) ∈ lw_all := lw_g (lw_at lw_m3 177 rfl) rfl
theorem q772 : (Jvm.Cond.code ({ cls := "java/util/Arrays", name := "copyOf", desc := "([Ljava/lang/Object;ILjava/lang/Class;)[Ljava/lang/Object;" } : Jvm.MethodName) prog_47_method_120_code (4 : Nat) (Option.some (Jvm.ClassFile.FieldType.array (Jvm.ClassFile.FieldType.object "java/lang/Object")))) ∈ lw_all := lw_g (lw_at lw_m3 178 rfl) rfl
theorem q773 : (Jvm.Cond.classLink "java/util/Arrays" (110 : Nat) "[Ljava/lang/Object;") ∈ lw_all := lw_g (lw_at lw_m3 179 rfl) rfl
theorem q775 : (Jvm.Cond.classLink "java/util/Arrays" (2 : Nat) "java/lang/Object") ∈ lw_all := lw_g (lw_at lw_m3 181 rfl) rfl
theorem q1495 : (Jvm.Cond.static ({ cls := "java/util/Arrays", name := "fill", desc := "([BIIB)V" } : Jvm.MethodName)) ∈ lw_all := lw_g (lw_at lw_m6 181 rfl) rfl
theorem q1496 : (Jvm.Cond.code ({ cls := "java/util/Arrays", name := "fill", desc := "([BIIB)V" } : Jvm.MethodName) prog_47_method_110_code (5 : Nat) (Option.none : Option Jvm.ClassFile.FieldType)) ∈ lw_all := lw_g (lw_at lw_m6 182 rfl) rfl
theorem q1497 : (Jvm.Cond.methodLink "java/util/Arrays" (13 : Nat) ({ cls := "java/util/Arrays", name := "rangeCheck", desc := "(III)V" } : Jvm.MethodName)) ∈ lw_all := lw_g (lw_at lw_m6 183 rfl) rfl
theorem q1498 : (Jvm.Cond.static ({ cls := "java/util/Arrays", name := "rangeCheck", desc := "(III)V" } : Jvm.MethodName)) ∈ lw_all := lw_g (lw_at lw_m6 184 rfl) rfl
theorem q1499 : (Jvm.Cond.code ({ cls := "java/util/Arrays", name := "rangeCheck", desc := "(III)V" } : Jvm.MethodName) prog_47_method_30_code (3 : Nat) (Option.none : Option Jvm.ClassFile.FieldType)) ∈ lw_all := lw_g (lw_at lw_m6 185 rfl) rfl
theorem q1500 : (Jvm.Cond.stringRef "java/util/Arrays" (48 : Nat) "fromIndex(") ∈ lw_tbl := lw_at lw_m6 186 rfl
theorem q1501 : (Jvm.Cond.stringRef "java/util/Arrays" (57 : Nat) ") > toIndex(") ∈ lw_tbl := lw_at lw_m6 187 rfl
theorem q1502 : (Jvm.Cond.stringRef "java/util/Arrays" (59 : Nat) ")") ∈ lw_tbl := lw_at lw_m6 188 rfl
theorem q1503 : (Jvm.Cond.classLink "java/util/Arrays" (68 : Nat) "java/lang/ArrayIndexOutOfBoundsException") ∈ lw_all := lw_g (lw_at lw_m6 189 rfl) rfl
theorem q1514 : (Jvm.Cond.methodLink "java/util/Arrays" (70 : Nat) ({ cls := "java/lang/ArrayIndexOutOfBoundsException", name := "<init>", desc := "(I)V" } : Jvm.MethodName)) ∈ lw_all := lw_g (lw_at lw_m6 200 rfl) rfl

/-! java/lang/StringLatin1 -/
set_option maxRecDepth 100000
def RJ20 : String := "java/lang/StringLatin1"
abbrev cJ20_inflate : ByteArray := prog_35_method_50_code
def yJ20_inflate : MethodName := ⟨RJ20, "inflate", "([BI[BII)V"⟩
def dkwJ20_inflate_0 : List UInt8 := [42, 27, 44, 29, 21, 4, 184, 0, 240, 177]
abbrev dktJ20_inflate_0 : List UInt8 := dkwJ20_inflate_0 ++ []
theorem dksJ20_inflate_0 : cJ20_inflate.data.toList.drop 0 = dktJ20_inflate_0 := by decide +kernel
theorem dJ20_inflate_0 : decode cJ20_inflate 0 = .ok (.aload_n 0, 1) := dk_42 (dk_at dksJ20_inflate_0 0 rfl rfl)
theorem dJ20_inflate_1 : decode cJ20_inflate 1 = .ok (.iload_n 1, 1) := dk_27 (dk_at dksJ20_inflate_0 1 rfl rfl)
theorem dJ20_inflate_2 : decode cJ20_inflate 2 = .ok (.aload_n 2, 1) := dk_44 (dk_at dksJ20_inflate_0 2 rfl rfl)
theorem dJ20_inflate_3 : decode cJ20_inflate 3 = .ok (.iload_n 3, 1) := dk_29 (dk_at dksJ20_inflate_0 3 rfl rfl)
theorem dJ20_inflate_4 : decode cJ20_inflate 4 = .ok (.iload 4, 2) := dk_21 4 (dk_at dksJ20_inflate_0 4 rfl rfl)
theorem dJ20_inflate_6 : decode cJ20_inflate 6 = .ok (.invokestatic 240, 3) := dk_184 0 240 (dk_at dksJ20_inflate_0 6 rfl rfl)
theorem dJ20_inflate_9 : decode cJ20_inflate 9 = .ok (.return_, 1) := dk_177 (dk_at dksJ20_inflate_0 9 rfl rfl)
abbrev cJ20_compareTo : ByteArray := prog_35_method_14_code
def yJ20_compareTo : MethodName := ⟨RJ20, "compareTo", "([B[B)I"⟩
def dkwJ20_compareTo_0 : List UInt8 := [42, 190, 61, 43, 190, 62, 42, 43, 28, 29, 184, 0, 34, 172]
abbrev dktJ20_compareTo_0 : List UInt8 := dkwJ20_compareTo_0 ++ []
theorem dksJ20_compareTo_0 : cJ20_compareTo.data.toList.drop 0 = dktJ20_compareTo_0 := by decide +kernel
theorem dJ20_compareTo_0 : decode cJ20_compareTo 0 = .ok (.aload_n 0, 1) := dk_42 (dk_at dksJ20_compareTo_0 0 rfl rfl)
theorem dJ20_compareTo_1 : decode cJ20_compareTo 1 = .ok (.arraylength, 1) := dk_190 (dk_at dksJ20_compareTo_0 1 rfl rfl)
theorem dJ20_compareTo_2 : decode cJ20_compareTo 2 = .ok (.istore_n 2, 1) := dk_61 (dk_at dksJ20_compareTo_0 2 rfl rfl)
theorem dJ20_compareTo_3 : decode cJ20_compareTo 3 = .ok (.aload_n 1, 1) := dk_43 (dk_at dksJ20_compareTo_0 3 rfl rfl)
theorem dJ20_compareTo_4 : decode cJ20_compareTo 4 = .ok (.arraylength, 1) := dk_190 (dk_at dksJ20_compareTo_0 4 rfl rfl)
theorem dJ20_compareTo_5 : decode cJ20_compareTo 5 = .ok (.istore_n 3, 1) := dk_62 (dk_at dksJ20_compareTo_0 5 rfl rfl)
theorem dJ20_compareTo_6 : decode cJ20_compareTo 6 = .ok (.aload_n 0, 1) := dk_42 (dk_at dksJ20_compareTo_0 6 rfl rfl)
theorem dJ20_compareTo_7 : decode cJ20_compareTo 7 = .ok (.aload_n 1, 1) := dk_43 (dk_at dksJ20_compareTo_0 7 rfl rfl)
theorem dJ20_compareTo_8 : decode cJ20_compareTo 8 = .ok (.iload_n 2, 1) := dk_28 (dk_at dksJ20_compareTo_0 8 rfl rfl)
theorem dJ20_compareTo_9 : decode cJ20_compareTo 9 = .ok (.iload_n 3, 1) := dk_29 (dk_at dksJ20_compareTo_0 9 rfl rfl)
theorem dJ20_compareTo_10 : decode cJ20_compareTo 10 = .ok (.invokestatic 34, 3) := dk_184 0 34 (dk_at dksJ20_compareTo_0 10 rfl rfl)
theorem dJ20_compareTo_13 : decode cJ20_compareTo 13 = .ok (.ireturn, 1) := dk_172 (dk_at dksJ20_compareTo_0 13 rfl rfl)
abbrev cJ20_compareTo_2 : ByteArray := prog_35_method_15_code
def yJ20_compareTo_2 : MethodName := ⟨RJ20, "compareTo", "([B[BII)I"⟩
def dkwJ20_compareTo_2_1 : List UInt8 := [167, 0, 16, 42, 21, 5, 184, 0, 50, 43, 21, 5, 184, 0, 50, 100, 172]
abbrev dktJ20_compareTo_2_1 : List UInt8 := dkwJ20_compareTo_2_1 ++ []
def dkwJ20_compareTo_2_0 : List UInt8 := [28, 29, 184, 0, 38, 54, 4, 42, 43, 21, 4, 184, 0, 44, 54, 5, 21, 5, 156, 0, 9, 28, 29, 100]
abbrev dktJ20_compareTo_2_0 : List UInt8 := dkwJ20_compareTo_2_0 ++ dktJ20_compareTo_2_1
theorem dksJ20_compareTo_2_0 : cJ20_compareTo_2.data.toList.drop 0 = dktJ20_compareTo_2_0 := by decide +kernel
theorem dksJ20_compareTo_2_1 : cJ20_compareTo_2.data.toList.drop 24 = dktJ20_compareTo_2_1 := dk_seg dksJ20_compareTo_2_0 24 rfl rfl
theorem dJ20_compareTo_2_0 : decode cJ20_compareTo_2 0 = .ok (.iload_n 2, 1) := dk_28 (dk_at dksJ20_compareTo_2_0 0 rfl rfl)
theorem dJ20_compareTo_2_1 : decode cJ20_compareTo_2 1 = .ok (.iload_n 3, 1) := dk_29 (dk_at dksJ20_compareTo_2_0 1 rfl rfl)
theorem dJ20_compareTo_2_2 : decode cJ20_compareTo_2 2 = .ok (.invokestatic 38, 3) := dk_184 0 38 (dk_at dksJ20_compareTo_2_0 2 rfl rfl)
theorem dJ20_compareTo_2_5 : decode cJ20_compareTo_2 5 = .ok (.istore 4, 2) := dk_54 4 (dk_at dksJ20_compareTo_2_0 5 rfl rfl)
theorem dJ20_compareTo_2_7 : decode cJ20_compareTo_2 7 = .ok (.aload_n 0, 1) := dk_42 (dk_at dksJ20_compareTo_2_0 7 rfl rfl)
theorem dJ20_compareTo_2_8 : decode cJ20_compareTo_2 8 = .ok (.aload_n 1, 1) := dk_43 (dk_at dksJ20_compareTo_2_0 8 rfl rfl)
theorem dJ20_compareTo_2_9 : decode cJ20_compareTo_2 9 = .ok (.iload 4, 2) := dk_21 4 (dk_at dksJ20_compareTo_2_0 9 rfl rfl)
theorem dJ20_compareTo_2_11 : decode cJ20_compareTo_2 11 = .ok (.invokestatic 44, 3) := dk_184 0 44 (dk_at dksJ20_compareTo_2_0 11 rfl rfl)
theorem dJ20_compareTo_2_14 : decode cJ20_compareTo_2 14 = .ok (.istore 5, 2) := dk_54 5 (dk_at dksJ20_compareTo_2_0 14 rfl rfl)
theorem dJ20_compareTo_2_16 : decode cJ20_compareTo_2 16 = .ok (.iload 5, 2) := dk_21 5 (dk_at dksJ20_compareTo_2_0 16 rfl rfl)
theorem dJ20_compareTo_2_18 : decode cJ20_compareTo_2 18 = .ok (.ifCond .ge 9, 3) := dk_156 0 9 (dk_at dksJ20_compareTo_2_0 18 rfl rfl)
theorem dJ20_compareTo_2_21 : decode cJ20_compareTo_2 21 = .ok (.iload_n 2, 1) := dk_28 (dk_at dksJ20_compareTo_2_0 21 rfl rfl)
theorem dJ20_compareTo_2_22 : decode cJ20_compareTo_2 22 = .ok (.iload_n 3, 1) := dk_29 (dk_at dksJ20_compareTo_2_0 22 rfl rfl)
theorem dJ20_compareTo_2_23 : decode cJ20_compareTo_2 23 = .ok (.isub, 1) := dk_100 (dk_at dksJ20_compareTo_2_0 23 rfl rfl)
theorem dJ20_compareTo_2_24 : decode cJ20_compareTo_2 24 = .ok (.goto 16, 3) := dk_167 0 16 (dk_at dksJ20_compareTo_2_1 0 rfl rfl)
theorem dJ20_compareTo_2_27 : decode cJ20_compareTo_2 27 = .ok (.aload_n 0, 1) := dk_42 (dk_at dksJ20_compareTo_2_1 3 rfl rfl)
theorem dJ20_compareTo_2_28 : decode cJ20_compareTo_2 28 = .ok (.iload 5, 2) := dk_21 5 (dk_at dksJ20_compareTo_2_1 4 rfl rfl)
theorem dJ20_compareTo_2_30 : decode cJ20_compareTo_2 30 = .ok (.invokestatic 50, 3) := dk_184 0 50 (dk_at dksJ20_compareTo_2_1 6 rfl rfl)
theorem dJ20_compareTo_2_33 : decode cJ20_compareTo_2 33 = .ok (.aload_n 1, 1) := dk_43 (dk_at dksJ20_compareTo_2_1 9 rfl rfl)
theorem dJ20_compareTo_2_34 : decode cJ20_compareTo_2 34 = .ok (.iload 5, 2) := dk_21 5 (dk_at dksJ20_compareTo_2_1 10 rfl rfl)
theorem dJ20_compareTo_2_36 : decode cJ20_compareTo_2 36 = .ok (.invokestatic 50, 3) := dk_184 0 50 (dk_at dksJ20_compareTo_2_1 12 rfl rfl)
theorem dJ20_compareTo_2_39 : decode cJ20_compareTo_2 39 = .ok (.isub, 1) := dk_100 (dk_at dksJ20_compareTo_2_1 15 rfl rfl)
theorem dJ20_compareTo_2_40 : decode cJ20_compareTo_2 40 = .ok (.ireturn, 1) := dk_172 (dk_at dksJ20_compareTo_2_1 16 rfl rfl)
abbrev cJ20_getChar : ByteArray := prog_35_method_44_code
def yJ20_getChar : MethodName := ⟨RJ20, "getChar", "([BI)C"⟩
def dkwJ20_getChar_0 : List UInt8 := [42, 27, 51, 17, 0, 255, 126, 146, 172]
abbrev dktJ20_getChar_0 : List UInt8 := dkwJ20_getChar_0 ++ []
theorem dksJ20_getChar_0 : cJ20_getChar.data.toList.drop 0 = dktJ20_getChar_0 := by decide +kernel
theorem dJ20_getChar_0 : decode cJ20_getChar 0 = .ok (.aload_n 0, 1) := dk_42 (dk_at dksJ20_getChar_0 0 rfl rfl)
theorem dJ20_getChar_1 : decode cJ20_getChar 1 = .ok (.iload_n 1, 1) := dk_27 (dk_at dksJ20_getChar_0 1 rfl rfl)
theorem dJ20_getChar_2 : decode cJ20_getChar 2 = .ok (.baload, 1) := dk_51 (dk_at dksJ20_getChar_0 2 rfl rfl)
theorem dJ20_getChar_3 : decode cJ20_getChar 3 = .ok (.sipush 255, 3) := dk_17 0 255 (dk_at dksJ20_getChar_0 3 rfl rfl)
theorem dJ20_getChar_6 : decode cJ20_getChar 6 = .ok (.iand, 1) := dk_126 (dk_at dksJ20_getChar_0 6 rfl rfl)
theorem dJ20_getChar_7 : decode cJ20_getChar 7 = .ok (.i2c, 1) := dk_146 (dk_at dksJ20_getChar_0 7 rfl rfl)
theorem dJ20_getChar_8 : decode cJ20_getChar 8 = .ok (.ireturn, 1) := dk_172 (dk_at dksJ20_getChar_0 8 rfl rfl)
abbrev cJ20_compareToUTF16 : ByteArray := prog_35_method_16_code
def yJ20_compareToUTF16 : MethodName := ⟨RJ20, "compareToUTF16", "([B[B)I"⟩
def dkwJ20_compareToUTF16_0 : List UInt8 := [42, 184, 0, 54, 61, 43, 184, 0, 58, 62, 42, 43, 28, 29, 184, 0, 59, 172]
abbrev dktJ20_compareToUTF16_0 : List UInt8 := dkwJ20_compareToUTF16_0 ++ []
theorem dksJ20_compareToUTF16_0 : cJ20_compareToUTF16.data.toList.drop 0 = dktJ20_compareToUTF16_0 := by decide +kernel
theorem dJ20_compareToUTF16_0 : decode cJ20_compareToUTF16 0 = .ok (.aload_n 0, 1) := dk_42 (dk_at dksJ20_compareToUTF16_0 0 rfl rfl)
theorem dJ20_compareToUTF16_1 : decode cJ20_compareToUTF16 1 = .ok (.invokestatic 54, 3) := dk_184 0 54 (dk_at dksJ20_compareToUTF16_0 1 rfl rfl)
theorem dJ20_compareToUTF16_4 : decode cJ20_compareToUTF16 4 = .ok (.istore_n 2, 1) := dk_61 (dk_at dksJ20_compareToUTF16_0 4 rfl rfl)
theorem dJ20_compareToUTF16_5 : decode cJ20_compareToUTF16 5 = .ok (.aload_n 1, 1) := dk_43 (dk_at dksJ20_compareToUTF16_0 5 rfl rfl)
theorem dJ20_compareToUTF16_6 : decode cJ20_compareToUTF16 6 = .ok (.invokestatic 58, 3) := dk_184 0 58 (dk_at dksJ20_compareToUTF16_0 6 rfl rfl)
theorem dJ20_compareToUTF16_9 : decode cJ20_compareToUTF16 9 = .ok (.istore_n 3, 1) := dk_62 (dk_at dksJ20_compareToUTF16_0 9 rfl rfl)
theorem dJ20_compareToUTF16_10 : decode cJ20_compareToUTF16 10 = .ok (.aload_n 0, 1) := dk_42 (dk_at dksJ20_compareToUTF16_0 10 rfl rfl)
theorem dJ20_compareToUTF16_11 : decode cJ20_compareToUTF16 11 = .ok (.aload_n 1, 1) := dk_43 (dk_at dksJ20_compareToUTF16_0 11 rfl rfl)
theorem dJ20_compareToUTF16_12 : decode cJ20_compareToUTF16 12 = .ok (.iload_n 2, 1) := dk_28 (dk_at dksJ20_compareToUTF16_0 12 rfl rfl)
theorem dJ20_compareToUTF16_13 : decode cJ20_compareToUTF16 13 = .ok (.iload_n 3, 1) := dk_29 (dk_at dksJ20_compareToUTF16_0 13 rfl rfl)
theorem dJ20_compareToUTF16_14 : decode cJ20_compareToUTF16 14 = .ok (.invokestatic 59, 3) := dk_184 0 59 (dk_at dksJ20_compareToUTF16_0 14 rfl rfl)
theorem dJ20_compareToUTF16_17 : decode cJ20_compareToUTF16 17 = .ok (.ireturn, 1) := dk_172 (dk_at dksJ20_compareToUTF16_0 17 rfl rfl)
abbrev cJ20_length : ByteArray := prog_35_method_5_code
def yJ20_length : MethodName := ⟨RJ20, "length", "([B)I"⟩
theorem dJ20_length_0 : decode cJ20_length 0 = .ok (.aload_n 0, 1) := by decide +kernel
theorem dJ20_length_1 : decode cJ20_length 1 = .ok (.arraylength, 1) := by decide +kernel
theorem dJ20_length_2 : decode cJ20_length 2 = .ok (.ireturn, 1) := by decide +kernel
abbrev cJ20_compareToUTF16Values : ByteArray := prog_35_method_18_code
def yJ20_compareToUTF16Values : MethodName := ⟨RJ20, "compareToUTF16Values", "([B[BII)I"⟩
def dkwJ20_compareToUTF16Values_2 : List UInt8 := [132, 5, 1, 167, 255, 217, 28, 29, 100, 172]
abbrev dktJ20_compareToUTF16Values_2 : List UInt8 := dkwJ20_compareToUTF16Values_2 ++ []
def dkwJ20_compareToUTF16Values_1 : List UInt8 := [54, 6, 43, 21, 5, 184, 0, 65, 54, 7, 21, 6, 21, 7, 159, 0, 9, 21, 6, 21, 7, 100, 172]
abbrev dktJ20_compareToUTF16Values_1 : List UInt8 := dkwJ20_compareToUTF16Values_1 ++ dktJ20_compareToUTF16Values_2
def dkwJ20_compareToUTF16Values_0 : List UInt8 := [28, 29, 184, 0, 38, 54, 4, 3, 54, 5, 21, 5, 21, 4, 162, 0, 38, 42, 21, 5, 184, 0, 50]
abbrev dktJ20_compareToUTF16Values_0 : List UInt8 := dkwJ20_compareToUTF16Values_0 ++ dktJ20_compareToUTF16Values_1
theorem dksJ20_compareToUTF16Values_0 : cJ20_compareToUTF16Values.data.toList.drop 0 = dktJ20_compareToUTF16Values_0 := by decide +kernel
theorem dksJ20_compareToUTF16Values_1 : cJ20_compareToUTF16Values.data.toList.drop 23 = dktJ20_compareToUTF16Values_1 := dk_seg dksJ20_compareToUTF16Values_0 23 rfl rfl
theorem dksJ20_compareToUTF16Values_2 : cJ20_compareToUTF16Values.data.toList.drop 46 = dktJ20_compareToUTF16Values_2 := dk_seg dksJ20_compareToUTF16Values_1 23 rfl rfl
theorem dJ20_compareToUTF16Values_0 : decode cJ20_compareToUTF16Values 0 = .ok (.iload_n 2, 1) := dk_28 (dk_at dksJ20_compareToUTF16Values_0 0 rfl rfl)
theorem dJ20_compareToUTF16Values_1 : decode cJ20_compareToUTF16Values 1 = .ok (.iload_n 3, 1) := dk_29 (dk_at dksJ20_compareToUTF16Values_0 1 rfl rfl)
theorem dJ20_compareToUTF16Values_2 : decode cJ20_compareToUTF16Values 2 = .ok (.invokestatic 38, 3) := dk_184 0 38 (dk_at dksJ20_compareToUTF16Values_0 2 rfl rfl)
theorem dJ20_compareToUTF16Values_5 : decode cJ20_compareToUTF16Values 5 = .ok (.istore 4, 2) := dk_54 4 (dk_at dksJ20_compareToUTF16Values_0 5 rfl rfl)
theorem dJ20_compareToUTF16Values_7 : decode cJ20_compareToUTF16Values 7 = .ok (.iconst 0, 1) := dk_3 (dk_at dksJ20_compareToUTF16Values_0 7 rfl rfl)
theorem dJ20_compareToUTF16Values_8 : decode cJ20_compareToUTF16Values 8 = .ok (.istore 5, 2) := dk_54 5 (dk_at dksJ20_compareToUTF16Values_0 8 rfl rfl)
theorem dJ20_compareToUTF16Values_10 : decode cJ20_compareToUTF16Values 10 = .ok (.iload 5, 2) := dk_21 5 (dk_at dksJ20_compareToUTF16Values_0 10 rfl rfl)
theorem dJ20_compareToUTF16Values_12 : decode cJ20_compareToUTF16Values 12 = .ok (.iload 4, 2) := dk_21 4 (dk_at dksJ20_compareToUTF16Values_0 12 rfl rfl)
theorem dJ20_compareToUTF16Values_14 : decode cJ20_compareToUTF16Values 14 = .ok (.if_icmp .ge 38, 3) := dk_162 0 38 (dk_at dksJ20_compareToUTF16Values_0 14 rfl rfl)
theorem dJ20_compareToUTF16Values_17 : decode cJ20_compareToUTF16Values 17 = .ok (.aload_n 0, 1) := dk_42 (dk_at dksJ20_compareToUTF16Values_0 17 rfl rfl)
theorem dJ20_compareToUTF16Values_18 : decode cJ20_compareToUTF16Values 18 = .ok (.iload 5, 2) := dk_21 5 (dk_at dksJ20_compareToUTF16Values_0 18 rfl rfl)
theorem dJ20_compareToUTF16Values_20 : decode cJ20_compareToUTF16Values 20 = .ok (.invokestatic 50, 3) := dk_184 0 50 (dk_at dksJ20_compareToUTF16Values_0 20 rfl rfl)
theorem dJ20_compareToUTF16Values_23 : decode cJ20_compareToUTF16Values 23 = .ok (.istore 6, 2) := dk_54 6 (dk_at dksJ20_compareToUTF16Values_1 0 rfl rfl)
theorem dJ20_compareToUTF16Values_25 : decode cJ20_compareToUTF16Values 25 = .ok (.aload_n 1, 1) := dk_43 (dk_at dksJ20_compareToUTF16Values_1 2 rfl rfl)
theorem dJ20_compareToUTF16Values_26 : decode cJ20_compareToUTF16Values 26 = .ok (.iload 5, 2) := dk_21 5 (dk_at dksJ20_compareToUTF16Values_1 3 rfl rfl)
theorem dJ20_compareToUTF16Values_28 : decode cJ20_compareToUTF16Values 28 = .ok (.invokestatic 65, 3) := dk_184 0 65 (dk_at dksJ20_compareToUTF16Values_1 5 rfl rfl)
theorem dJ20_compareToUTF16Values_31 : decode cJ20_compareToUTF16Values 31 = .ok (.istore 7, 2) := dk_54 7 (dk_at dksJ20_compareToUTF16Values_1 8 rfl rfl)
theorem dJ20_compareToUTF16Values_33 : decode cJ20_compareToUTF16Values 33 = .ok (.iload 6, 2) := dk_21 6 (dk_at dksJ20_compareToUTF16Values_1 10 rfl rfl)
theorem dJ20_compareToUTF16Values_35 : decode cJ20_compareToUTF16Values 35 = .ok (.iload 7, 2) := dk_21 7 (dk_at dksJ20_compareToUTF16Values_1 12 rfl rfl)
theorem dJ20_compareToUTF16Values_37 : decode cJ20_compareToUTF16Values 37 = .ok (.if_icmp .eq 9, 3) := dk_159 0 9 (dk_at dksJ20_compareToUTF16Values_1 14 rfl rfl)
theorem dJ20_compareToUTF16Values_40 : decode cJ20_compareToUTF16Values 40 = .ok (.iload 6, 2) := dk_21 6 (dk_at dksJ20_compareToUTF16Values_1 17 rfl rfl)
theorem dJ20_compareToUTF16Values_42 : decode cJ20_compareToUTF16Values 42 = .ok (.iload 7, 2) := dk_21 7 (dk_at dksJ20_compareToUTF16Values_1 19 rfl rfl)
theorem dJ20_compareToUTF16Values_44 : decode cJ20_compareToUTF16Values 44 = .ok (.isub, 1) := dk_100 (dk_at dksJ20_compareToUTF16Values_1 21 rfl rfl)
theorem dJ20_compareToUTF16Values_45 : decode cJ20_compareToUTF16Values 45 = .ok (.ireturn, 1) := dk_172 (dk_at dksJ20_compareToUTF16Values_1 22 rfl rfl)
theorem dJ20_compareToUTF16Values_46 : decode cJ20_compareToUTF16Values 46 = .ok (.iinc 5 1, 3) := dk_132 5 1 (dk_at dksJ20_compareToUTF16Values_2 0 rfl rfl)
theorem dJ20_compareToUTF16Values_49 : decode cJ20_compareToUTF16Values 49 = .ok (.goto (-39), 3) := dk_167 255 217 (dk_at dksJ20_compareToUTF16Values_2 3 rfl rfl)
theorem dJ20_compareToUTF16Values_52 : decode cJ20_compareToUTF16Values 52 = .ok (.iload_n 2, 1) := dk_28 (dk_at dksJ20_compareToUTF16Values_2 6 rfl rfl)
theorem dJ20_compareToUTF16Values_53 : decode cJ20_compareToUTF16Values 53 = .ok (.iload_n 3, 1) := dk_29 (dk_at dksJ20_compareToUTF16Values_2 7 rfl rfl)
theorem dJ20_compareToUTF16Values_54 : decode cJ20_compareToUTF16Values 54 = .ok (.isub, 1) := dk_100 (dk_at dksJ20_compareToUTF16Values_2 8 rfl rfl)
theorem dJ20_compareToUTF16Values_55 : decode cJ20_compareToUTF16Values 55 = .ok (.ireturn, 1) := dk_172 (dk_at dksJ20_compareToUTF16Values_2 9 rfl rfl)
abbrev cJ20_compareToUTF16_2 : ByteArray := prog_35_method_17_code
def yJ20_compareToUTF16_2 : MethodName := ⟨RJ20, "compareToUTF16", "([B[BII)I"⟩
def dkwJ20_compareToUTF16_2_0 : List UInt8 := [28, 42, 184, 0, 54, 184, 0, 62, 29, 43, 184, 0, 58, 184, 0, 62, 42, 43, 28, 29, 184, 0, 59, 172]
abbrev dktJ20_compareToUTF16_2_0 : List UInt8 := dkwJ20_compareToUTF16_2_0 ++ []
theorem dksJ20_compareToUTF16_2_0 : cJ20_compareToUTF16_2.data.toList.drop 0 = dktJ20_compareToUTF16_2_0 := by decide +kernel
theorem dJ20_compareToUTF16_2_0 : decode cJ20_compareToUTF16_2 0 = .ok (.iload_n 2, 1) := dk_28 (dk_at dksJ20_compareToUTF16_2_0 0 rfl rfl)
theorem dJ20_compareToUTF16_2_1 : decode cJ20_compareToUTF16_2 1 = .ok (.aload_n 0, 1) := dk_42 (dk_at dksJ20_compareToUTF16_2_0 1 rfl rfl)
theorem dJ20_compareToUTF16_2_2 : decode cJ20_compareToUTF16_2 2 = .ok (.invokestatic 54, 3) := dk_184 0 54 (dk_at dksJ20_compareToUTF16_2_0 2 rfl rfl)
theorem dJ20_compareToUTF16_2_5 : decode cJ20_compareToUTF16_2 5 = .ok (.invokestatic 62, 3) := dk_184 0 62 (dk_at dksJ20_compareToUTF16_2_0 5 rfl rfl)
theorem dJ20_compareToUTF16_2_8 : decode cJ20_compareToUTF16_2 8 = .ok (.iload_n 3, 1) := dk_29 (dk_at dksJ20_compareToUTF16_2_0 8 rfl rfl)
theorem dJ20_compareToUTF16_2_9 : decode cJ20_compareToUTF16_2 9 = .ok (.aload_n 1, 1) := dk_43 (dk_at dksJ20_compareToUTF16_2_0 9 rfl rfl)
theorem dJ20_compareToUTF16_2_10 : decode cJ20_compareToUTF16_2 10 = .ok (.invokestatic 58, 3) := dk_184 0 58 (dk_at dksJ20_compareToUTF16_2_0 10 rfl rfl)
theorem dJ20_compareToUTF16_2_13 : decode cJ20_compareToUTF16_2 13 = .ok (.invokestatic 62, 3) := dk_184 0 62 (dk_at dksJ20_compareToUTF16_2_0 13 rfl rfl)
theorem dJ20_compareToUTF16_2_16 : decode cJ20_compareToUTF16_2 16 = .ok (.aload_n 0, 1) := dk_42 (dk_at dksJ20_compareToUTF16_2_0 16 rfl rfl)
theorem dJ20_compareToUTF16_2_17 : decode cJ20_compareToUTF16_2 17 = .ok (.aload_n 1, 1) := dk_43 (dk_at dksJ20_compareToUTF16_2_0 17 rfl rfl)
theorem dJ20_compareToUTF16_2_18 : decode cJ20_compareToUTF16_2 18 = .ok (.iload_n 2, 1) := dk_28 (dk_at dksJ20_compareToUTF16_2_0 18 rfl rfl)
theorem dJ20_compareToUTF16_2_19 : decode cJ20_compareToUTF16_2 19 = .ok (.iload_n 3, 1) := dk_29 (dk_at dksJ20_compareToUTF16_2_0 19 rfl rfl)
theorem dJ20_compareToUTF16_2_20 : decode cJ20_compareToUTF16_2 20 = .ok (.invokestatic 59, 3) := dk_184 0 59 (dk_at dksJ20_compareToUTF16_2_0 20 rfl rfl)
theorem dJ20_compareToUTF16_2_23 : decode cJ20_compareToUTF16_2 23 = .ok (.ireturn, 1) := dk_172 (dk_at dksJ20_compareToUTF16_2_0 23 rfl rfl)
abbrev cJ20_fillNull : ByteArray := prog_35_method_48_code
def yJ20_fillNull : MethodName := ⟨RJ20, "fillNull", "([BII)V"⟩
def dkwJ20_fillNull_0 : List UInt8 := [42, 27, 28, 3, 184, 0, 236, 177]
abbrev dktJ20_fillNull_0 : List UInt8 := dkwJ20_fillNull_0 ++ []
theorem dksJ20_fillNull_0 : cJ20_fillNull.data.toList.drop 0 = dktJ20_fillNull_0 := by decide +kernel
theorem dJ20_fillNull_0 : decode cJ20_fillNull 0 = .ok (.aload_n 0, 1) := dk_42 (dk_at dksJ20_fillNull_0 0 rfl rfl)
theorem dJ20_fillNull_1 : decode cJ20_fillNull 1 = .ok (.iload_n 1, 1) := dk_27 (dk_at dksJ20_fillNull_0 1 rfl rfl)
theorem dJ20_fillNull_2 : decode cJ20_fillNull 2 = .ok (.iload_n 2, 1) := dk_28 (dk_at dksJ20_fillNull_0 2 rfl rfl)
theorem dJ20_fillNull_3 : decode cJ20_fillNull 3 = .ok (.iconst 0, 1) := dk_3 (dk_at dksJ20_fillNull_0 3 rfl rfl)
theorem dJ20_fillNull_4 : decode cJ20_fillNull 4 = .ok (.invokestatic 236, 3) := dk_184 0 236 (dk_at dksJ20_fillNull_0 4 rfl rfl)
theorem dJ20_fillNull_7 : decode cJ20_fillNull 7 = .ok (.return_, 1) := dk_177 (dk_at dksJ20_fillNull_0 7 rfl rfl)
abbrev cJ20_charAt : ByteArray := prog_35_method_2_code
def yJ20_charAt : MethodName := ⟨RJ20, "charAt", "([BI)C"⟩
def dkwJ20_charAt_0 : List UInt8 := [27, 42, 190, 184, 0, 9, 42, 27, 51, 17, 0, 255, 126, 146, 172]
abbrev dktJ20_charAt_0 : List UInt8 := dkwJ20_charAt_0 ++ []
theorem dksJ20_charAt_0 : cJ20_charAt.data.toList.drop 0 = dktJ20_charAt_0 := by decide +kernel
theorem dJ20_charAt_0 : decode cJ20_charAt 0 = .ok (.iload_n 1, 1) := dk_27 (dk_at dksJ20_charAt_0 0 rfl rfl)
theorem dJ20_charAt_1 : decode cJ20_charAt 1 = .ok (.aload_n 0, 1) := dk_42 (dk_at dksJ20_charAt_0 1 rfl rfl)
theorem dJ20_charAt_2 : decode cJ20_charAt 2 = .ok (.arraylength, 1) := dk_190 (dk_at dksJ20_charAt_0 2 rfl rfl)
theorem dJ20_charAt_3 : decode cJ20_charAt 3 = .ok (.invokestatic 9, 3) := dk_184 0 9 (dk_at dksJ20_charAt_0 3 rfl rfl)
theorem dJ20_charAt_6 : decode cJ20_charAt 6 = .ok (.aload_n 0, 1) := dk_42 (dk_at dksJ20_charAt_0 6 rfl rfl)
theorem dJ20_charAt_7 : decode cJ20_charAt 7 = .ok (.iload_n 1, 1) := dk_27 (dk_at dksJ20_charAt_0 7 rfl rfl)
theorem dJ20_charAt_8 : decode cJ20_charAt 8 = .ok (.baload, 1) := dk_51 (dk_at dksJ20_charAt_0 8 rfl rfl)
theorem dJ20_charAt_9 : decode cJ20_charAt 9 = .ok (.sipush 255, 3) := dk_17 0 255 (dk_at dksJ20_charAt_0 9 rfl rfl)
theorem dJ20_charAt_12 : decode cJ20_charAt 12 = .ok (.iand, 1) := dk_126 (dk_at dksJ20_charAt_0 12 rfl rfl)
theorem dJ20_charAt_13 : decode cJ20_charAt 13 = .ok (.i2c, 1) := dk_146 (dk_at dksJ20_charAt_0 13 rfl rfl)
theorem dJ20_charAt_14 : decode cJ20_charAt 14 = .ok (.ireturn, 1) := dk_172 (dk_at dksJ20_charAt_0 14 rfl rfl)
abbrev cJ20_equals : ByteArray := prog_35_method_13_code
def yJ20_equals : MethodName := ⟨RJ20, "equals", "([B[B)Z"⟩
def dkwJ20_equals_1 : List UInt8 := [3, 172, 132, 2, 1, 167, 255, 236, 4, 172, 3, 172]
abbrev dktJ20_equals_1 : List UInt8 := dkwJ20_equals_1 ++ []
def dkwJ20_equals_0 : List UInt8 := [42, 190, 43, 190, 160, 0, 30, 3, 61, 28, 42, 190, 162, 0, 20, 42, 28, 51, 43, 28, 51, 159, 0, 5]
abbrev dktJ20_equals_0 : List UInt8 := dkwJ20_equals_0 ++ dktJ20_equals_1
theorem dksJ20_equals_0 : cJ20_equals.data.toList.drop 0 = dktJ20_equals_0 := by decide +kernel
theorem dksJ20_equals_1 : cJ20_equals.data.toList.drop 24 = dktJ20_equals_1 := dk_seg dksJ20_equals_0 24 rfl rfl
theorem dJ20_equals_0 : decode cJ20_equals 0 = .ok (.aload_n 0, 1) := dk_42 (dk_at dksJ20_equals_0 0 rfl rfl)
theorem dJ20_equals_1 : decode cJ20_equals 1 = .ok (.arraylength, 1) := dk_190 (dk_at dksJ20_equals_0 1 rfl rfl)
theorem dJ20_equals_2 : decode cJ20_equals 2 = .ok (.aload_n 1, 1) := dk_43 (dk_at dksJ20_equals_0 2 rfl rfl)
theorem dJ20_equals_3 : decode cJ20_equals 3 = .ok (.arraylength, 1) := dk_190 (dk_at dksJ20_equals_0 3 rfl rfl)
theorem dJ20_equals_4 : decode cJ20_equals 4 = .ok (.if_icmp .ne 30, 3) := dk_160 0 30 (dk_at dksJ20_equals_0 4 rfl rfl)
theorem dJ20_equals_7 : decode cJ20_equals 7 = .ok (.iconst 0, 1) := dk_3 (dk_at dksJ20_equals_0 7 rfl rfl)
theorem dJ20_equals_8 : decode cJ20_equals 8 = .ok (.istore_n 2, 1) := dk_61 (dk_at dksJ20_equals_0 8 rfl rfl)
theorem dJ20_equals_9 : decode cJ20_equals 9 = .ok (.iload_n 2, 1) := dk_28 (dk_at dksJ20_equals_0 9 rfl rfl)
theorem dJ20_equals_10 : decode cJ20_equals 10 = .ok (.aload_n 0, 1) := dk_42 (dk_at dksJ20_equals_0 10 rfl rfl)
theorem dJ20_equals_11 : decode cJ20_equals 11 = .ok (.arraylength, 1) := dk_190 (dk_at dksJ20_equals_0 11 rfl rfl)
theorem dJ20_equals_12 : decode cJ20_equals 12 = .ok (.if_icmp .ge 20, 3) := dk_162 0 20 (dk_at dksJ20_equals_0 12 rfl rfl)
theorem dJ20_equals_15 : decode cJ20_equals 15 = .ok (.aload_n 0, 1) := dk_42 (dk_at dksJ20_equals_0 15 rfl rfl)
theorem dJ20_equals_16 : decode cJ20_equals 16 = .ok (.iload_n 2, 1) := dk_28 (dk_at dksJ20_equals_0 16 rfl rfl)
theorem dJ20_equals_17 : decode cJ20_equals 17 = .ok (.baload, 1) := dk_51 (dk_at dksJ20_equals_0 17 rfl rfl)
theorem dJ20_equals_18 : decode cJ20_equals 18 = .ok (.aload_n 1, 1) := dk_43 (dk_at dksJ20_equals_0 18 rfl rfl)
theorem dJ20_equals_19 : decode cJ20_equals 19 = .ok (.iload_n 2, 1) := dk_28 (dk_at dksJ20_equals_0 19 rfl rfl)
theorem dJ20_equals_20 : decode cJ20_equals 20 = .ok (.baload, 1) := dk_51 (dk_at dksJ20_equals_0 20 rfl rfl)
theorem dJ20_equals_21 : decode cJ20_equals 21 = .ok (.if_icmp .eq 5, 3) := dk_159 0 5 (dk_at dksJ20_equals_0 21 rfl rfl)
theorem dJ20_equals_24 : decode cJ20_equals 24 = .ok (.iconst 0, 1) := dk_3 (dk_at dksJ20_equals_1 0 rfl rfl)
theorem dJ20_equals_25 : decode cJ20_equals 25 = .ok (.ireturn, 1) := dk_172 (dk_at dksJ20_equals_1 1 rfl rfl)
theorem dJ20_equals_26 : decode cJ20_equals 26 = .ok (.iinc 2 1, 3) := dk_132 2 1 (dk_at dksJ20_equals_1 2 rfl rfl)
theorem dJ20_equals_29 : decode cJ20_equals 29 = .ok (.goto (-20), 3) := dk_167 255 236 (dk_at dksJ20_equals_1 5 rfl rfl)
theorem dJ20_equals_32 : decode cJ20_equals 32 = .ok (.iconst 1, 1) := dk_4 (dk_at dksJ20_equals_1 8 rfl rfl)
theorem dJ20_equals_33 : decode cJ20_equals 33 = .ok (.ireturn, 1) := dk_172 (dk_at dksJ20_equals_1 9 rfl rfl)
theorem dJ20_equals_34 : decode cJ20_equals 34 = .ok (.iconst 0, 1) := dk_3 (dk_at dksJ20_equals_1 10 rfl rfl)
theorem dJ20_equals_35 : decode cJ20_equals 35 = .ok (.ireturn, 1) := dk_172 (dk_at dksJ20_equals_1 11 rfl rfl)
abbrev cJ20_canEncode : ByteArray := prog_35_method_3_code
def yJ20_canEncode : MethodName := ⟨RJ20, "canEncode", "(C)Z"⟩
def dkwJ20_canEncode_0 : List UInt8 := [26, 17, 0, 255, 163, 0, 7, 4, 167, 0, 4, 3, 172]
abbrev dktJ20_canEncode_0 : List UInt8 := dkwJ20_canEncode_0 ++ []
theorem dksJ20_canEncode_0 : cJ20_canEncode.data.toList.drop 0 = dktJ20_canEncode_0 := by decide +kernel
theorem dJ20_canEncode_0 : decode cJ20_canEncode 0 = .ok (.iload_n 0, 1) := dk_26 (dk_at dksJ20_canEncode_0 0 rfl rfl)
theorem dJ20_canEncode_1 : decode cJ20_canEncode 1 = .ok (.sipush 255, 3) := dk_17 0 255 (dk_at dksJ20_canEncode_0 1 rfl rfl)
theorem dJ20_canEncode_4 : decode cJ20_canEncode 4 = .ok (.if_icmp .gt 7, 3) := dk_163 0 7 (dk_at dksJ20_canEncode_0 4 rfl rfl)
theorem dJ20_canEncode_7 : decode cJ20_canEncode 7 = .ok (.iconst 1, 1) := dk_4 (dk_at dksJ20_canEncode_0 7 rfl rfl)
theorem dJ20_canEncode_8 : decode cJ20_canEncode 8 = .ok (.goto 4, 3) := dk_167 0 4 (dk_at dksJ20_canEncode_0 8 rfl rfl)
theorem dJ20_canEncode_11 : decode cJ20_canEncode 11 = .ok (.iconst 0, 1) := dk_3 (dk_at dksJ20_canEncode_0 11 rfl rfl)
theorem dJ20_canEncode_12 : decode cJ20_canEncode 12 = .ok (.ireturn, 1) := dk_172 (dk_at dksJ20_canEncode_0 12 rfl rfl)
theorem q139 : (Jvm.Cond.initialized "java/lang/StringLatin1") ∈ lw_all := lw_g (lw_at lw_m1 25 rfl) rfl
theorem q562 : (Jvm.Cond.static ({ cls := "java/lang/StringLatin1", name := "inflate", desc := "([BI[BII)V" } : Jvm.MethodName)) ∈ lw_all := lw_g (lw_at lw_m2 208 rfl) rfl
theorem q563 : (Jvm.Cond.code ({ cls := "java/lang/StringLatin1", name := "inflate", desc := "([BI[BII)V" } : Jvm.MethodName) prog_35_method_50_code (5 : Nat) (Option.none : Option Jvm.ClassFile.FieldType)) ∈ lw_all := lw_g (lw_at lw_m2 209 rfl) rfl
theorem q564 : (Jvm.Cond.methodLink "java/lang/StringLatin1" (240 : Nat) ({ cls := "java/lang/StringUTF16", name := "inflate", desc := "([BI[BII)V" } : Jvm.MethodName)) ∈ lw_all := lw_g (lw_at lw_m2 210 rfl) rfl
theorem q991 : (Jvm.Cond.static ({ cls := "java/lang/StringLatin1", name := "compareTo", desc := "([B[B)I" } : Jvm.MethodName)) ∈ lw_all := lw_g (lw_at lw_m4 157 rfl) rfl
theorem q992 : (Jvm.Cond.code ({ cls := "java/lang/StringLatin1", name := "compareTo", desc := "([B[B)I" } : Jvm.MethodName) prog_35_method_14_code (4 : Nat) (Option.some Jvm.ClassFile.FieldType.int)) ∈ lw_all := lw_g (lw_at lw_m4 158 rfl) rfl
theorem q993 : (Jvm.Cond.methodLink "java/lang/StringLatin1" (34 : Nat) ({ cls := "java/lang/StringLatin1", name := "compareTo", desc := "([B[BII)I" } : Jvm.MethodName)) ∈ lw_all := lw_g (lw_at lw_m4 159 rfl) rfl
theorem q994 : (Jvm.Cond.static ({ cls := "java/lang/StringLatin1", name := "compareTo", desc := "([B[BII)I" } : Jvm.MethodName)) ∈ lw_all := lw_g (lw_at lw_m4 160 rfl) rfl
theorem q995 : (Jvm.Cond.code ({ cls := "java/lang/StringLatin1", name := "compareTo", desc := "([B[BII)I" } : Jvm.MethodName) prog_35_method_15_code (6 : Nat) (Option.some Jvm.ClassFile.FieldType.int)) ∈ lw_all := lw_g (lw_at lw_m4 161 rfl) rfl
theorem q996 : (Jvm.Cond.methodLink "java/lang/StringLatin1" (38 : Nat) ({ cls := "java/lang/Math", name := "min", desc := "(II)I" } : Jvm.MethodName)) ∈ lw_all := lw_g (lw_at lw_m4 162 rfl) rfl
theorem q997 : (Jvm.Cond.methodLink "java/lang/StringLatin1" (44 : Nat) ({ cls := "jdk/internal/util/ArraysSupport", name := "mismatch", desc := "([B[BI)I" } : Jvm.MethodName)) ∈ lw_all := lw_g (lw_at lw_m4 163 rfl) rfl
theorem q1101 : (Jvm.Cond.methodLink "java/lang/StringLatin1" (50 : Nat) ({ cls := "java/lang/StringLatin1", name := "getChar", desc := "([BI)C" } : Jvm.MethodName)) ∈ lw_all := lw_g (lw_at lw_m5 27 rfl) rfl
theorem q1102 : (Jvm.Cond.static ({ cls := "java/lang/StringLatin1", name := "getChar", desc := "([BI)C" } : Jvm.MethodName)) ∈ lw_all := lw_g (lw_at lw_m5 28 rfl) rfl
theorem q1103 : (Jvm.Cond.code ({ cls := "java/lang/StringLatin1", name := "getChar", desc := "([BI)C" } : Jvm.MethodName) prog_35_method_44_code (2 : Nat) (Option.some Jvm.ClassFile.FieldType.char)) ∈ lw_all := lw_g (lw_at lw_m5 29 rfl) rfl
theorem q1112 : (Jvm.Cond.static ({ cls := "java/lang/StringLatin1", name := "compareToUTF16", desc := "([B[B)I" } : Jvm.MethodName)) ∈ lw_all := lw_g (lw_at lw_m5 38 rfl) rfl
theorem q1113 : (Jvm.Cond.code ({ cls := "java/lang/StringLatin1", name := "compareToUTF16", desc := "([B[B)I" } : Jvm.MethodName) prog_35_method_16_code (4 : Nat) (Option.some Jvm.ClassFile.FieldType.int)) ∈ lw_all := lw_g (lw_at lw_m5 39 rfl) rfl
theorem q1114 : (Jvm.Cond.methodLink "java/lang/StringLatin1" (54 : Nat) ({ cls := "java/lang/StringLatin1", name := "length", desc := "([B)I" } : Jvm.MethodName)) ∈ lw_all := lw_g (lw_at lw_m5 40 rfl) rfl
theorem q1115 : (Jvm.Cond.static ({ cls := "java/lang/StringLatin1", name := "length", desc := "([B)I" } : Jvm.MethodName)) ∈ lw_all := lw_g (lw_at lw_m5 41 rfl) rfl
theorem q1116 : (Jvm.Cond.code ({ cls := "java/lang/StringLatin1", name := "length", desc := "([B)I" } : Jvm.MethodName) prog_35_method_5_code (1 : Nat) (Option.some Jvm.ClassFile.FieldType.int)) ∈ lw_all := lw_g (lw_at lw_m5 42 rfl) rfl
theorem q1117 : (Jvm.Cond.methodLink "java/lang/StringLatin1" (58 : Nat) ({ cls := "java/lang/StringUTF16", name := "length", desc := "([B)I" } : Jvm.MethodName)) ∈ lw_all := lw_g (lw_at lw_m5 43 rfl) rfl
theorem q1118 : (Jvm.Cond.methodLink "java/lang/StringLatin1" (59 : Nat) ({ cls := "java/lang/StringLatin1", name := "compareToUTF16Values", desc := "([B[BII)I" } : Jvm.MethodName)) ∈ lw_all := lw_g (lw_at lw_m5 44 rfl) rfl
theorem q1119 : (Jvm.Cond.static ({ cls := "java/lang/StringLatin1", name := "compareToUTF16Values", desc := "([B[BII)I" } : Jvm.MethodName)) ∈ lw_all := lw_g (lw_at lw_m5 45 rfl) rfl
theorem q1120 : (Jvm.Cond.code ({ cls := "java/lang/StringLatin1", name := "compareToUTF16Values", desc := "([B[BII)I" } : Jvm.MethodName) prog_35_method_18_code (8 : Nat) (Option.some Jvm.ClassFile.FieldType.int)) ∈ lw_all := lw_g (lw_at lw_m5 46 rfl) rfl
theorem q1121 : (Jvm.Cond.methodLink "java/lang/StringLatin1" (65 : Nat) ({ cls := "java/lang/StringUTF16", name := "getChar", desc := "([BI)C" } : Jvm.MethodName)) ∈ lw_all := lw_g (lw_at lw_m5 47 rfl) rfl
theorem q1151 : (Jvm.Cond.static ({ cls := "java/lang/StringLatin1", name := "compareToUTF16", desc := "([B[BII)I" } : Jvm.MethodName)) ∈ lw_all := lw_g (lw_at lw_m5 77 rfl) rfl
theorem q1152 : (Jvm.Cond.code ({ cls := "java/lang/StringLatin1", name := "compareToUTF16", desc := "([B[BII)I" } : Jvm.MethodName) prog_35_method_17_code (4 : Nat) (Option.some Jvm.ClassFile.FieldType.int)) ∈ lw_all := lw_g (lw_at lw_m5 78 rfl) rfl
theorem q1153 : (Jvm.Cond.methodLink "java/lang/StringLatin1" (62 : Nat) ({ cls := "java/lang/String", name := "checkOffset", desc := "(II)V" } : Jvm.MethodName)) ∈ lw_all := lw_g (lw_at lw_m5 79 rfl) rfl
theorem q1492 : (Jvm.Cond.static ({ cls := "java/lang/StringLatin1", name := "fillNull", desc := "([BII)V" } : Jvm.MethodName)) ∈ lw_all := lw_g (lw_at lw_m6 178 rfl) rfl
theorem q1493 : (Jvm.Cond.code ({ cls := "java/lang/StringLatin1", name := "fillNull", desc := "([BII)V" } : Jvm.MethodName) prog_35_method_48_code (3 : Nat) (Option.none : Option Jvm.ClassFile.FieldType)) ∈ lw_all := lw_g (lw_at lw_m6 179 rfl) rfl
theorem q1494 : (Jvm.Cond.methodLink "java/lang/StringLatin1" (236 : Nat) ({ cls := "java/util/Arrays", name := "fill", desc := "([BIIB)V" } : Jvm.MethodName)) ∈ lw_all := lw_g (lw_at lw_m6 180 rfl) rfl
theorem q1634 : (Jvm.Cond.static ({ cls := "java/lang/StringLatin1", name := "charAt", desc := "([BI)C" } : Jvm.MethodName)) ∈ lw_all := lw_g (lw_at lw_m7 80 rfl) rfl
theorem q1635 : (Jvm.Cond.code ({ cls := "java/lang/StringLatin1", name := "charAt", desc := "([BI)C" } : Jvm.MethodName) prog_35_method_2_code (2 : Nat) (Option.some Jvm.ClassFile.FieldType.char)) ∈ lw_all := lw_g (lw_at lw_m7 81 rfl) rfl
theorem q1636 : (Jvm.Cond.methodLink "java/lang/StringLatin1" (9 : Nat) ({ cls := "java/lang/String", name := "checkIndex", desc := "(II)V" } : Jvm.MethodName)) ∈ lw_all := lw_g (lw_at lw_m7 82 rfl) rfl
theorem q1855 : (Jvm.Cond.static ({ cls := "java/lang/StringLatin1", name := "equals", desc := "([B[B)Z" } : Jvm.MethodName)) ∈ lw_all := lw_g (lw_at lw_m8 61 rfl) rfl
theorem q1856 : (Jvm.Cond.code ({ cls := "java/lang/StringLatin1", name := "equals", desc := "([B[B)Z" } : Jvm.MethodName) prog_35_method_13_code (3 : Nat) (Option.some Jvm.ClassFile.FieldType.boolean)) ∈ lw_all := lw_g (lw_at lw_m8 62 rfl) rfl
theorem q2446 : (Jvm.Cond.static ({ cls := "java/lang/StringLatin1", name := "canEncode", desc := "(C)Z" } : Jvm.MethodName)) ∈ lw_all := lw_g (lw_at lw_m10 172 rfl) rfl
theorem q2447 : (Jvm.Cond.code ({ cls := "java/lang/StringLatin1", name := "canEncode", desc := "(C)Z" } : Jvm.MethodName) prog_35_method_3_code (1 : Nat) (Option.some Jvm.ClassFile.FieldType.boolean)) ∈ lw_all := lw_g (lw_at lw_m10 173 rfl) rfl

/-! java/lang/Number -/
set_option maxRecDepth 100000
def RJ21 : String := "java/lang/Number"
abbrev cJ21_init : ByteArray := prog_30_method_1_code
def yJ21_init : MethodName := ⟨RJ21, "<init>", "()V"⟩
theorem dJ21_init_0 : decode cJ21_init 0 = .ok (.aload_n 0, 1) := by decide +kernel
theorem dJ21_init_1 : decode cJ21_init 1 = .ok (.invokespecial 1, 3) := by decide +kernel
theorem dJ21_init_4 : decode cJ21_init 4 = .ok (.return_, 1) := by decide +kernel
theorem q140 : (Jvm.Cond.initialized "java/lang/Number") ∈ lw_all := lw_g (lw_at lw_m1 26 rfl) rfl
theorem q938 : (Jvm.Cond.instanceMethod ({ cls := "java/lang/Number", name := "<init>", desc := "()V" } : Jvm.MethodName)) ∈ lw_all := lw_g (lw_at lw_m4 104 rfl) rfl
theorem q939 : (Jvm.Cond.code ({ cls := "java/lang/Number", name := "<init>", desc := "()V" } : Jvm.MethodName) prog_30_method_1_code (1 : Nat) (Option.none : Option Jvm.ClassFile.FieldType)) ∈ lw_all := lw_g (lw_at lw_m4 105 rfl) rfl
theorem q940 : (Jvm.Cond.methodLink "java/lang/Number" (1 : Nat) ({ cls := "java/lang/Object", name := "<init>", desc := "()V" } : Jvm.MethodName)) ∈ lw_all := lw_g (lw_at lw_m4 106 rfl) rfl

/-! java/lang/Integer -/
set_option maxRecDepth 100000
def RJ22 : String := "java/lang/Integer"
def TJ22 : u_T := fun k => match k with
  | _ => ("java/lang/Integer", "value", "I", true)
def tyJ22 : Nat → FieldType := fun k => match k with
  | _ => .int
abbrev wsJ220 : List Cond := u_ws RJ22 TJ22 1
theorem nmJ22 : ∀ a, a < 1 → ∀ b, b < 1 → a ≠ b → (TJ22 a).2.1 ≠ (TJ22 b).2.1 := by decide +kernel
theorem tyJ22_ok : ∀ k, k < 1 → parseFieldDescriptor (TJ22 k).2.2.1 = some (tyJ22 k) := by decide +kernel
abbrev cJ22_stringSize : ByteArray := prog_25_method_13_code
def yJ22_stringSize : MethodName := ⟨RJ22, "stringSize", "(I)I"⟩
def dkwJ22_stringSize_1 : List UInt8 := [164, 0, 7, 29, 27, 96, 172, 16, 10, 28, 104, 61, 132, 3, 1, 167, 255, 233, 16, 10, 27, 96, 172]
abbrev dktJ22_stringSize_1 : List UInt8 := dkwJ22_stringSize_1 ++ []
def dkwJ22_stringSize_0 : List UInt8 := [4, 60, 26, 155, 0, 8, 3, 60, 26, 116, 59, 16, 246, 61, 4, 62, 29, 16, 10, 162, 0, 23, 26, 28]
abbrev dktJ22_stringSize_0 : List UInt8 := dkwJ22_stringSize_0 ++ dktJ22_stringSize_1
theorem dksJ22_stringSize_0 : cJ22_stringSize.data.toList.drop 0 = dktJ22_stringSize_0 := by decide +kernel
theorem dksJ22_stringSize_1 : cJ22_stringSize.data.toList.drop 24 = dktJ22_stringSize_1 := dk_seg dksJ22_stringSize_0 24 rfl rfl
theorem dJ22_stringSize_0 : decode cJ22_stringSize 0 = .ok (.iconst 1, 1) := dk_4 (dk_at dksJ22_stringSize_0 0 rfl rfl)
theorem dJ22_stringSize_1 : decode cJ22_stringSize 1 = .ok (.istore_n 1, 1) := dk_60 (dk_at dksJ22_stringSize_0 1 rfl rfl)
theorem dJ22_stringSize_2 : decode cJ22_stringSize 2 = .ok (.iload_n 0, 1) := dk_26 (dk_at dksJ22_stringSize_0 2 rfl rfl)
theorem dJ22_stringSize_3 : decode cJ22_stringSize 3 = .ok (.ifCond .lt 8, 3) := dk_155 0 8 (dk_at dksJ22_stringSize_0 3 rfl rfl)
theorem dJ22_stringSize_6 : decode cJ22_stringSize 6 = .ok (.iconst 0, 1) := dk_3 (dk_at dksJ22_stringSize_0 6 rfl rfl)
theorem dJ22_stringSize_7 : decode cJ22_stringSize 7 = .ok (.istore_n 1, 1) := dk_60 (dk_at dksJ22_stringSize_0 7 rfl rfl)
theorem dJ22_stringSize_8 : decode cJ22_stringSize 8 = .ok (.iload_n 0, 1) := dk_26 (dk_at dksJ22_stringSize_0 8 rfl rfl)
theorem dJ22_stringSize_9 : decode cJ22_stringSize 9 = .ok (.ineg, 1) := dk_116 (dk_at dksJ22_stringSize_0 9 rfl rfl)
theorem dJ22_stringSize_10 : decode cJ22_stringSize 10 = .ok (.istore_n 0, 1) := dk_59 (dk_at dksJ22_stringSize_0 10 rfl rfl)
theorem dJ22_stringSize_11 : decode cJ22_stringSize 11 = .ok (.bipush (-10), 2) := dk_16 246 (dk_at dksJ22_stringSize_0 11 rfl rfl)
theorem dJ22_stringSize_13 : decode cJ22_stringSize 13 = .ok (.istore_n 2, 1) := dk_61 (dk_at dksJ22_stringSize_0 13 rfl rfl)
theorem dJ22_stringSize_14 : decode cJ22_stringSize 14 = .ok (.iconst 1, 1) := dk_4 (dk_at dksJ22_stringSize_0 14 rfl rfl)
theorem dJ22_stringSize_15 : decode cJ22_stringSize 15 = .ok (.istore_n 3, 1) := dk_62 (dk_at dksJ22_stringSize_0 15 rfl rfl)
theorem dJ22_stringSize_16 : decode cJ22_stringSize 16 = .ok (.iload_n 3, 1) := dk_29 (dk_at dksJ22_stringSize_0 16 rfl rfl)
theorem dJ22_stringSize_17 : decode cJ22_stringSize 17 = .ok (.bipush 10, 2) := dk_16 10 (dk_at dksJ22_stringSize_0 17 rfl rfl)
theorem dJ22_stringSize_19 : decode cJ22_stringSize 19 = .ok (.if_icmp .ge 23, 3) := dk_162 0 23 (dk_at dksJ22_stringSize_0 19 rfl rfl)
theorem dJ22_stringSize_22 : decode cJ22_stringSize 22 = .ok (.iload_n 0, 1) := dk_26 (dk_at dksJ22_stringSize_0 22 rfl rfl)
theorem dJ22_stringSize_23 : decode cJ22_stringSize 23 = .ok (.iload_n 2, 1) := dk_28 (dk_at dksJ22_stringSize_0 23 rfl rfl)
theorem dJ22_stringSize_24 : decode cJ22_stringSize 24 = .ok (.if_icmp .le 7, 3) := dk_164 0 7 (dk_at dksJ22_stringSize_1 0 rfl rfl)
theorem dJ22_stringSize_27 : decode cJ22_stringSize 27 = .ok (.iload_n 3, 1) := dk_29 (dk_at dksJ22_stringSize_1 3 rfl rfl)
theorem dJ22_stringSize_28 : decode cJ22_stringSize 28 = .ok (.iload_n 1, 1) := dk_27 (dk_at dksJ22_stringSize_1 4 rfl rfl)
theorem dJ22_stringSize_29 : decode cJ22_stringSize 29 = .ok (.iadd, 1) := dk_96 (dk_at dksJ22_stringSize_1 5 rfl rfl)
theorem dJ22_stringSize_30 : decode cJ22_stringSize 30 = .ok (.ireturn, 1) := dk_172 (dk_at dksJ22_stringSize_1 6 rfl rfl)
theorem dJ22_stringSize_31 : decode cJ22_stringSize 31 = .ok (.bipush 10, 2) := dk_16 10 (dk_at dksJ22_stringSize_1 7 rfl rfl)
theorem dJ22_stringSize_33 : decode cJ22_stringSize 33 = .ok (.iload_n 2, 1) := dk_28 (dk_at dksJ22_stringSize_1 9 rfl rfl)
theorem dJ22_stringSize_34 : decode cJ22_stringSize 34 = .ok (.imul, 1) := dk_104 (dk_at dksJ22_stringSize_1 10 rfl rfl)
theorem dJ22_stringSize_35 : decode cJ22_stringSize 35 = .ok (.istore_n 2, 1) := dk_61 (dk_at dksJ22_stringSize_1 11 rfl rfl)
theorem dJ22_stringSize_36 : decode cJ22_stringSize 36 = .ok (.iinc 3 1, 3) := dk_132 3 1 (dk_at dksJ22_stringSize_1 12 rfl rfl)
theorem dJ22_stringSize_39 : decode cJ22_stringSize 39 = .ok (.goto (-23), 3) := dk_167 255 233 (dk_at dksJ22_stringSize_1 15 rfl rfl)
theorem dJ22_stringSize_42 : decode cJ22_stringSize 42 = .ok (.bipush 10, 2) := dk_16 10 (dk_at dksJ22_stringSize_1 18 rfl rfl)
theorem dJ22_stringSize_44 : decode cJ22_stringSize 44 = .ok (.iload_n 1, 1) := dk_27 (dk_at dksJ22_stringSize_1 20 rfl rfl)
theorem dJ22_stringSize_45 : decode cJ22_stringSize 45 = .ok (.iadd, 1) := dk_96 (dk_at dksJ22_stringSize_1 21 rfl rfl)
theorem dJ22_stringSize_46 : decode cJ22_stringSize 46 = .ok (.ireturn, 1) := dk_172 (dk_at dksJ22_stringSize_1 22 rfl rfl)
abbrev cJ22_getChars : ByteArray := prog_25_method_12_code
def yJ22_getChars : MethodName := ⟨RJ22, "getChars", "(II[B)I"⟩
def dkwJ22_getChars_5 : List UInt8 := [16, 45, 84, 21, 5, 172]
abbrev dktJ22_getChars_5 : List UInt8 := dkwJ22_getChars_5 ++ []
def dkwJ22_getChars_4 : List UInt8 := [132, 5, 255, 21, 5, 178, 0, 87, 26, 116, 51, 84, 21, 6, 153, 0, 12, 44, 132, 5, 255, 21, 5]
abbrev dktJ22_getChars_4 : List UInt8 := dkwJ22_getChars_4 ++ dktJ22_getChars_5
def dkwJ22_getChars_3 : List UInt8 := [167, 255, 209, 44, 132, 5, 255, 21, 5, 178, 0, 83, 26, 116, 51, 84, 26, 16, 247, 162, 0, 16, 44]
abbrev dktJ22_getChars_3 : List UInt8 := dkwJ22_getChars_3 ++ dktJ22_getChars_4
def dkwJ22_getChars_2 : List UInt8 := [21, 5, 178, 0, 83, 21, 4, 51, 84, 44, 132, 5, 255, 21, 5, 178, 0, 87, 21, 4, 51, 84]
abbrev dktJ22_getChars_2 : List UInt8 := dkwJ22_getChars_2 ++ dktJ22_getChars_3
def dkwJ22_getChars_1 : List UInt8 := [16, 156, 163, 0, 47, 26, 16, 100, 108, 62, 29, 16, 100, 104, 26, 100, 54, 4, 29, 59, 44, 132, 5, 255]
abbrev dktJ22_getChars_1 : List UInt8 := dkwJ22_getChars_1 ++ dktJ22_getChars_2
def dkwJ22_getChars_0 : List UInt8 := [27, 54, 5, 26, 156, 0, 7, 4, 167, 0, 4, 3, 54, 6, 21, 6, 154, 0, 6, 26, 116, 59, 26]
abbrev dktJ22_getChars_0 : List UInt8 := dkwJ22_getChars_0 ++ dktJ22_getChars_1
theorem dksJ22_getChars_0 : cJ22_getChars.data.toList.drop 0 = dktJ22_getChars_0 := by decide +kernel
theorem dksJ22_getChars_1 : cJ22_getChars.data.toList.drop 23 = dktJ22_getChars_1 := dk_seg dksJ22_getChars_0 23 rfl rfl
theorem dksJ22_getChars_2 : cJ22_getChars.data.toList.drop 47 = dktJ22_getChars_2 := dk_seg dksJ22_getChars_1 24 rfl rfl
theorem dksJ22_getChars_3 : cJ22_getChars.data.toList.drop 69 = dktJ22_getChars_3 := dk_seg dksJ22_getChars_2 22 rfl rfl
theorem dksJ22_getChars_4 : cJ22_getChars.data.toList.drop 92 = dktJ22_getChars_4 := dk_seg dksJ22_getChars_3 23 rfl rfl
theorem dksJ22_getChars_5 : cJ22_getChars.data.toList.drop 115 = dktJ22_getChars_5 := dk_seg dksJ22_getChars_4 23 rfl rfl
theorem dJ22_getChars_0 : decode cJ22_getChars 0 = .ok (.iload_n 1, 1) := dk_27 (dk_at dksJ22_getChars_0 0 rfl rfl)
theorem dJ22_getChars_1 : decode cJ22_getChars 1 = .ok (.istore 5, 2) := dk_54 5 (dk_at dksJ22_getChars_0 1 rfl rfl)
theorem dJ22_getChars_3 : decode cJ22_getChars 3 = .ok (.iload_n 0, 1) := dk_26 (dk_at dksJ22_getChars_0 3 rfl rfl)
theorem dJ22_getChars_4 : decode cJ22_getChars 4 = .ok (.ifCond .ge 7, 3) := dk_156 0 7 (dk_at dksJ22_getChars_0 4 rfl rfl)
theorem dJ22_getChars_7 : decode cJ22_getChars 7 = .ok (.iconst 1, 1) := dk_4 (dk_at dksJ22_getChars_0 7 rfl rfl)
theorem dJ22_getChars_8 : decode cJ22_getChars 8 = .ok (.goto 4, 3) := dk_167 0 4 (dk_at dksJ22_getChars_0 8 rfl rfl)
theorem dJ22_getChars_11 : decode cJ22_getChars 11 = .ok (.iconst 0, 1) := dk_3 (dk_at dksJ22_getChars_0 11 rfl rfl)
theorem dJ22_getChars_12 : decode cJ22_getChars 12 = .ok (.istore 6, 2) := dk_54 6 (dk_at dksJ22_getChars_0 12 rfl rfl)
theorem dJ22_getChars_14 : decode cJ22_getChars 14 = .ok (.iload 6, 2) := dk_21 6 (dk_at dksJ22_getChars_0 14 rfl rfl)
theorem dJ22_getChars_16 : decode cJ22_getChars 16 = .ok (.ifCond .ne 6, 3) := dk_154 0 6 (dk_at dksJ22_getChars_0 16 rfl rfl)
theorem dJ22_getChars_19 : decode cJ22_getChars 19 = .ok (.iload_n 0, 1) := dk_26 (dk_at dksJ22_getChars_0 19 rfl rfl)
theorem dJ22_getChars_20 : decode cJ22_getChars 20 = .ok (.ineg, 1) := dk_116 (dk_at dksJ22_getChars_0 20 rfl rfl)
theorem dJ22_getChars_21 : decode cJ22_getChars 21 = .ok (.istore_n 0, 1) := dk_59 (dk_at dksJ22_getChars_0 21 rfl rfl)
theorem dJ22_getChars_22 : decode cJ22_getChars 22 = .ok (.iload_n 0, 1) := dk_26 (dk_at dksJ22_getChars_0 22 rfl rfl)
theorem dJ22_getChars_23 : decode cJ22_getChars 23 = .ok (.bipush (-100), 2) := dk_16 156 (dk_at dksJ22_getChars_1 0 rfl rfl)
theorem dJ22_getChars_25 : decode cJ22_getChars 25 = .ok (.if_icmp .gt 47, 3) := dk_163 0 47 (dk_at dksJ22_getChars_1 2 rfl rfl)
theorem dJ22_getChars_28 : decode cJ22_getChars 28 = .ok (.iload_n 0, 1) := dk_26 (dk_at dksJ22_getChars_1 5 rfl rfl)
theorem dJ22_getChars_29 : decode cJ22_getChars 29 = .ok (.bipush 100, 2) := dk_16 100 (dk_at dksJ22_getChars_1 6 rfl rfl)
theorem dJ22_getChars_31 : decode cJ22_getChars 31 = .ok (.idiv, 1) := dk_108 (dk_at dksJ22_getChars_1 8 rfl rfl)
theorem dJ22_getChars_32 : decode cJ22_getChars 32 = .ok (.istore_n 3, 1) := dk_62 (dk_at dksJ22_getChars_1 9 rfl rfl)
theorem dJ22_getChars_33 : decode cJ22_getChars 33 = .ok (.iload_n 3, 1) := dk_29 (dk_at dksJ22_getChars_1 10 rfl rfl)
theorem dJ22_getChars_34 : decode cJ22_getChars 34 = .ok (.bipush 100, 2) := dk_16 100 (dk_at dksJ22_getChars_1 11 rfl rfl)
theorem dJ22_getChars_36 : decode cJ22_getChars 36 = .ok (.imul, 1) := dk_104 (dk_at dksJ22_getChars_1 13 rfl rfl)
theorem dJ22_getChars_37 : decode cJ22_getChars 37 = .ok (.iload_n 0, 1) := dk_26 (dk_at dksJ22_getChars_1 14 rfl rfl)
theorem dJ22_getChars_38 : decode cJ22_getChars 38 = .ok (.isub, 1) := dk_100 (dk_at dksJ22_getChars_1 15 rfl rfl)
theorem dJ22_getChars_39 : decode cJ22_getChars 39 = .ok (.istore 4, 2) := dk_54 4 (dk_at dksJ22_getChars_1 16 rfl rfl)
theorem dJ22_getChars_41 : decode cJ22_getChars 41 = .ok (.iload_n 3, 1) := dk_29 (dk_at dksJ22_getChars_1 18 rfl rfl)
theorem dJ22_getChars_42 : decode cJ22_getChars 42 = .ok (.istore_n 0, 1) := dk_59 (dk_at dksJ22_getChars_1 19 rfl rfl)
theorem dJ22_getChars_43 : decode cJ22_getChars 43 = .ok (.aload_n 2, 1) := dk_44 (dk_at dksJ22_getChars_1 20 rfl rfl)
theorem dJ22_getChars_44 : decode cJ22_getChars 44 = .ok (.iinc 5 (-1), 3) := dk_132 5 255 (dk_at dksJ22_getChars_1 21 rfl rfl)
theorem dJ22_getChars_47 : decode cJ22_getChars 47 = .ok (.iload 5, 2) := dk_21 5 (dk_at dksJ22_getChars_2 0 rfl rfl)
theorem dJ22_getChars_49 : decode cJ22_getChars 49 = .ok (.getstatic 83, 3) := dk_178 0 83 (dk_at dksJ22_getChars_2 2 rfl rfl)
theorem dJ22_getChars_52 : decode cJ22_getChars 52 = .ok (.iload 4, 2) := dk_21 4 (dk_at dksJ22_getChars_2 5 rfl rfl)
theorem dJ22_getChars_54 : decode cJ22_getChars 54 = .ok (.baload, 1) := dk_51 (dk_at dksJ22_getChars_2 7 rfl rfl)
theorem dJ22_getChars_55 : decode cJ22_getChars 55 = .ok (.bastore, 1) := dk_84 (dk_at dksJ22_getChars_2 8 rfl rfl)
theorem dJ22_getChars_56 : decode cJ22_getChars 56 = .ok (.aload_n 2, 1) := dk_44 (dk_at dksJ22_getChars_2 9 rfl rfl)
theorem dJ22_getChars_57 : decode cJ22_getChars 57 = .ok (.iinc 5 (-1), 3) := dk_132 5 255 (dk_at dksJ22_getChars_2 10 rfl rfl)
theorem dJ22_getChars_60 : decode cJ22_getChars 60 = .ok (.iload 5, 2) := dk_21 5 (dk_at dksJ22_getChars_2 13 rfl rfl)
theorem dJ22_getChars_62 : decode cJ22_getChars 62 = .ok (.getstatic 87, 3) := dk_178 0 87 (dk_at dksJ22_getChars_2 15 rfl rfl)
theorem dJ22_getChars_65 : decode cJ22_getChars 65 = .ok (.iload 4, 2) := dk_21 4 (dk_at dksJ22_getChars_2 18 rfl rfl)
theorem dJ22_getChars_67 : decode cJ22_getChars 67 = .ok (.baload, 1) := dk_51 (dk_at dksJ22_getChars_2 20 rfl rfl)
theorem dJ22_getChars_68 : decode cJ22_getChars 68 = .ok (.bastore, 1) := dk_84 (dk_at dksJ22_getChars_2 21 rfl rfl)
theorem dJ22_getChars_69 : decode cJ22_getChars 69 = .ok (.goto (-47), 3) := dk_167 255 209 (dk_at dksJ22_getChars_3 0 rfl rfl)
theorem dJ22_getChars_72 : decode cJ22_getChars 72 = .ok (.aload_n 2, 1) := dk_44 (dk_at dksJ22_getChars_3 3 rfl rfl)
theorem dJ22_getChars_73 : decode cJ22_getChars 73 = .ok (.iinc 5 (-1), 3) := dk_132 5 255 (dk_at dksJ22_getChars_3 4 rfl rfl)
theorem dJ22_getChars_76 : decode cJ22_getChars 76 = .ok (.iload 5, 2) := dk_21 5 (dk_at dksJ22_getChars_3 7 rfl rfl)
theorem dJ22_getChars_78 : decode cJ22_getChars 78 = .ok (.getstatic 83, 3) := dk_178 0 83 (dk_at dksJ22_getChars_3 9 rfl rfl)
theorem dJ22_getChars_81 : decode cJ22_getChars 81 = .ok (.iload_n 0, 1) := dk_26 (dk_at dksJ22_getChars_3 12 rfl rfl)
theorem dJ22_getChars_82 : decode cJ22_getChars 82 = .ok (.ineg, 1) := dk_116 (dk_at dksJ22_getChars_3 13 rfl rfl)
theorem dJ22_getChars_83 : decode cJ22_getChars 83 = .ok (.baload, 1) := dk_51 (dk_at dksJ22_getChars_3 14 rfl rfl)
theorem dJ22_getChars_84 : decode cJ22_getChars 84 = .ok (.bastore, 1) := dk_84 (dk_at dksJ22_getChars_3 15 rfl rfl)
theorem dJ22_getChars_85 : decode cJ22_getChars 85 = .ok (.iload_n 0, 1) := dk_26 (dk_at dksJ22_getChars_3 16 rfl rfl)
theorem dJ22_getChars_86 : decode cJ22_getChars 86 = .ok (.bipush (-9), 2) := dk_16 247 (dk_at dksJ22_getChars_3 17 rfl rfl)
theorem dJ22_getChars_88 : decode cJ22_getChars 88 = .ok (.if_icmp .ge 16, 3) := dk_162 0 16 (dk_at dksJ22_getChars_3 19 rfl rfl)
theorem dJ22_getChars_91 : decode cJ22_getChars 91 = .ok (.aload_n 2, 1) := dk_44 (dk_at dksJ22_getChars_3 22 rfl rfl)
theorem dJ22_getChars_92 : decode cJ22_getChars 92 = .ok (.iinc 5 (-1), 3) := dk_132 5 255 (dk_at dksJ22_getChars_4 0 rfl rfl)
theorem dJ22_getChars_95 : decode cJ22_getChars 95 = .ok (.iload 5, 2) := dk_21 5 (dk_at dksJ22_getChars_4 3 rfl rfl)
theorem dJ22_getChars_97 : decode cJ22_getChars 97 = .ok (.getstatic 87, 3) := dk_178 0 87 (dk_at dksJ22_getChars_4 5 rfl rfl)
theorem dJ22_getChars_100 : decode cJ22_getChars 100 = .ok (.iload_n 0, 1) := dk_26 (dk_at dksJ22_getChars_4 8 rfl rfl)
theorem dJ22_getChars_101 : decode cJ22_getChars 101 = .ok (.ineg, 1) := dk_116 (dk_at dksJ22_getChars_4 9 rfl rfl)
theorem dJ22_getChars_102 : decode cJ22_getChars 102 = .ok (.baload, 1) := dk_51 (dk_at dksJ22_getChars_4 10 rfl rfl)
theorem dJ22_getChars_103 : decode cJ22_getChars 103 = .ok (.bastore, 1) := dk_84 (dk_at dksJ22_getChars_4 11 rfl rfl)
theorem dJ22_getChars_104 : decode cJ22_getChars 104 = .ok (.iload 6, 2) := dk_21 6 (dk_at dksJ22_getChars_4 12 rfl rfl)
theorem dJ22_getChars_106 : decode cJ22_getChars 106 = .ok (.ifCond .eq 12, 3) := dk_153 0 12 (dk_at dksJ22_getChars_4 14 rfl rfl)
theorem dJ22_getChars_109 : decode cJ22_getChars 109 = .ok (.aload_n 2, 1) := dk_44 (dk_at dksJ22_getChars_4 17 rfl rfl)
theorem dJ22_getChars_110 : decode cJ22_getChars 110 = .ok (.iinc 5 (-1), 3) := dk_132 5 255 (dk_at dksJ22_getChars_4 18 rfl rfl)
theorem dJ22_getChars_113 : decode cJ22_getChars 113 = .ok (.iload 5, 2) := dk_21 5 (dk_at dksJ22_getChars_4 21 rfl rfl)
theorem dJ22_getChars_115 : decode cJ22_getChars 115 = .ok (.bipush 45, 2) := dk_16 45 (dk_at dksJ22_getChars_5 0 rfl rfl)
theorem dJ22_getChars_117 : decode cJ22_getChars 117 = .ok (.bastore, 1) := dk_84 (dk_at dksJ22_getChars_5 2 rfl rfl)
theorem dJ22_getChars_118 : decode cJ22_getChars 118 = .ok (.iload 5, 2) := dk_21 5 (dk_at dksJ22_getChars_5 3 rfl rfl)
theorem dJ22_getChars_120 : decode cJ22_getChars 120 = .ok (.ireturn, 1) := dk_172 (dk_at dksJ22_getChars_5 5 rfl rfl)
abbrev cJ22_valueOf : ByteArray := prog_25_method_22_code
def yJ22_valueOf : MethodName := ⟨RJ22, "valueOf", "(I)Ljava/lang/Integer;"⟩
def dkwJ22_valueOf_1 : List UInt8 := [187, 0, 1, 89, 26, 183, 0, 199, 176]
abbrev dktJ22_valueOf_1 : List UInt8 := dkwJ22_valueOf_1 ++ []
def dkwJ22_valueOf_0 : List UInt8 := [26, 16, 128, 161, 0, 20, 26, 178, 0, 191, 163, 0, 13, 178, 0, 195, 26, 17, 0, 128, 96, 50, 176]
abbrev dktJ22_valueOf_0 : List UInt8 := dkwJ22_valueOf_0 ++ dktJ22_valueOf_1
theorem dksJ22_valueOf_0 : cJ22_valueOf.data.toList.drop 0 = dktJ22_valueOf_0 := by decide +kernel
theorem dksJ22_valueOf_1 : cJ22_valueOf.data.toList.drop 23 = dktJ22_valueOf_1 := dk_seg dksJ22_valueOf_0 23 rfl rfl
theorem dJ22_valueOf_0 : decode cJ22_valueOf 0 = .ok (.iload_n 0, 1) := dk_26 (dk_at dksJ22_valueOf_0 0 rfl rfl)
theorem dJ22_valueOf_1 : decode cJ22_valueOf 1 = .ok (.bipush (-128), 2) := dk_16 128 (dk_at dksJ22_valueOf_0 1 rfl rfl)
theorem dJ22_valueOf_3 : decode cJ22_valueOf 3 = .ok (.if_icmp .lt 20, 3) := dk_161 0 20 (dk_at dksJ22_valueOf_0 3 rfl rfl)
theorem dJ22_valueOf_6 : decode cJ22_valueOf 6 = .ok (.iload_n 0, 1) := dk_26 (dk_at dksJ22_valueOf_0 6 rfl rfl)
theorem dJ22_valueOf_7 : decode cJ22_valueOf 7 = .ok (.getstatic 191, 3) := dk_178 0 191 (dk_at dksJ22_valueOf_0 7 rfl rfl)
theorem dJ22_valueOf_10 : decode cJ22_valueOf 10 = .ok (.if_icmp .gt 13, 3) := dk_163 0 13 (dk_at dksJ22_valueOf_0 10 rfl rfl)
theorem dJ22_valueOf_13 : decode cJ22_valueOf 13 = .ok (.getstatic 195, 3) := dk_178 0 195 (dk_at dksJ22_valueOf_0 13 rfl rfl)
theorem dJ22_valueOf_16 : decode cJ22_valueOf 16 = .ok (.iload_n 0, 1) := dk_26 (dk_at dksJ22_valueOf_0 16 rfl rfl)
theorem dJ22_valueOf_17 : decode cJ22_valueOf 17 = .ok (.sipush 128, 3) := dk_17 0 128 (dk_at dksJ22_valueOf_0 17 rfl rfl)
theorem dJ22_valueOf_20 : decode cJ22_valueOf 20 = .ok (.iadd, 1) := dk_96 (dk_at dksJ22_valueOf_0 20 rfl rfl)
theorem dJ22_valueOf_21 : decode cJ22_valueOf 21 = .ok (.aaload, 1) := dk_50 (dk_at dksJ22_valueOf_0 21 rfl rfl)
theorem dJ22_valueOf_22 : decode cJ22_valueOf 22 = .ok (.areturn, 1) := dk_176 (dk_at dksJ22_valueOf_0 22 rfl rfl)
theorem dJ22_valueOf_23 : decode cJ22_valueOf 23 = .ok (.new 1, 3) := dk_187 0 1 (dk_at dksJ22_valueOf_1 0 rfl rfl)
theorem dJ22_valueOf_26 : decode cJ22_valueOf 26 = .ok (.dup, 1) := dk_89 (dk_at dksJ22_valueOf_1 3 rfl rfl)
theorem dJ22_valueOf_27 : decode cJ22_valueOf 27 = .ok (.iload_n 0, 1) := dk_26 (dk_at dksJ22_valueOf_1 4 rfl rfl)
theorem dJ22_valueOf_28 : decode cJ22_valueOf 28 = .ok (.invokespecial 199, 3) := dk_183 0 199 (dk_at dksJ22_valueOf_1 5 rfl rfl)
theorem dJ22_valueOf_31 : decode cJ22_valueOf 31 = .ok (.areturn, 1) := dk_176 (dk_at dksJ22_valueOf_1 8 rfl rfl)
abbrev cJ22_init : ByteArray := prog_25_method_23_code
def yJ22_init : MethodName := ⟨RJ22, "<init>", "(I)V"⟩
def dkwJ22_init_0 : List UInt8 := [42, 183, 0, 202, 42, 27, 181, 0, 205, 177]
abbrev dktJ22_init_0 : List UInt8 := dkwJ22_init_0 ++ []
theorem dksJ22_init_0 : cJ22_init.data.toList.drop 0 = dktJ22_init_0 := by decide +kernel
theorem dJ22_init_0 : decode cJ22_init 0 = .ok (.aload_n 0, 1) := dk_42 (dk_at dksJ22_init_0 0 rfl rfl)
theorem dJ22_init_1 : decode cJ22_init 1 = .ok (.invokespecial 202, 3) := dk_183 0 202 (dk_at dksJ22_init_0 1 rfl rfl)
theorem dJ22_init_4 : decode cJ22_init 4 = .ok (.aload_n 0, 1) := dk_42 (dk_at dksJ22_init_0 4 rfl rfl)
theorem dJ22_init_5 : decode cJ22_init 5 = .ok (.iload_n 1, 1) := dk_27 (dk_at dksJ22_init_0 5 rfl rfl)
theorem dJ22_init_6 : decode cJ22_init 6 = .ok (.putfield 205, 3) := dk_181 0 205 (dk_at dksJ22_init_0 6 rfl rfl)
theorem dJ22_init_9 : decode cJ22_init 9 = .ok (.return_, 1) := dk_177 (dk_at dksJ22_init_0 9 rfl rfl)
abbrev cJ22_compareTo : ByteArray := prog_25_method_63_code
def yJ22_compareTo : MethodName := ⟨RJ22, "compareTo", "(Ljava/lang/Object;)I"⟩
def dkwJ22_compareTo_0 : List UInt8 := [42, 43, 192, 0, 1, 182, 1, 28, 172]
abbrev dktJ22_compareTo_0 : List UInt8 := dkwJ22_compareTo_0 ++ []
theorem dksJ22_compareTo_0 : cJ22_compareTo.data.toList.drop 0 = dktJ22_compareTo_0 := by decide +kernel
theorem dJ22_compareTo_0 : decode cJ22_compareTo 0 = .ok (.aload_n 0, 1) := dk_42 (dk_at dksJ22_compareTo_0 0 rfl rfl)
theorem dJ22_compareTo_1 : decode cJ22_compareTo 1 = .ok (.aload_n 1, 1) := dk_43 (dk_at dksJ22_compareTo_0 1 rfl rfl)
theorem dJ22_compareTo_2 : decode cJ22_compareTo 2 = .ok (.checkcast 1, 3) := dk_192 0 1 (dk_at dksJ22_compareTo_0 2 rfl rfl)
theorem dJ22_compareTo_5 : decode cJ22_compareTo 5 = .ok (.invokevirtual 284, 3) := dk_182 1 28 (dk_at dksJ22_compareTo_0 5 rfl rfl)
theorem dJ22_compareTo_8 : decode cJ22_compareTo 8 = .ok (.ireturn, 1) := dk_172 (dk_at dksJ22_compareTo_0 8 rfl rfl)
abbrev cJ22_compareTo_2 : ByteArray := prog_25_method_39_code
def yJ22_compareTo_2 : MethodName := ⟨RJ22, "compareTo", "(Ljava/lang/Integer;)I"⟩
def dkwJ22_compareTo_2_0 : List UInt8 := [42, 180, 0, 205, 43, 180, 0, 205, 184, 1, 3, 172]
abbrev dktJ22_compareTo_2_0 : List UInt8 := dkwJ22_compareTo_2_0 ++ []
theorem dksJ22_compareTo_2_0 : cJ22_compareTo_2.data.toList.drop 0 = dktJ22_compareTo_2_0 := by decide +kernel
theorem dJ22_compareTo_2_0 : decode cJ22_compareTo_2 0 = .ok (.aload_n 0, 1) := dk_42 (dk_at dksJ22_compareTo_2_0 0 rfl rfl)
theorem dJ22_compareTo_2_1 : decode cJ22_compareTo_2 1 = .ok (.getfield 205, 3) := dk_180 0 205 (dk_at dksJ22_compareTo_2_0 1 rfl rfl)
theorem dJ22_compareTo_2_4 : decode cJ22_compareTo_2 4 = .ok (.aload_n 1, 1) := dk_43 (dk_at dksJ22_compareTo_2_0 4 rfl rfl)
theorem dJ22_compareTo_2_5 : decode cJ22_compareTo_2 5 = .ok (.getfield 205, 3) := dk_180 0 205 (dk_at dksJ22_compareTo_2_0 5 rfl rfl)
theorem dJ22_compareTo_2_8 : decode cJ22_compareTo_2 8 = .ok (.invokestatic 259, 3) := dk_184 1 3 (dk_at dksJ22_compareTo_2_0 8 rfl rfl)
theorem dJ22_compareTo_2_11 : decode cJ22_compareTo_2 11 = .ok (.ireturn, 1) := dk_172 (dk_at dksJ22_compareTo_2_0 11 rfl rfl)
abbrev cJ22_compare : ByteArray := prog_25_method_40_code
def yJ22_compare : MethodName := ⟨RJ22, "compare", "(II)I"⟩
def dkwJ22_compare_0 : List UInt8 := [26, 27, 162, 0, 7, 2, 167, 0, 13, 26, 27, 160, 0, 7, 3, 167, 0, 4, 4, 172]
abbrev dktJ22_compare_0 : List UInt8 := dkwJ22_compare_0 ++ []
theorem dksJ22_compare_0 : cJ22_compare.data.toList.drop 0 = dktJ22_compare_0 := by decide +kernel
theorem dJ22_compare_0 : decode cJ22_compare 0 = .ok (.iload_n 0, 1) := dk_26 (dk_at dksJ22_compare_0 0 rfl rfl)
theorem dJ22_compare_1 : decode cJ22_compare 1 = .ok (.iload_n 1, 1) := dk_27 (dk_at dksJ22_compare_0 1 rfl rfl)
theorem dJ22_compare_2 : decode cJ22_compare 2 = .ok (.if_icmp .ge 7, 3) := dk_162 0 7 (dk_at dksJ22_compare_0 2 rfl rfl)
theorem dJ22_compare_5 : decode cJ22_compare 5 = .ok (.iconst (-1), 1) := dk_2 (dk_at dksJ22_compare_0 5 rfl rfl)
theorem dJ22_compare_6 : decode cJ22_compare 6 = .ok (.goto 13, 3) := dk_167 0 13 (dk_at dksJ22_compare_0 6 rfl rfl)
theorem dJ22_compare_9 : decode cJ22_compare 9 = .ok (.iload_n 0, 1) := dk_26 (dk_at dksJ22_compare_0 9 rfl rfl)
theorem dJ22_compare_10 : decode cJ22_compare 10 = .ok (.iload_n 1, 1) := dk_27 (dk_at dksJ22_compare_0 10 rfl rfl)
theorem dJ22_compare_11 : decode cJ22_compare 11 = .ok (.if_icmp .ne 7, 3) := dk_160 0 7 (dk_at dksJ22_compare_0 11 rfl rfl)
theorem dJ22_compare_14 : decode cJ22_compare 14 = .ok (.iconst 0, 1) := dk_3 (dk_at dksJ22_compare_0 14 rfl rfl)
theorem dJ22_compare_15 : decode cJ22_compare 15 = .ok (.goto 4, 3) := dk_167 0 4 (dk_at dksJ22_compare_0 15 rfl rfl)
theorem dJ22_compare_18 : decode cJ22_compare 18 = .ok (.iconst 1, 1) := dk_4 (dk_at dksJ22_compare_0 18 rfl rfl)
theorem dJ22_compare_19 : decode cJ22_compare 19 = .ok (.ireturn, 1) := dk_172 (dk_at dksJ22_compare_0 19 rfl rfl)
abbrev cJ22_numberOfLeadingZeros : ByteArray := prog_25_method_47_code
def yJ22_numberOfLeadingZeros : MethodName := ⟨RJ22, "numberOfLeadingZeros", "(I)I"⟩
def dkwJ22_numberOfLeadingZeros_3 : List UInt8 := [5, 124, 59, 27, 26, 4, 124, 100, 172]
abbrev dktJ22_numberOfLeadingZeros_3 : List UInt8 := dkwJ22_numberOfLeadingZeros_3 ++ []
def dkwJ22_numberOfLeadingZeros_2 : List UInt8 := [124, 59, 26, 16, 16, 161, 0, 10, 132, 1, 252, 26, 7, 124, 59, 26, 7, 161, 0, 10, 132, 1, 254, 26]
abbrev dktJ22_numberOfLeadingZeros_2 : List UInt8 := dkwJ22_numberOfLeadingZeros_2 ++ dktJ22_numberOfLeadingZeros_3
def dkwJ22_numberOfLeadingZeros_1 : List UInt8 := [161, 0, 11, 132, 1, 240, 26, 16, 16, 124, 59, 26, 17, 1, 0, 161, 0, 11, 132, 1, 248, 26, 16, 8]
abbrev dktJ22_numberOfLeadingZeros_1 : List UInt8 := dkwJ22_numberOfLeadingZeros_1 ++ dktJ22_numberOfLeadingZeros_2
def dkwJ22_numberOfLeadingZeros_0 : List UInt8 := [26, 157, 0, 14, 26, 154, 0, 8, 16, 32, 167, 0, 4, 3, 172, 16, 31, 60, 26, 19, 1, 8]
abbrev dktJ22_numberOfLeadingZeros_0 : List UInt8 := dkwJ22_numberOfLeadingZeros_0 ++ dktJ22_numberOfLeadingZeros_1
theorem dksJ22_numberOfLeadingZeros_0 : cJ22_numberOfLeadingZeros.data.toList.drop 0 = dktJ22_numberOfLeadingZeros_0 := by decide +kernel
theorem dksJ22_numberOfLeadingZeros_1 : cJ22_numberOfLeadingZeros.data.toList.drop 22 = dktJ22_numberOfLeadingZeros_1 := dk_seg dksJ22_numberOfLeadingZeros_0 22 rfl rfl
theorem dksJ22_numberOfLeadingZeros_2 : cJ22_numberOfLeadingZeros.data.toList.drop 46 = dktJ22_numberOfLeadingZeros_2 := dk_seg dksJ22_numberOfLeadingZeros_1 24 rfl rfl
theorem dksJ22_numberOfLeadingZeros_3 : cJ22_numberOfLeadingZeros.data.toList.drop 70 = dktJ22_numberOfLeadingZeros_3 := dk_seg dksJ22_numberOfLeadingZeros_2 24 rfl rfl
theorem dJ22_numberOfLeadingZeros_0 : decode cJ22_numberOfLeadingZeros 0 = .ok (.iload_n 0, 1) := dk_26 (dk_at dksJ22_numberOfLeadingZeros_0 0 rfl rfl)
theorem dJ22_numberOfLeadingZeros_1 : decode cJ22_numberOfLeadingZeros 1 = .ok (.ifCond .gt 14, 3) := dk_157 0 14 (dk_at dksJ22_numberOfLeadingZeros_0 1 rfl rfl)
theorem dJ22_numberOfLeadingZeros_4 : decode cJ22_numberOfLeadingZeros 4 = .ok (.iload_n 0, 1) := dk_26 (dk_at dksJ22_numberOfLeadingZeros_0 4 rfl rfl)
theorem dJ22_numberOfLeadingZeros_5 : decode cJ22_numberOfLeadingZeros 5 = .ok (.ifCond .ne 8, 3) := dk_154 0 8 (dk_at dksJ22_numberOfLeadingZeros_0 5 rfl rfl)
theorem dJ22_numberOfLeadingZeros_8 : decode cJ22_numberOfLeadingZeros 8 = .ok (.bipush 32, 2) := dk_16 32 (dk_at dksJ22_numberOfLeadingZeros_0 8 rfl rfl)
theorem dJ22_numberOfLeadingZeros_10 : decode cJ22_numberOfLeadingZeros 10 = .ok (.goto 4, 3) := dk_167 0 4 (dk_at dksJ22_numberOfLeadingZeros_0 10 rfl rfl)
theorem dJ22_numberOfLeadingZeros_13 : decode cJ22_numberOfLeadingZeros 13 = .ok (.iconst 0, 1) := dk_3 (dk_at dksJ22_numberOfLeadingZeros_0 13 rfl rfl)
theorem dJ22_numberOfLeadingZeros_14 : decode cJ22_numberOfLeadingZeros 14 = .ok (.ireturn, 1) := dk_172 (dk_at dksJ22_numberOfLeadingZeros_0 14 rfl rfl)
theorem dJ22_numberOfLeadingZeros_15 : decode cJ22_numberOfLeadingZeros 15 = .ok (.bipush 31, 2) := dk_16 31 (dk_at dksJ22_numberOfLeadingZeros_0 15 rfl rfl)
theorem dJ22_numberOfLeadingZeros_17 : decode cJ22_numberOfLeadingZeros 17 = .ok (.istore_n 1, 1) := dk_60 (dk_at dksJ22_numberOfLeadingZeros_0 17 rfl rfl)
theorem dJ22_numberOfLeadingZeros_18 : decode cJ22_numberOfLeadingZeros 18 = .ok (.iload_n 0, 1) := dk_26 (dk_at dksJ22_numberOfLeadingZeros_0 18 rfl rfl)
theorem dJ22_numberOfLeadingZeros_19 : decode cJ22_numberOfLeadingZeros 19 = .ok (.ldc_w 264, 3) := dk_19 1 8 (dk_at dksJ22_numberOfLeadingZeros_0 19 rfl rfl)
theorem dJ22_numberOfLeadingZeros_22 : decode cJ22_numberOfLeadingZeros 22 = .ok (.if_icmp .lt 11, 3) := dk_161 0 11 (dk_at dksJ22_numberOfLeadingZeros_1 0 rfl rfl)
theorem dJ22_numberOfLeadingZeros_25 : decode cJ22_numberOfLeadingZeros 25 = .ok (.iinc 1 (-16), 3) := dk_132 1 240 (dk_at dksJ22_numberOfLeadingZeros_1 3 rfl rfl)
theorem dJ22_numberOfLeadingZeros_28 : decode cJ22_numberOfLeadingZeros 28 = .ok (.iload_n 0, 1) := dk_26 (dk_at dksJ22_numberOfLeadingZeros_1 6 rfl rfl)
theorem dJ22_numberOfLeadingZeros_29 : decode cJ22_numberOfLeadingZeros 29 = .ok (.bipush 16, 2) := dk_16 16 (dk_at dksJ22_numberOfLeadingZeros_1 7 rfl rfl)
theorem dJ22_numberOfLeadingZeros_31 : decode cJ22_numberOfLeadingZeros 31 = .ok (.iushr, 1) := dk_124 (dk_at dksJ22_numberOfLeadingZeros_1 9 rfl rfl)
theorem dJ22_numberOfLeadingZeros_32 : decode cJ22_numberOfLeadingZeros 32 = .ok (.istore_n 0, 1) := dk_59 (dk_at dksJ22_numberOfLeadingZeros_1 10 rfl rfl)
theorem dJ22_numberOfLeadingZeros_33 : decode cJ22_numberOfLeadingZeros 33 = .ok (.iload_n 0, 1) := dk_26 (dk_at dksJ22_numberOfLeadingZeros_1 11 rfl rfl)
theorem dJ22_numberOfLeadingZeros_34 : decode cJ22_numberOfLeadingZeros 34 = .ok (.sipush 256, 3) := dk_17 1 0 (dk_at dksJ22_numberOfLeadingZeros_1 12 rfl rfl)
theorem dJ22_numberOfLeadingZeros_37 : decode cJ22_numberOfLeadingZeros 37 = .ok (.if_icmp .lt 11, 3) := dk_161 0 11 (dk_at dksJ22_numberOfLeadingZeros_1 15 rfl rfl)
theorem dJ22_numberOfLeadingZeros_40 : decode cJ22_numberOfLeadingZeros 40 = .ok (.iinc 1 (-8), 3) := dk_132 1 248 (dk_at dksJ22_numberOfLeadingZeros_1 18 rfl rfl)
theorem dJ22_numberOfLeadingZeros_43 : decode cJ22_numberOfLeadingZeros 43 = .ok (.iload_n 0, 1) := dk_26 (dk_at dksJ22_numberOfLeadingZeros_1 21 rfl rfl)
theorem dJ22_numberOfLeadingZeros_44 : decode cJ22_numberOfLeadingZeros 44 = .ok (.bipush 8, 2) := dk_16 8 (dk_at dksJ22_numberOfLeadingZeros_1 22 rfl rfl)
theorem dJ22_numberOfLeadingZeros_46 : decode cJ22_numberOfLeadingZeros 46 = .ok (.iushr, 1) := dk_124 (dk_at dksJ22_numberOfLeadingZeros_2 0 rfl rfl)
theorem dJ22_numberOfLeadingZeros_47 : decode cJ22_numberOfLeadingZeros 47 = .ok (.istore_n 0, 1) := dk_59 (dk_at dksJ22_numberOfLeadingZeros_2 1 rfl rfl)
theorem dJ22_numberOfLeadingZeros_48 : decode cJ22_numberOfLeadingZeros 48 = .ok (.iload_n 0, 1) := dk_26 (dk_at dksJ22_numberOfLeadingZeros_2 2 rfl rfl)
theorem dJ22_numberOfLeadingZeros_49 : decode cJ22_numberOfLeadingZeros 49 = .ok (.bipush 16, 2) := dk_16 16 (dk_at dksJ22_numberOfLeadingZeros_2 3 rfl rfl)
theorem dJ22_numberOfLeadingZeros_51 : decode cJ22_numberOfLeadingZeros 51 = .ok (.if_icmp .lt 10, 3) := dk_161 0 10 (dk_at dksJ22_numberOfLeadingZeros_2 5 rfl rfl)
theorem dJ22_numberOfLeadingZeros_54 : decode cJ22_numberOfLeadingZeros 54 = .ok (.iinc 1 (-4), 3) := dk_132 1 252 (dk_at dksJ22_numberOfLeadingZeros_2 8 rfl rfl)
theorem dJ22_numberOfLeadingZeros_57 : decode cJ22_numberOfLeadingZeros 57 = .ok (.iload_n 0, 1) := dk_26 (dk_at dksJ22_numberOfLeadingZeros_2 11 rfl rfl)
theorem dJ22_numberOfLeadingZeros_58 : decode cJ22_numberOfLeadingZeros 58 = .ok (.iconst 4, 1) := dk_7 (dk_at dksJ22_numberOfLeadingZeros_2 12 rfl rfl)
theorem dJ22_numberOfLeadingZeros_59 : decode cJ22_numberOfLeadingZeros 59 = .ok (.iushr, 1) := dk_124 (dk_at dksJ22_numberOfLeadingZeros_2 13 rfl rfl)
theorem dJ22_numberOfLeadingZeros_60 : decode cJ22_numberOfLeadingZeros 60 = .ok (.istore_n 0, 1) := dk_59 (dk_at dksJ22_numberOfLeadingZeros_2 14 rfl rfl)
theorem dJ22_numberOfLeadingZeros_61 : decode cJ22_numberOfLeadingZeros 61 = .ok (.iload_n 0, 1) := dk_26 (dk_at dksJ22_numberOfLeadingZeros_2 15 rfl rfl)
theorem dJ22_numberOfLeadingZeros_62 : decode cJ22_numberOfLeadingZeros 62 = .ok (.iconst 4, 1) := dk_7 (dk_at dksJ22_numberOfLeadingZeros_2 16 rfl rfl)
theorem dJ22_numberOfLeadingZeros_63 : decode cJ22_numberOfLeadingZeros 63 = .ok (.if_icmp .lt 10, 3) := dk_161 0 10 (dk_at dksJ22_numberOfLeadingZeros_2 17 rfl rfl)
theorem dJ22_numberOfLeadingZeros_66 : decode cJ22_numberOfLeadingZeros 66 = .ok (.iinc 1 (-2), 3) := dk_132 1 254 (dk_at dksJ22_numberOfLeadingZeros_2 20 rfl rfl)
theorem dJ22_numberOfLeadingZeros_69 : decode cJ22_numberOfLeadingZeros 69 = .ok (.iload_n 0, 1) := dk_26 (dk_at dksJ22_numberOfLeadingZeros_2 23 rfl rfl)
theorem dJ22_numberOfLeadingZeros_70 : decode cJ22_numberOfLeadingZeros 70 = .ok (.iconst 2, 1) := dk_5 (dk_at dksJ22_numberOfLeadingZeros_3 0 rfl rfl)
theorem dJ22_numberOfLeadingZeros_71 : decode cJ22_numberOfLeadingZeros 71 = .ok (.iushr, 1) := dk_124 (dk_at dksJ22_numberOfLeadingZeros_3 1 rfl rfl)
theorem dJ22_numberOfLeadingZeros_72 : decode cJ22_numberOfLeadingZeros 72 = .ok (.istore_n 0, 1) := dk_59 (dk_at dksJ22_numberOfLeadingZeros_3 2 rfl rfl)
theorem dJ22_numberOfLeadingZeros_73 : decode cJ22_numberOfLeadingZeros 73 = .ok (.iload_n 1, 1) := dk_27 (dk_at dksJ22_numberOfLeadingZeros_3 3 rfl rfl)
theorem dJ22_numberOfLeadingZeros_74 : decode cJ22_numberOfLeadingZeros 74 = .ok (.iload_n 0, 1) := dk_26 (dk_at dksJ22_numberOfLeadingZeros_3 4 rfl rfl)
theorem dJ22_numberOfLeadingZeros_75 : decode cJ22_numberOfLeadingZeros 75 = .ok (.iconst 1, 1) := dk_4 (dk_at dksJ22_numberOfLeadingZeros_3 5 rfl rfl)
theorem dJ22_numberOfLeadingZeros_76 : decode cJ22_numberOfLeadingZeros 76 = .ok (.iushr, 1) := dk_124 (dk_at dksJ22_numberOfLeadingZeros_3 6 rfl rfl)
theorem dJ22_numberOfLeadingZeros_77 : decode cJ22_numberOfLeadingZeros 77 = .ok (.isub, 1) := dk_100 (dk_at dksJ22_numberOfLeadingZeros_3 7 rfl rfl)
theorem dJ22_numberOfLeadingZeros_78 : decode cJ22_numberOfLeadingZeros 78 = .ok (.ireturn, 1) := dk_172 (dk_at dksJ22_numberOfLeadingZeros_3 8 rfl rfl)
abbrev cJ22_numberOfTrailingZeros : ByteArray := prog_25_method_48_code
def yJ22_numberOfTrailingZeros : MethodName := ⟨RJ22, "numberOfTrailingZeros", "(I)I"⟩
def dkwJ22_numberOfTrailingZeros_3 : List UInt8 := [5, 124, 59, 27, 26, 4, 124, 96, 172]
abbrev dktJ22_numberOfTrailingZeros_3 : List UInt8 := dkwJ22_numberOfTrailingZeros_3 ++ []
def dkwJ22_numberOfTrailingZeros_2 : List UInt8 := [124, 59, 26, 16, 16, 164, 0, 10, 132, 1, 4, 26, 7, 124, 59, 26, 7, 164, 0, 10, 132, 1, 2, 26]
abbrev dktJ22_numberOfTrailingZeros_2 : List UInt8 := dkwJ22_numberOfTrailingZeros_2 ++ dktJ22_numberOfTrailingZeros_3
def dkwJ22_numberOfTrailingZeros_1 : List UInt8 := [164, 0, 11, 132, 1, 16, 26, 16, 16, 124, 59, 26, 17, 1, 0, 164, 0, 11, 132, 1, 8, 26, 16, 8]
abbrev dktJ22_numberOfTrailingZeros_1 : List UInt8 := dkwJ22_numberOfTrailingZeros_1 ++ dktJ22_numberOfTrailingZeros_2
def dkwJ22_numberOfTrailingZeros_0 : List UInt8 := [26, 2, 130, 26, 4, 100, 126, 59, 26, 157, 0, 8, 26, 16, 32, 126, 172, 4, 60, 26, 19, 1, 8]
abbrev dktJ22_numberOfTrailingZeros_0 : List UInt8 := dkwJ22_numberOfTrailingZeros_0 ++ dktJ22_numberOfTrailingZeros_1
theorem dksJ22_numberOfTrailingZeros_0 : cJ22_numberOfTrailingZeros.data.toList.drop 0 = dktJ22_numberOfTrailingZeros_0 := by decide +kernel
theorem dksJ22_numberOfTrailingZeros_1 : cJ22_numberOfTrailingZeros.data.toList.drop 23 = dktJ22_numberOfTrailingZeros_1 := dk_seg dksJ22_numberOfTrailingZeros_0 23 rfl rfl
theorem dksJ22_numberOfTrailingZeros_2 : cJ22_numberOfTrailingZeros.data.toList.drop 47 = dktJ22_numberOfTrailingZeros_2 := dk_seg dksJ22_numberOfTrailingZeros_1 24 rfl rfl
theorem dksJ22_numberOfTrailingZeros_3 : cJ22_numberOfTrailingZeros.data.toList.drop 71 = dktJ22_numberOfTrailingZeros_3 := dk_seg dksJ22_numberOfTrailingZeros_2 24 rfl rfl
theorem dJ22_numberOfTrailingZeros_0 : decode cJ22_numberOfTrailingZeros 0 = .ok (.iload_n 0, 1) := dk_26 (dk_at dksJ22_numberOfTrailingZeros_0 0 rfl rfl)
theorem dJ22_numberOfTrailingZeros_1 : decode cJ22_numberOfTrailingZeros 1 = .ok (.iconst (-1), 1) := dk_2 (dk_at dksJ22_numberOfTrailingZeros_0 1 rfl rfl)
theorem dJ22_numberOfTrailingZeros_2 : decode cJ22_numberOfTrailingZeros 2 = .ok (.ixor, 1) := dk_130 (dk_at dksJ22_numberOfTrailingZeros_0 2 rfl rfl)
theorem dJ22_numberOfTrailingZeros_3 : decode cJ22_numberOfTrailingZeros 3 = .ok (.iload_n 0, 1) := dk_26 (dk_at dksJ22_numberOfTrailingZeros_0 3 rfl rfl)
theorem dJ22_numberOfTrailingZeros_4 : decode cJ22_numberOfTrailingZeros 4 = .ok (.iconst 1, 1) := dk_4 (dk_at dksJ22_numberOfTrailingZeros_0 4 rfl rfl)
theorem dJ22_numberOfTrailingZeros_5 : decode cJ22_numberOfTrailingZeros 5 = .ok (.isub, 1) := dk_100 (dk_at dksJ22_numberOfTrailingZeros_0 5 rfl rfl)
theorem dJ22_numberOfTrailingZeros_6 : decode cJ22_numberOfTrailingZeros 6 = .ok (.iand, 1) := dk_126 (dk_at dksJ22_numberOfTrailingZeros_0 6 rfl rfl)
theorem dJ22_numberOfTrailingZeros_7 : decode cJ22_numberOfTrailingZeros 7 = .ok (.istore_n 0, 1) := dk_59 (dk_at dksJ22_numberOfTrailingZeros_0 7 rfl rfl)
theorem dJ22_numberOfTrailingZeros_8 : decode cJ22_numberOfTrailingZeros 8 = .ok (.iload_n 0, 1) := dk_26 (dk_at dksJ22_numberOfTrailingZeros_0 8 rfl rfl)
theorem dJ22_numberOfTrailingZeros_9 : decode cJ22_numberOfTrailingZeros 9 = .ok (.ifCond .gt 8, 3) := dk_157 0 8 (dk_at dksJ22_numberOfTrailingZeros_0 9 rfl rfl)
theorem dJ22_numberOfTrailingZeros_12 : decode cJ22_numberOfTrailingZeros 12 = .ok (.iload_n 0, 1) := dk_26 (dk_at dksJ22_numberOfTrailingZeros_0 12 rfl rfl)
theorem dJ22_numberOfTrailingZeros_13 : decode cJ22_numberOfTrailingZeros 13 = .ok (.bipush 32, 2) := dk_16 32 (dk_at dksJ22_numberOfTrailingZeros_0 13 rfl rfl)
theorem dJ22_numberOfTrailingZeros_15 : decode cJ22_numberOfTrailingZeros 15 = .ok (.iand, 1) := dk_126 (dk_at dksJ22_numberOfTrailingZeros_0 15 rfl rfl)
theorem dJ22_numberOfTrailingZeros_16 : decode cJ22_numberOfTrailingZeros 16 = .ok (.ireturn, 1) := dk_172 (dk_at dksJ22_numberOfTrailingZeros_0 16 rfl rfl)
theorem dJ22_numberOfTrailingZeros_17 : decode cJ22_numberOfTrailingZeros 17 = .ok (.iconst 1, 1) := dk_4 (dk_at dksJ22_numberOfTrailingZeros_0 17 rfl rfl)
theorem dJ22_numberOfTrailingZeros_18 : decode cJ22_numberOfTrailingZeros 18 = .ok (.istore_n 1, 1) := dk_60 (dk_at dksJ22_numberOfTrailingZeros_0 18 rfl rfl)
theorem dJ22_numberOfTrailingZeros_19 : decode cJ22_numberOfTrailingZeros 19 = .ok (.iload_n 0, 1) := dk_26 (dk_at dksJ22_numberOfTrailingZeros_0 19 rfl rfl)
theorem dJ22_numberOfTrailingZeros_20 : decode cJ22_numberOfTrailingZeros 20 = .ok (.ldc_w 264, 3) := dk_19 1 8 (dk_at dksJ22_numberOfTrailingZeros_0 20 rfl rfl)
theorem dJ22_numberOfTrailingZeros_23 : decode cJ22_numberOfTrailingZeros 23 = .ok (.if_icmp .le 11, 3) := dk_164 0 11 (dk_at dksJ22_numberOfTrailingZeros_1 0 rfl rfl)
theorem dJ22_numberOfTrailingZeros_26 : decode cJ22_numberOfTrailingZeros 26 = .ok (.iinc 1 16, 3) := dk_132 1 16 (dk_at dksJ22_numberOfTrailingZeros_1 3 rfl rfl)
theorem dJ22_numberOfTrailingZeros_29 : decode cJ22_numberOfTrailingZeros 29 = .ok (.iload_n 0, 1) := dk_26 (dk_at dksJ22_numberOfTrailingZeros_1 6 rfl rfl)
theorem dJ22_numberOfTrailingZeros_30 : decode cJ22_numberOfTrailingZeros 30 = .ok (.bipush 16, 2) := dk_16 16 (dk_at dksJ22_numberOfTrailingZeros_1 7 rfl rfl)
theorem dJ22_numberOfTrailingZeros_32 : decode cJ22_numberOfTrailingZeros 32 = .ok (.iushr, 1) := dk_124 (dk_at dksJ22_numberOfTrailingZeros_1 9 rfl rfl)
theorem dJ22_numberOfTrailingZeros_33 : decode cJ22_numberOfTrailingZeros 33 = .ok (.istore_n 0, 1) := dk_59 (dk_at dksJ22_numberOfTrailingZeros_1 10 rfl rfl)
theorem dJ22_numberOfTrailingZeros_34 : decode cJ22_numberOfTrailingZeros 34 = .ok (.iload_n 0, 1) := dk_26 (dk_at dksJ22_numberOfTrailingZeros_1 11 rfl rfl)
theorem dJ22_numberOfTrailingZeros_35 : decode cJ22_numberOfTrailingZeros 35 = .ok (.sipush 256, 3) := dk_17 1 0 (dk_at dksJ22_numberOfTrailingZeros_1 12 rfl rfl)
theorem dJ22_numberOfTrailingZeros_38 : decode cJ22_numberOfTrailingZeros 38 = .ok (.if_icmp .le 11, 3) := dk_164 0 11 (dk_at dksJ22_numberOfTrailingZeros_1 15 rfl rfl)
theorem dJ22_numberOfTrailingZeros_41 : decode cJ22_numberOfTrailingZeros 41 = .ok (.iinc 1 8, 3) := dk_132 1 8 (dk_at dksJ22_numberOfTrailingZeros_1 18 rfl rfl)
theorem dJ22_numberOfTrailingZeros_44 : decode cJ22_numberOfTrailingZeros 44 = .ok (.iload_n 0, 1) := dk_26 (dk_at dksJ22_numberOfTrailingZeros_1 21 rfl rfl)
theorem dJ22_numberOfTrailingZeros_45 : decode cJ22_numberOfTrailingZeros 45 = .ok (.bipush 8, 2) := dk_16 8 (dk_at dksJ22_numberOfTrailingZeros_1 22 rfl rfl)
theorem dJ22_numberOfTrailingZeros_47 : decode cJ22_numberOfTrailingZeros 47 = .ok (.iushr, 1) := dk_124 (dk_at dksJ22_numberOfTrailingZeros_2 0 rfl rfl)
theorem dJ22_numberOfTrailingZeros_48 : decode cJ22_numberOfTrailingZeros 48 = .ok (.istore_n 0, 1) := dk_59 (dk_at dksJ22_numberOfTrailingZeros_2 1 rfl rfl)
theorem dJ22_numberOfTrailingZeros_49 : decode cJ22_numberOfTrailingZeros 49 = .ok (.iload_n 0, 1) := dk_26 (dk_at dksJ22_numberOfTrailingZeros_2 2 rfl rfl)
theorem dJ22_numberOfTrailingZeros_50 : decode cJ22_numberOfTrailingZeros 50 = .ok (.bipush 16, 2) := dk_16 16 (dk_at dksJ22_numberOfTrailingZeros_2 3 rfl rfl)
theorem dJ22_numberOfTrailingZeros_52 : decode cJ22_numberOfTrailingZeros 52 = .ok (.if_icmp .le 10, 3) := dk_164 0 10 (dk_at dksJ22_numberOfTrailingZeros_2 5 rfl rfl)
theorem dJ22_numberOfTrailingZeros_55 : decode cJ22_numberOfTrailingZeros 55 = .ok (.iinc 1 4, 3) := dk_132 1 4 (dk_at dksJ22_numberOfTrailingZeros_2 8 rfl rfl)
theorem dJ22_numberOfTrailingZeros_58 : decode cJ22_numberOfTrailingZeros 58 = .ok (.iload_n 0, 1) := dk_26 (dk_at dksJ22_numberOfTrailingZeros_2 11 rfl rfl)
theorem dJ22_numberOfTrailingZeros_59 : decode cJ22_numberOfTrailingZeros 59 = .ok (.iconst 4, 1) := dk_7 (dk_at dksJ22_numberOfTrailingZeros_2 12 rfl rfl)
theorem dJ22_numberOfTrailingZeros_60 : decode cJ22_numberOfTrailingZeros 60 = .ok (.iushr, 1) := dk_124 (dk_at dksJ22_numberOfTrailingZeros_2 13 rfl rfl)
theorem dJ22_numberOfTrailingZeros_61 : decode cJ22_numberOfTrailingZeros 61 = .ok (.istore_n 0, 1) := dk_59 (dk_at dksJ22_numberOfTrailingZeros_2 14 rfl rfl)
theorem dJ22_numberOfTrailingZeros_62 : decode cJ22_numberOfTrailingZeros 62 = .ok (.iload_n 0, 1) := dk_26 (dk_at dksJ22_numberOfTrailingZeros_2 15 rfl rfl)
theorem dJ22_numberOfTrailingZeros_63 : decode cJ22_numberOfTrailingZeros 63 = .ok (.iconst 4, 1) := dk_7 (dk_at dksJ22_numberOfTrailingZeros_2 16 rfl rfl)
theorem dJ22_numberOfTrailingZeros_64 : decode cJ22_numberOfTrailingZeros 64 = .ok (.if_icmp .le 10, 3) := dk_164 0 10 (dk_at dksJ22_numberOfTrailingZeros_2 17 rfl rfl)
theorem dJ22_numberOfTrailingZeros_67 : decode cJ22_numberOfTrailingZeros 67 = .ok (.iinc 1 2, 3) := dk_132 1 2 (dk_at dksJ22_numberOfTrailingZeros_2 20 rfl rfl)
theorem dJ22_numberOfTrailingZeros_70 : decode cJ22_numberOfTrailingZeros 70 = .ok (.iload_n 0, 1) := dk_26 (dk_at dksJ22_numberOfTrailingZeros_2 23 rfl rfl)
theorem dJ22_numberOfTrailingZeros_71 : decode cJ22_numberOfTrailingZeros 71 = .ok (.iconst 2, 1) := dk_5 (dk_at dksJ22_numberOfTrailingZeros_3 0 rfl rfl)
theorem dJ22_numberOfTrailingZeros_72 : decode cJ22_numberOfTrailingZeros 72 = .ok (.iushr, 1) := dk_124 (dk_at dksJ22_numberOfTrailingZeros_3 1 rfl rfl)
theorem dJ22_numberOfTrailingZeros_73 : decode cJ22_numberOfTrailingZeros 73 = .ok (.istore_n 0, 1) := dk_59 (dk_at dksJ22_numberOfTrailingZeros_3 2 rfl rfl)
theorem dJ22_numberOfTrailingZeros_74 : decode cJ22_numberOfTrailingZeros 74 = .ok (.iload_n 1, 1) := dk_27 (dk_at dksJ22_numberOfTrailingZeros_3 3 rfl rfl)
theorem dJ22_numberOfTrailingZeros_75 : decode cJ22_numberOfTrailingZeros 75 = .ok (.iload_n 0, 1) := dk_26 (dk_at dksJ22_numberOfTrailingZeros_3 4 rfl rfl)
theorem dJ22_numberOfTrailingZeros_76 : decode cJ22_numberOfTrailingZeros 76 = .ok (.iconst 1, 1) := dk_4 (dk_at dksJ22_numberOfTrailingZeros_3 5 rfl rfl)
theorem dJ22_numberOfTrailingZeros_77 : decode cJ22_numberOfTrailingZeros 77 = .ok (.iushr, 1) := dk_124 (dk_at dksJ22_numberOfTrailingZeros_3 6 rfl rfl)
theorem dJ22_numberOfTrailingZeros_78 : decode cJ22_numberOfTrailingZeros 78 = .ok (.iadd, 1) := dk_96 (dk_at dksJ22_numberOfTrailingZeros_3 7 rfl rfl)
theorem dJ22_numberOfTrailingZeros_79 : decode cJ22_numberOfTrailingZeros 79 = .ok (.ireturn, 1) := dk_172 (dk_at dksJ22_numberOfTrailingZeros_3 8 rfl rfl)
abbrev cJ22_intValue : ByteArray := prog_25_method_27_code
def yJ22_intValue : MethodName := ⟨RJ22, "intValue", "()I"⟩
theorem dJ22_intValue_0 : decode cJ22_intValue 0 = .ok (.aload_n 0, 1) := by decide +kernel
theorem dJ22_intValue_1 : decode cJ22_intValue 1 = .ok (.getfield 205, 3) := by decide +kernel
theorem dJ22_intValue_4 : decode cJ22_intValue 4 = .ok (.ireturn, 1) := by decide +kernel
abbrev cJ22_equals : ByteArray := prog_25_method_34_code
def yJ22_equals : MethodName := ⟨RJ22, "equals", "(Ljava/lang/Object;)Z"⟩
def dkwJ22_equals_1 : List UInt8 := [167, 0, 4, 3, 172, 3, 172]
abbrev dktJ22_equals_1 : List UInt8 := dkwJ22_equals_1 ++ []
def dkwJ22_equals_0 : List UInt8 := [43, 193, 0, 1, 153, 0, 23, 42, 180, 0, 205, 43, 192, 0, 1, 182, 0, 211, 160, 0, 7, 4]
abbrev dktJ22_equals_0 : List UInt8 := dkwJ22_equals_0 ++ dktJ22_equals_1
theorem dksJ22_equals_0 : cJ22_equals.data.toList.drop 0 = dktJ22_equals_0 := by decide +kernel
theorem dksJ22_equals_1 : cJ22_equals.data.toList.drop 22 = dktJ22_equals_1 := dk_seg dksJ22_equals_0 22 rfl rfl
theorem dJ22_equals_0 : decode cJ22_equals 0 = .ok (.aload_n 1, 1) := dk_43 (dk_at dksJ22_equals_0 0 rfl rfl)
theorem dJ22_equals_1 : decode cJ22_equals 1 = .ok (.instanceof 1, 3) := dk_193 0 1 (dk_at dksJ22_equals_0 1 rfl rfl)
theorem dJ22_equals_4 : decode cJ22_equals 4 = .ok (.ifCond .eq 23, 3) := dk_153 0 23 (dk_at dksJ22_equals_0 4 rfl rfl)
theorem dJ22_equals_7 : decode cJ22_equals 7 = .ok (.aload_n 0, 1) := dk_42 (dk_at dksJ22_equals_0 7 rfl rfl)
theorem dJ22_equals_8 : decode cJ22_equals 8 = .ok (.getfield 205, 3) := dk_180 0 205 (dk_at dksJ22_equals_0 8 rfl rfl)
theorem dJ22_equals_11 : decode cJ22_equals 11 = .ok (.aload_n 1, 1) := dk_43 (dk_at dksJ22_equals_0 11 rfl rfl)
theorem dJ22_equals_12 : decode cJ22_equals 12 = .ok (.checkcast 1, 3) := dk_192 0 1 (dk_at dksJ22_equals_0 12 rfl rfl)
theorem dJ22_equals_15 : decode cJ22_equals 15 = .ok (.invokevirtual 211, 3) := dk_182 0 211 (dk_at dksJ22_equals_0 15 rfl rfl)
theorem dJ22_equals_18 : decode cJ22_equals 18 = .ok (.if_icmp .ne 7, 3) := dk_160 0 7 (dk_at dksJ22_equals_0 18 rfl rfl)
theorem dJ22_equals_21 : decode cJ22_equals 21 = .ok (.iconst 1, 1) := dk_4 (dk_at dksJ22_equals_0 21 rfl rfl)
theorem dJ22_equals_22 : decode cJ22_equals 22 = .ok (.goto 4, 3) := dk_167 0 4 (dk_at dksJ22_equals_1 0 rfl rfl)
theorem dJ22_equals_25 : decode cJ22_equals 25 = .ok (.iconst 0, 1) := dk_3 (dk_at dksJ22_equals_1 3 rfl rfl)
theorem dJ22_equals_26 : decode cJ22_equals 26 = .ok (.ireturn, 1) := dk_172 (dk_at dksJ22_equals_1 4 rfl rfl)
theorem dJ22_equals_27 : decode cJ22_equals 27 = .ok (.iconst 0, 1) := dk_3 (dk_at dksJ22_equals_1 5 rfl rfl)
theorem dJ22_equals_28 : decode cJ22_equals 28 = .ok (.ireturn, 1) := dk_172 (dk_at dksJ22_equals_1 6 rfl rfl)
abbrev cJ22_toString : ByteArray := prog_25_method_31_code
def yJ22_toString : MethodName := ⟨RJ22, "toString", "()Ljava/lang/String;"⟩
def dkwJ22_toString_0 : List UInt8 := [42, 180, 0, 205, 184, 0, 9, 176]
abbrev dktJ22_toString_0 : List UInt8 := dkwJ22_toString_0 ++ []
theorem dksJ22_toString_0 : cJ22_toString.data.toList.drop 0 = dktJ22_toString_0 := by decide +kernel
theorem dJ22_toString_0 : decode cJ22_toString 0 = .ok (.aload_n 0, 1) := dk_42 (dk_at dksJ22_toString_0 0 rfl rfl)
theorem dJ22_toString_1 : decode cJ22_toString 1 = .ok (.getfield 205, 3) := dk_180 0 205 (dk_at dksJ22_toString_0 1 rfl rfl)
theorem dJ22_toString_4 : decode cJ22_toString 4 = .ok (.invokestatic 9, 3) := dk_184 0 9 (dk_at dksJ22_toString_0 4 rfl rfl)
theorem dJ22_toString_7 : decode cJ22_toString 7 = .ok (.areturn, 1) := dk_176 (dk_at dksJ22_toString_0 7 rfl rfl)
abbrev cJ22_toString_2 : ByteArray := prog_25_method_10_code
def yJ22_toString_2 : MethodName := ⟨RJ22, "toString", "(I)Ljava/lang/String;"⟩
def dkwJ22_toString_2_2 : List UInt8 := [187, 0, 5, 89, 44, 4, 183, 0, 65, 176]
abbrev dktJ22_toString_2_2 : List UInt8 := dkwJ22_toString_2_2 ++ []
def dkwJ22_toString_2_1 : List UInt8 := [187, 0, 5, 89, 44, 3, 183, 0, 65, 176, 27, 5, 104, 188, 8, 77, 26, 27, 44, 184, 0, 79, 87]
abbrev dktJ22_toString_2_1 : List UInt8 := dkwJ22_toString_2_1 ++ dktJ22_toString_2_2
def dkwJ22_toString_2_0 : List UInt8 := [26, 184, 0, 72, 60, 178, 0, 13, 153, 0, 24, 27, 188, 8, 77, 26, 27, 44, 184, 0, 75, 87]
abbrev dktJ22_toString_2_0 : List UInt8 := dkwJ22_toString_2_0 ++ dktJ22_toString_2_1
theorem dksJ22_toString_2_0 : cJ22_toString_2.data.toList.drop 0 = dktJ22_toString_2_0 := by decide +kernel
theorem dksJ22_toString_2_1 : cJ22_toString_2.data.toList.drop 22 = dktJ22_toString_2_1 := dk_seg dksJ22_toString_2_0 22 rfl rfl
theorem dksJ22_toString_2_2 : cJ22_toString_2.data.toList.drop 45 = dktJ22_toString_2_2 := dk_seg dksJ22_toString_2_1 23 rfl rfl
theorem dJ22_toString_2_0 : decode cJ22_toString_2 0 = .ok (.iload_n 0, 1) := dk_26 (dk_at dksJ22_toString_2_0 0 rfl rfl)
theorem dJ22_toString_2_1 : decode cJ22_toString_2 1 = .ok (.invokestatic 72, 3) := dk_184 0 72 (dk_at dksJ22_toString_2_0 1 rfl rfl)
theorem dJ22_toString_2_4 : decode cJ22_toString_2 4 = .ok (.istore_n 1, 1) := dk_60 (dk_at dksJ22_toString_2_0 4 rfl rfl)
theorem dJ22_toString_2_5 : decode cJ22_toString_2 5 = .ok (.getstatic 13, 3) := dk_178 0 13 (dk_at dksJ22_toString_2_0 5 rfl rfl)
theorem dJ22_toString_2_8 : decode cJ22_toString_2 8 = .ok (.ifCond .eq 24, 3) := dk_153 0 24 (dk_at dksJ22_toString_2_0 8 rfl rfl)
theorem dJ22_toString_2_11 : decode cJ22_toString_2 11 = .ok (.iload_n 1, 1) := dk_27 (dk_at dksJ22_toString_2_0 11 rfl rfl)
theorem dJ22_toString_2_12 : decode cJ22_toString_2 12 = .ok (.newarray .byte, 2) := dk_188_8 (dk_at dksJ22_toString_2_0 12 rfl rfl)
theorem dJ22_toString_2_14 : decode cJ22_toString_2 14 = .ok (.astore_n 2, 1) := dk_77 (dk_at dksJ22_toString_2_0 14 rfl rfl)
theorem dJ22_toString_2_15 : decode cJ22_toString_2 15 = .ok (.iload_n 0, 1) := dk_26 (dk_at dksJ22_toString_2_0 15 rfl rfl)
theorem dJ22_toString_2_16 : decode cJ22_toString_2 16 = .ok (.iload_n 1, 1) := dk_27 (dk_at dksJ22_toString_2_0 16 rfl rfl)
theorem dJ22_toString_2_17 : decode cJ22_toString_2 17 = .ok (.aload_n 2, 1) := dk_44 (dk_at dksJ22_toString_2_0 17 rfl rfl)
theorem dJ22_toString_2_18 : decode cJ22_toString_2 18 = .ok (.invokestatic 75, 3) := dk_184 0 75 (dk_at dksJ22_toString_2_0 18 rfl rfl)
theorem dJ22_toString_2_21 : decode cJ22_toString_2 21 = .ok (.pop, 1) := dk_87 (dk_at dksJ22_toString_2_0 21 rfl rfl)
theorem dJ22_toString_2_22 : decode cJ22_toString_2 22 = .ok (.new 5, 3) := dk_187 0 5 (dk_at dksJ22_toString_2_1 0 rfl rfl)
theorem dJ22_toString_2_25 : decode cJ22_toString_2 25 = .ok (.dup, 1) := dk_89 (dk_at dksJ22_toString_2_1 3 rfl rfl)
theorem dJ22_toString_2_26 : decode cJ22_toString_2 26 = .ok (.aload_n 2, 1) := dk_44 (dk_at dksJ22_toString_2_1 4 rfl rfl)
theorem dJ22_toString_2_27 : decode cJ22_toString_2 27 = .ok (.iconst 0, 1) := dk_3 (dk_at dksJ22_toString_2_1 5 rfl rfl)
theorem dJ22_toString_2_28 : decode cJ22_toString_2 28 = .ok (.invokespecial 65, 3) := dk_183 0 65 (dk_at dksJ22_toString_2_1 6 rfl rfl)
theorem dJ22_toString_2_31 : decode cJ22_toString_2 31 = .ok (.areturn, 1) := dk_176 (dk_at dksJ22_toString_2_1 9 rfl rfl)
theorem dJ22_toString_2_32 : decode cJ22_toString_2 32 = .ok (.iload_n 1, 1) := dk_27 (dk_at dksJ22_toString_2_1 10 rfl rfl)
theorem dJ22_toString_2_33 : decode cJ22_toString_2 33 = .ok (.iconst 2, 1) := dk_5 (dk_at dksJ22_toString_2_1 11 rfl rfl)
theorem dJ22_toString_2_34 : decode cJ22_toString_2 34 = .ok (.imul, 1) := dk_104 (dk_at dksJ22_toString_2_1 12 rfl rfl)
theorem dJ22_toString_2_35 : decode cJ22_toString_2 35 = .ok (.newarray .byte, 2) := dk_188_8 (dk_at dksJ22_toString_2_1 13 rfl rfl)
theorem dJ22_toString_2_37 : decode cJ22_toString_2 37 = .ok (.astore_n 2, 1) := dk_77 (dk_at dksJ22_toString_2_1 15 rfl rfl)
theorem dJ22_toString_2_38 : decode cJ22_toString_2 38 = .ok (.iload_n 0, 1) := dk_26 (dk_at dksJ22_toString_2_1 16 rfl rfl)
theorem dJ22_toString_2_39 : decode cJ22_toString_2 39 = .ok (.iload_n 1, 1) := dk_27 (dk_at dksJ22_toString_2_1 17 rfl rfl)
theorem dJ22_toString_2_40 : decode cJ22_toString_2 40 = .ok (.aload_n 2, 1) := dk_44 (dk_at dksJ22_toString_2_1 18 rfl rfl)
theorem dJ22_toString_2_41 : decode cJ22_toString_2 41 = .ok (.invokestatic 79, 3) := dk_184 0 79 (dk_at dksJ22_toString_2_1 19 rfl rfl)
theorem dJ22_toString_2_44 : decode cJ22_toString_2 44 = .ok (.pop, 1) := dk_87 (dk_at dksJ22_toString_2_1 22 rfl rfl)
theorem dJ22_toString_2_45 : decode cJ22_toString_2 45 = .ok (.new 5, 3) := dk_187 0 5 (dk_at dksJ22_toString_2_2 0 rfl rfl)
theorem dJ22_toString_2_48 : decode cJ22_toString_2 48 = .ok (.dup, 1) := dk_89 (dk_at dksJ22_toString_2_2 3 rfl rfl)
theorem dJ22_toString_2_49 : decode cJ22_toString_2 49 = .ok (.aload_n 2, 1) := dk_44 (dk_at dksJ22_toString_2_2 4 rfl rfl)
theorem dJ22_toString_2_50 : decode cJ22_toString_2 50 = .ok (.iconst 1, 1) := dk_4 (dk_at dksJ22_toString_2_2 5 rfl rfl)
theorem dJ22_toString_2_51 : decode cJ22_toString_2 51 = .ok (.invokespecial 65, 3) := dk_183 0 65 (dk_at dksJ22_toString_2_2 6 rfl rfl)
theorem dJ22_toString_2_54 : decode cJ22_toString_2 54 = .ok (.areturn, 1) := dk_176 (dk_at dksJ22_toString_2_2 9 rfl rfl)
theorem q141 : (Jvm.Cond.initialized "java/lang/Integer") ∈ lw_all := lw_g (lw_at lw_m1 27 rfl) rfl
theorem q590 : (Jvm.Cond.static ({ cls := "java/lang/Integer", name := "stringSize", desc := "(I)I" } : Jvm.MethodName)) ∈ lw_all := lw_g (lw_at lw_m2 236 rfl) rfl
theorem q591 : (Jvm.Cond.code ({ cls := "java/lang/Integer", name := "stringSize", desc := "(I)I" } : Jvm.MethodName) prog_25_method_13_code (4 : Nat) (Option.some Jvm.ClassFile.FieldType.int)) ∈ lw_all := lw_g (lw_at lw_m2 237 rfl) rfl
theorem q593 : (Jvm.Cond.static ({ cls := "java/lang/Integer", name := "getChars", desc := "(II[B)I" } : Jvm.MethodName)) ∈ lw_all := lw_g (lw_at lw_m2 239 rfl) rfl
theorem q594 : (Jvm.Cond.code ({ cls := "java/lang/Integer", name := "getChars", desc := "(II[B)I" } : Jvm.MethodName) prog_25_method_12_code (7 : Nat) (Option.some Jvm.ClassFile.FieldType.int)) ∈ lw_all := lw_g (lw_at lw_m3 0 rfl) rfl
theorem q595 : (Jvm.Cond.fieldLink "java/lang/Integer" (83 : Nat) "java/lang/Integer" "DigitOnes" "[B") ∈ lw_all := lw_g (lw_at lw_m3 1 rfl) rfl
theorem q596 : (Jvm.Cond.laysStatic "java/lang/Integer" "DigitOnes" "[B") ∈ lw_tbl := lw_at lw_m3 2 rfl
theorem q597 : (Jvm.Cond.fieldLink "java/lang/Integer" (87 : Nat) "java/lang/Integer" "DigitTens" "[B") ∈ lw_all := lw_g (lw_at lw_m3 3 rfl) rfl
theorem q598 : (Jvm.Cond.laysStatic "java/lang/Integer" "DigitTens" "[B") ∈ lw_tbl := lw_at lw_m3 4 rfl
theorem q756 : (Jvm.Cond.selects "java/lang/Integer" ({ cls := "java/lang/Object", name := "getClass", desc := "()Ljava/lang/Class;" } : Jvm.MethodName) ({ cls := "java/lang/Object", name := "getClass", desc := "()Ljava/lang/Class;" } : Jvm.MethodName)) ∈ lw_all := lw_g (lw_at lw_m3 162 rfl) rfl
theorem q926 : (Jvm.Cond.static ({ cls := "java/lang/Integer", name := "valueOf", desc := "(I)Ljava/lang/Integer;" } : Jvm.MethodName)) ∈ lw_all := lw_g (lw_at lw_m4 92 rfl) rfl
theorem q927 : (Jvm.Cond.code ({ cls := "java/lang/Integer", name := "valueOf", desc := "(I)Ljava/lang/Integer;" } : Jvm.MethodName) prog_25_method_22_code (1 : Nat) (Option.some (Jvm.ClassFile.FieldType.object "java/lang/Integer"))) ∈ lw_all := lw_g (lw_at lw_m4 93 rfl) rfl
theorem q928 : (Jvm.Cond.fieldLink "java/lang/Integer" (191 : Nat) "java/lang/Integer$IntegerCache" "high" "I") ∈ lw_all := lw_g (lw_at lw_m4 94 rfl) rfl
theorem q930 : (Jvm.Cond.fieldLink "java/lang/Integer" (195 : Nat) "java/lang/Integer$IntegerCache" "cache" "[Ljava/lang/Integer;") ∈ lw_all := lw_g (lw_at lw_m4 96 rfl) rfl
theorem q932 : (Jvm.Cond.classLink "java/lang/Integer" (1 : Nat) "java/lang/Integer") ∈ lw_all := lw_g (lw_at lw_m4 98 rfl) rfl
theorem q933 : (Jvm.Cond.instantiable "java/lang/Integer" (1 : Nat)) ∈ lw_all := lw_g (lw_at lw_m4 99 rfl) rfl
theorem q934 : (Jvm.Cond.methodLink "java/lang/Integer" (199 : Nat) ({ cls := "java/lang/Integer", name := "<init>", desc := "(I)V" } : Jvm.MethodName)) ∈ lw_all := lw_g (lw_at lw_m4 100 rfl) rfl
theorem q935 : (Jvm.Cond.instanceMethod ({ cls := "java/lang/Integer", name := "<init>", desc := "(I)V" } : Jvm.MethodName)) ∈ lw_all := lw_g (lw_at lw_m4 101 rfl) rfl
theorem q936 : (Jvm.Cond.code ({ cls := "java/lang/Integer", name := "<init>", desc := "(I)V" } : Jvm.MethodName) prog_25_method_23_code (2 : Nat) (Option.none : Option Jvm.ClassFile.FieldType)) ∈ lw_all := lw_g (lw_at lw_m4 102 rfl) rfl
theorem q937 : (Jvm.Cond.methodLink "java/lang/Integer" (202 : Nat) ({ cls := "java/lang/Number", name := "<init>", desc := "()V" } : Jvm.MethodName)) ∈ lw_all := lw_g (lw_at lw_m4 103 rfl) rfl
theorem q941 : (Jvm.Cond.fieldLink "java/lang/Integer" (205 : Nat) "java/lang/Integer" "value" "I") ∈ lw_all := lw_g (lw_at lw_m4 107 rfl) rfl
theorem q942 : (Jvm.Cond.laysFinal "java/lang/Integer" "java/lang/Integer" "value" "I") ∈ lw_all := lw_g (lw_at lw_m4 108 rfl) rfl
theorem q943 : (Jvm.Cond.soleField "java/lang/Integer" "value") ∈ lw_all := lw_g (lw_at lw_m4 109 rfl) rfl
theorem q944 : (Jvm.Cond.superclass "java/lang/Integer" "java/lang/Number") ∈ lw_all := lw_g (lw_at lw_m4 110 rfl) rfl
theorem q966 : (Jvm.Cond.castable "java/lang/Integer" "java/lang/Comparable") ∈ lw_tbl := lw_at lw_m4 132 rfl
theorem q967 : (Jvm.Cond.selects "java/lang/Integer" ({ cls := "java/lang/Comparable", name := "compareTo", desc := "(Ljava/lang/Object;)I" } : Jvm.MethodName) ({ cls := "java/lang/Integer", name := "compareTo", desc := "(Ljava/lang/Object;)I" } : Jvm.MethodName)) ∈ lw_all := lw_g (lw_at lw_m4 133 rfl) rfl
theorem q968 : (Jvm.Cond.unhidden "java/lang/Integer" "compareTo" "(Ljava/lang/Object;)I") ∈ lw_tbl := lw_at lw_m4 134 rfl
theorem q969 : (Jvm.Cond.instanceMethod ({ cls := "java/lang/Integer", name := "compareTo", desc := "(Ljava/lang/Object;)I" } : Jvm.MethodName)) ∈ lw_all := lw_g (lw_at lw_m4 135 rfl) rfl
theorem q970 : (Jvm.Cond.publicMethod ({ cls := "java/lang/Integer", name := "compareTo", desc := "(Ljava/lang/Object;)I" } : Jvm.MethodName)) ∈ lw_tbl := lw_at lw_m4 136 rfl
theorem q971 : (Jvm.Cond.code ({ cls := "java/lang/Integer", name := "compareTo", desc := "(Ljava/lang/Object;)I" } : Jvm.MethodName) prog_25_method_63_code (2 : Nat) (Option.some Jvm.ClassFile.FieldType.int)) ∈ lw_all := lw_g (lw_at lw_m4 137 rfl) rfl
theorem q972 : (Jvm.Cond.methodLink "java/lang/Integer" (284 : Nat) ({ cls := "java/lang/Integer", name := "compareTo", desc := "(Ljava/lang/Integer;)I" } : Jvm.MethodName)) ∈ lw_all := lw_g (lw_at lw_m4 138 rfl) rfl
theorem q973 : (Jvm.Cond.instanceMethod ({ cls := "java/lang/Integer", name := "compareTo", desc := "(Ljava/lang/Integer;)I" } : Jvm.MethodName)) ∈ lw_all := lw_g (lw_at lw_m4 139 rfl) rfl
theorem q974 : (Jvm.Cond.selects "java/lang/Integer" ({ cls := "java/lang/Integer", name := "compareTo", desc := "(Ljava/lang/Integer;)I" } : Jvm.MethodName) ({ cls := "java/lang/Integer", name := "compareTo", desc := "(Ljava/lang/Integer;)I" } : Jvm.MethodName)) ∈ lw_all := lw_g (lw_at lw_m4 140 rfl) rfl
theorem q975 : (Jvm.Cond.code ({ cls := "java/lang/Integer", name := "compareTo", desc := "(Ljava/lang/Integer;)I" } : Jvm.MethodName) prog_25_method_39_code (2 : Nat) (Option.some Jvm.ClassFile.FieldType.int)) ∈ lw_all := lw_g (lw_at lw_m4 141 rfl) rfl
theorem q976 : (Jvm.Cond.methodLink "java/lang/Integer" (259 : Nat) ({ cls := "java/lang/Integer", name := "compare", desc := "(II)I" } : Jvm.MethodName)) ∈ lw_all := lw_g (lw_at lw_m4 142 rfl) rfl
theorem q977 : (Jvm.Cond.static ({ cls := "java/lang/Integer", name := "compare", desc := "(II)I" } : Jvm.MethodName)) ∈ lw_all := lw_g (lw_at lw_m4 143 rfl) rfl
theorem q978 : (Jvm.Cond.code ({ cls := "java/lang/Integer", name := "compare", desc := "(II)I" } : Jvm.MethodName) prog_25_method_40_code (2 : Nat) (Option.some Jvm.ClassFile.FieldType.int)) ∈ lw_all := lw_g (lw_at lw_m4 144 rfl) rfl
theorem q1069 : (Jvm.Cond.static ({ cls := "java/lang/Integer", name := "numberOfLeadingZeros", desc := "(I)I" } : Jvm.MethodName)) ∈ lw_all := lw_g (lw_at lw_m4 235 rfl) rfl
theorem q1070 : (Jvm.Cond.code ({ cls := "java/lang/Integer", name := "numberOfLeadingZeros", desc := "(I)I" } : Jvm.MethodName) prog_25_method_47_code (2 : Nat) (Option.some Jvm.ClassFile.FieldType.int)) ∈ lw_all := lw_g (lw_at lw_m4 236 rfl) rfl
theorem q1071 : (Jvm.Cond.constant "java/lang/Integer" (264 : Nat) (65536 : Int32)) ∈ lw_all := lw_g (lw_at lw_m4 237 rfl) rfl
theorem q1078 : (Jvm.Cond.static ({ cls := "java/lang/Integer", name := "numberOfTrailingZeros", desc := "(I)I" } : Jvm.MethodName)) ∈ lw_all := lw_g (lw_at lw_m5 4 rfl) rfl
theorem q1079 : (Jvm.Cond.code ({ cls := "java/lang/Integer", name := "numberOfTrailingZeros", desc := "(I)I" } : Jvm.MethodName) prog_25_method_48_code (2 : Nat) (Option.some Jvm.ClassFile.FieldType.int)) ∈ lw_all := lw_g (lw_at lw_m5 5 rfl) rfl
theorem q1432 : (Jvm.Cond.instanceMethod ({ cls := "java/lang/Integer", name := "intValue", desc := "()I" } : Jvm.MethodName)) ∈ lw_all := lw_g (lw_at lw_m6 118 rfl) rfl
theorem q1433 : (Jvm.Cond.selects "java/lang/Integer" ({ cls := "java/lang/Integer", name := "intValue", desc := "()I" } : Jvm.MethodName) ({ cls := "java/lang/Integer", name := "intValue", desc := "()I" } : Jvm.MethodName)) ∈ lw_all := lw_g (lw_at lw_m6 119 rfl) rfl
theorem q1434 : (Jvm.Cond.code ({ cls := "java/lang/Integer", name := "intValue", desc := "()I" } : Jvm.MethodName) prog_25_method_27_code (1 : Nat) (Option.some Jvm.ClassFile.FieldType.int)) ∈ lw_all := lw_g (lw_at lw_m6 120 rfl) rfl
theorem q1847 : (Jvm.Cond.selects "java/lang/Integer" ({ cls := "java/lang/Object", name := "equals", desc := "(Ljava/lang/Object;)Z" } : Jvm.MethodName) ({ cls := "java/lang/Integer", name := "equals", desc := "(Ljava/lang/Object;)Z" } : Jvm.MethodName)) ∈ lw_all := lw_g (lw_at lw_m8 53 rfl) rfl
theorem q1848 : (Jvm.Cond.instanceMethod ({ cls := "java/lang/Integer", name := "equals", desc := "(Ljava/lang/Object;)Z" } : Jvm.MethodName)) ∈ lw_all := lw_g (lw_at lw_m8 54 rfl) rfl
theorem q1849 : (Jvm.Cond.code ({ cls := "java/lang/Integer", name := "equals", desc := "(Ljava/lang/Object;)Z" } : Jvm.MethodName) prog_25_method_34_code (2 : Nat) (Option.some Jvm.ClassFile.FieldType.boolean)) ∈ lw_all := lw_g (lw_at lw_m8 55 rfl) rfl
theorem q1850 : (Jvm.Cond.methodLink "java/lang/Integer" (211 : Nat) ({ cls := "java/lang/Integer", name := "intValue", desc := "()I" } : Jvm.MethodName)) ∈ lw_all := lw_g (lw_at lw_m8 56 rfl) rfl
theorem q2495 : (Jvm.Cond.selects "java/lang/Integer" ({ cls := "java/lang/Object", name := "toString", desc := "()Ljava/lang/String;" } : Jvm.MethodName) ({ cls := "java/lang/Integer", name := "toString", desc := "()Ljava/lang/String;" } : Jvm.MethodName)) ∈ lw_all := lw_g (lw_at lw_m10 221 rfl) rfl
theorem q2496 : (Jvm.Cond.instanceMethod ({ cls := "java/lang/Integer", name := "toString", desc := "()Ljava/lang/String;" } : Jvm.MethodName)) ∈ lw_all := lw_g (lw_at lw_m10 222 rfl) rfl
theorem q2497 : (Jvm.Cond.code ({ cls := "java/lang/Integer", name := "toString", desc := "()Ljava/lang/String;" } : Jvm.MethodName) prog_25_method_31_code (1 : Nat) (Option.some (Jvm.ClassFile.FieldType.object "java/lang/String"))) ∈ lw_all := lw_g (lw_at lw_m10 223 rfl) rfl
theorem q2498 : (Jvm.Cond.methodLink "java/lang/Integer" (9 : Nat) ({ cls := "java/lang/Integer", name := "toString", desc := "(I)Ljava/lang/String;" } : Jvm.MethodName)) ∈ lw_all := lw_g (lw_at lw_m10 224 rfl) rfl
theorem q2499 : (Jvm.Cond.static ({ cls := "java/lang/Integer", name := "toString", desc := "(I)Ljava/lang/String;" } : Jvm.MethodName)) ∈ lw_all := lw_g (lw_at lw_m10 225 rfl) rfl
theorem q2500 : (Jvm.Cond.code ({ cls := "java/lang/Integer", name := "toString", desc := "(I)Ljava/lang/String;" } : Jvm.MethodName) prog_25_method_10_code (3 : Nat) (Option.some (Jvm.ClassFile.FieldType.object "java/lang/String"))) ∈ lw_all := lw_g (lw_at lw_m10 226 rfl) rfl
theorem q2501 : (Jvm.Cond.methodLink "java/lang/Integer" (72 : Nat) ({ cls := "java/lang/Integer", name := "stringSize", desc := "(I)I" } : Jvm.MethodName)) ∈ lw_all := lw_g (lw_at lw_m10 227 rfl) rfl
theorem q2502 : (Jvm.Cond.fieldLink "java/lang/Integer" (13 : Nat) "java/lang/String" "COMPACT_STRINGS" "Z") ∈ lw_all := lw_g (lw_at lw_m10 228 rfl) rfl
theorem q2503 : (Jvm.Cond.methodLink "java/lang/Integer" (75 : Nat) ({ cls := "java/lang/Integer", name := "getChars", desc := "(II[B)I" } : Jvm.MethodName)) ∈ lw_all := lw_g (lw_at lw_m10 229 rfl) rfl
theorem q2504 : (Jvm.Cond.classLink "java/lang/Integer" (5 : Nat) "java/lang/String") ∈ lw_all := lw_g (lw_at lw_m10 230 rfl) rfl
theorem q2505 : (Jvm.Cond.methodLink "java/lang/Integer" (65 : Nat) ({ cls := "java/lang/String", name := "<init>", desc := "([BB)V" } : Jvm.MethodName)) ∈ lw_all := lw_g (lw_at lw_m10 231 rfl) rfl
theorem q2508 : (Jvm.Cond.methodLink "java/lang/Integer" (79 : Nat) ({ cls := "java/lang/StringUTF16", name := "getChars", desc := "(II[B)I" } : Jvm.MethodName)) ∈ lw_all := lw_g (lw_at lw_m10 234 rfl) rfl
theorem q3252 : (Jvm.Cond.castable "java/lang/Integer" "java/lang/Object") ∈ lw_tbl := lw_at lw_m14 18 rfl
theorem in_J22 : ∀ w ∈ wsJ220, w ∈ lw_all := lw_in wsJ220 [942] (by decide +kernel) (by decide +kernel)

/-! java/lang/IllegalArgumentException -/
set_option maxRecDepth 100000
def RJ23 : String := "java/lang/IllegalArgumentException"
def TJ23 : u_T := fun k => match k with
  | 0 => ("java/lang/Throwable", "cause", "Ljava/lang/Throwable;", false)
  | 1 => ("java/lang/Throwable", "stackTrace", "[Ljava/lang/StackTraceElement;", false)
  | 2 => ("java/lang/Throwable", "suppressedExceptions", "Ljava/util/List;", false)
  | 3 => ("java/lang/Throwable", "detailMessage", "Ljava/lang/String;", false)
  | 4 => ("java/lang/Throwable", "backtrace", "Ljava/lang/Object;", false)
  | _ => ("java/lang/Throwable", "depth", "I", false)
def tyJ23 : Nat → FieldType := fun k => match k with
  | 0 => .object "java/lang/Throwable"
  | 1 => .array (.object "java/lang/StackTraceElement")
  | 2 => .object "java/util/List"
  | 3 => .object "java/lang/String"
  | 4 => .object "java/lang/Object"
  | _ => .int
abbrev wsJ230 : List Cond := u_ws RJ23 TJ23 6
theorem nmJ23 : ∀ a, a < 6 → ∀ b, b < 6 → a ≠ b → (TJ23 a).2.1 ≠ (TJ23 b).2.1 := by decide +kernel
theorem tyJ23_ok : ∀ k, k < 6 → parseFieldDescriptor (TJ23 k).2.2.1 = some (tyJ23 k) := by decide +kernel
abbrev cJ23_init : ByteArray := prog_22_method_2_code
def yJ23_init : MethodName := ⟨RJ23, "<init>", "(Ljava/lang/String;)V"⟩
def dkwJ23_init_0 : List UInt8 := [42, 43, 183, 0, 7, 177]
abbrev dktJ23_init_0 : List UInt8 := dkwJ23_init_0 ++ []
theorem dksJ23_init_0 : cJ23_init.data.toList.drop 0 = dktJ23_init_0 := by decide +kernel
theorem dJ23_init_0 : decode cJ23_init 0 = .ok (.aload_n 0, 1) := dk_42 (dk_at dksJ23_init_0 0 rfl rfl)
theorem dJ23_init_1 : decode cJ23_init 1 = .ok (.aload_n 1, 1) := dk_43 (dk_at dksJ23_init_0 1 rfl rfl)
theorem dJ23_init_2 : decode cJ23_init 2 = .ok (.invokespecial 7, 3) := dk_183 0 7 (dk_at dksJ23_init_0 2 rfl rfl)
theorem dJ23_init_5 : decode cJ23_init 5 = .ok (.return_, 1) := dk_177 (dk_at dksJ23_init_0 5 rfl rfl)
abbrev cJ23_init_2 : ByteArray := prog_22_method_1_code
def yJ23_init_2 : MethodName := ⟨RJ23, "<init>", "()V"⟩
theorem dJ23_init_2_0 : decode cJ23_init_2 0 = .ok (.aload_n 0, 1) := by decide +kernel
theorem dJ23_init_2_1 : decode cJ23_init_2 1 = .ok (.invokespecial 1, 3) := by decide +kernel
theorem dJ23_init_2_4 : decode cJ23_init_2 4 = .ok (.return_, 1) := by decide +kernel
theorem q142 : (Jvm.Cond.initialized "java/lang/IllegalArgumentException") ∈ lw_all := lw_g (lw_at lw_m1 28 rfl) rfl
theorem q350 : (Jvm.Cond.selects "java/lang/IllegalArgumentException" ({ cls := "java/lang/Throwable", name := "fillInStackTrace", desc := "()Ljava/lang/Throwable;" } : Jvm.MethodName) ({ cls := "java/lang/Throwable", name := "fillInStackTrace", desc := "()Ljava/lang/Throwable;" } : Jvm.MethodName)) ∈ lw_all := lw_g (lw_at lw_m1 236 rfl) rfl
theorem q645 : (Jvm.Cond.instantiable "java/lang/IllegalArgumentException" (6 : Nat)) ∈ lw_all := lw_g (lw_at lw_m3 51 rfl) rfl
theorem q646 : (Jvm.Cond.castable "java/lang/IllegalArgumentException" "java/lang/IllegalArgumentException") ∈ lw_tbl := lw_at lw_m3 52 rfl
theorem q647 : (Jvm.Cond.selects "java/lang/IllegalArgumentException" ({ cls := "java/lang/Throwable", name := "fillInStackTrace", desc := "(I)Ljava/lang/Throwable;" } : Jvm.MethodName) ({ cls := "java/lang/Throwable", name := "fillInStackTrace", desc := "(I)Ljava/lang/Throwable;" } : Jvm.MethodName)) ∈ lw_all := lw_g (lw_at lw_m3 53 rfl) rfl
theorem q648 : (Jvm.Cond.lays "java/lang/IllegalArgumentException" "java/lang/Throwable" "cause" "Ljava/lang/Throwable;") ∈ lw_all := lw_g (lw_at lw_m3 54 rfl) rfl
theorem q649 : (Jvm.Cond.lays "java/lang/IllegalArgumentException" "java/lang/Throwable" "stackTrace" "[Ljava/lang/StackTraceElement;") ∈ lw_all := lw_g (lw_at lw_m3 55 rfl) rfl
theorem q650 : (Jvm.Cond.lays "java/lang/IllegalArgumentException" "java/lang/Throwable" "suppressedExceptions" "Ljava/util/List;") ∈ lw_all := lw_g (lw_at lw_m3 56 rfl) rfl
theorem q651 : (Jvm.Cond.lays "java/lang/IllegalArgumentException" "java/lang/Throwable" "detailMessage" "Ljava/lang/String;") ∈ lw_all := lw_g (lw_at lw_m3 57 rfl) rfl
theorem q652 : (Jvm.Cond.lays "java/lang/IllegalArgumentException" "java/lang/Throwable" "backtrace" "Ljava/lang/Object;") ∈ lw_all := lw_g (lw_at lw_m3 58 rfl) rfl
theorem q660 : (Jvm.Cond.instanceMethod ({ cls := "java/lang/IllegalArgumentException", name := "<init>", desc := "(Ljava/lang/String;)V" } : Jvm.MethodName)) ∈ lw_all := lw_g (lw_at lw_m3 66 rfl) rfl
theorem q661 : (Jvm.Cond.code ({ cls := "java/lang/IllegalArgumentException", name := "<init>", desc := "(Ljava/lang/String;)V" } : Jvm.MethodName) prog_22_method_2_code (2 : Nat) (Option.none : Option Jvm.ClassFile.FieldType)) ∈ lw_all := lw_g (lw_at lw_m3 67 rfl) rfl
theorem q662 : (Jvm.Cond.methodLink "java/lang/IllegalArgumentException" (7 : Nat) ({ cls := "java/lang/RuntimeException", name := "<init>", desc := "(Ljava/lang/String;)V" } : Jvm.MethodName)) ∈ lw_all := lw_g (lw_at lw_m3 68 rfl) rfl
theorem q671 : (Jvm.Cond.lays "java/lang/IllegalArgumentException" "java/lang/Throwable" "depth" "I") ∈ lw_all := lw_g (lw_at lw_m3 77 rfl) rfl
theorem q672 : (Jvm.Cond.superclass "java/lang/IllegalArgumentException" "java/lang/RuntimeException") ∈ lw_all := lw_g (lw_at lw_m3 78 rfl) rfl
theorem q753 : (Jvm.Cond.selects "java/lang/IllegalArgumentException" ({ cls := "java/lang/Object", name := "getClass", desc := "()Ljava/lang/Class;" } : Jvm.MethodName) ({ cls := "java/lang/Object", name := "getClass", desc := "()Ljava/lang/Class;" } : Jvm.MethodName)) ∈ lw_all := lw_g (lw_at lw_m3 159 rfl) rfl
theorem q1685 : (Jvm.Cond.instanceMethod ({ cls := "java/lang/IllegalArgumentException", name := "<init>", desc := "()V" } : Jvm.MethodName)) ∈ lw_all := lw_g (lw_at lw_m7 131 rfl) rfl
theorem q1686 : (Jvm.Cond.code ({ cls := "java/lang/IllegalArgumentException", name := "<init>", desc := "()V" } : Jvm.MethodName) prog_22_method_1_code (1 : Nat) (Option.none : Option Jvm.ClassFile.FieldType)) ∈ lw_all := lw_g (lw_at lw_m7 132 rfl) rfl
theorem q1687 : (Jvm.Cond.methodLink "java/lang/IllegalArgumentException" (1 : Nat) ({ cls := "java/lang/RuntimeException", name := "<init>", desc := "()V" } : Jvm.MethodName)) ∈ lw_all := lw_g (lw_at lw_m7 133 rfl) rfl
theorem q1844 : (Jvm.Cond.selects "java/lang/IllegalArgumentException" ({ cls := "java/lang/Object", name := "equals", desc := "(Ljava/lang/Object;)Z" } : Jvm.MethodName) ({ cls := "java/lang/Object", name := "equals", desc := "(Ljava/lang/Object;)Z" } : Jvm.MethodName)) ∈ lw_all := lw_g (lw_at lw_m8 50 rfl) rfl
theorem q2467 : (Jvm.Cond.selects "java/lang/IllegalArgumentException" ({ cls := "java/lang/Throwable", name := "getLocalizedMessage", desc := "()Ljava/lang/String;" } : Jvm.MethodName) ({ cls := "java/lang/Throwable", name := "getLocalizedMessage", desc := "()Ljava/lang/String;" } : Jvm.MethodName)) ∈ lw_all := lw_g (lw_at lw_m10 193 rfl) rfl
theorem q2479 : (Jvm.Cond.selects "java/lang/IllegalArgumentException" ({ cls := "java/lang/Throwable", name := "getMessage", desc := "()Ljava/lang/String;" } : Jvm.MethodName) ({ cls := "java/lang/Throwable", name := "getMessage", desc := "()Ljava/lang/String;" } : Jvm.MethodName)) ∈ lw_all := lw_g (lw_at lw_m10 205 rfl) rfl
theorem q2492 : (Jvm.Cond.selects "java/lang/IllegalArgumentException" ({ cls := "java/lang/Object", name := "toString", desc := "()Ljava/lang/String;" } : Jvm.MethodName) ({ cls := "java/lang/Throwable", name := "toString", desc := "()Ljava/lang/String;" } : Jvm.MethodName)) ∈ lw_all := lw_g (lw_at lw_m10 218 rfl) rfl
theorem q3247 : (Jvm.Cond.castable "java/lang/IllegalArgumentException" "java/lang/Object") ∈ lw_tbl := lw_at lw_m14 13 rfl
theorem in_J23 : ∀ w ∈ wsJ230, w ∈ lw_all := lw_in wsJ230 [648, 649, 650, 651, 652, 671] (by decide +kernel) (by decide +kernel)

/-! java/lang/UnsupportedOperationException -/
set_option maxRecDepth 100000
def RJ24 : String := "java/lang/UnsupportedOperationException"
def TJ24 : u_T := fun k => match k with
  | 0 => ("java/lang/Throwable", "cause", "Ljava/lang/Throwable;", false)
  | 1 => ("java/lang/Throwable", "stackTrace", "[Ljava/lang/StackTraceElement;", false)
  | 2 => ("java/lang/Throwable", "suppressedExceptions", "Ljava/util/List;", false)
  | 3 => ("java/lang/Throwable", "detailMessage", "Ljava/lang/String;", false)
  | 4 => ("java/lang/Throwable", "backtrace", "Ljava/lang/Object;", false)
  | _ => ("java/lang/Throwable", "depth", "I", false)
def tyJ24 : Nat → FieldType := fun k => match k with
  | 0 => .object "java/lang/Throwable"
  | 1 => .array (.object "java/lang/StackTraceElement")
  | 2 => .object "java/util/List"
  | 3 => .object "java/lang/String"
  | 4 => .object "java/lang/Object"
  | _ => .int
abbrev wsJ240 : List Cond := u_ws RJ24 TJ24 6
theorem nmJ24 : ∀ a, a < 6 → ∀ b, b < 6 → a ≠ b → (TJ24 a).2.1 ≠ (TJ24 b).2.1 := by decide +kernel
theorem tyJ24_ok : ∀ k, k < 6 → parseFieldDescriptor (TJ24 k).2.2.1 = some (tyJ24 k) := by decide +kernel
abbrev cJ24_init : ByteArray := prog_39_method_1_code
def yJ24_init : MethodName := ⟨RJ24, "<init>", "()V"⟩
theorem dJ24_init_0 : decode cJ24_init 0 = .ok (.aload_n 0, 1) := by decide +kernel
theorem dJ24_init_1 : decode cJ24_init 1 = .ok (.invokespecial 1, 3) := by decide +kernel
theorem dJ24_init_4 : decode cJ24_init 4 = .ok (.return_, 1) := by decide +kernel
theorem q143 : (Jvm.Cond.initialized "java/lang/UnsupportedOperationException") ∈ lw_all := lw_g (lw_at lw_m1 29 rfl) rfl
theorem q354 : (Jvm.Cond.selects "java/lang/UnsupportedOperationException" ({ cls := "java/lang/Throwable", name := "fillInStackTrace", desc := "()Ljava/lang/Throwable;" } : Jvm.MethodName) ({ cls := "java/lang/Throwable", name := "fillInStackTrace", desc := "()Ljava/lang/Throwable;" } : Jvm.MethodName)) ∈ lw_all := lw_g (lw_at lw_m2 0 rfl) rfl
theorem q760 : (Jvm.Cond.selects "java/lang/UnsupportedOperationException" ({ cls := "java/lang/Object", name := "getClass", desc := "()Ljava/lang/Class;" } : Jvm.MethodName) ({ cls := "java/lang/Object", name := "getClass", desc := "()Ljava/lang/Class;" } : Jvm.MethodName)) ∈ lw_all := lw_g (lw_at lw_m3 166 rfl) rfl
theorem q787 : (Jvm.Cond.instantiable "java/lang/UnsupportedOperationException" (6 : Nat)) ∈ lw_all := lw_g (lw_at lw_m3 193 rfl) rfl
theorem q788 : (Jvm.Cond.castable "java/lang/UnsupportedOperationException" "java/lang/UnsupportedOperationException") ∈ lw_tbl := lw_at lw_m3 194 rfl
theorem q789 : (Jvm.Cond.selects "java/lang/UnsupportedOperationException" ({ cls := "java/lang/Throwable", name := "fillInStackTrace", desc := "(I)Ljava/lang/Throwable;" } : Jvm.MethodName) ({ cls := "java/lang/Throwable", name := "fillInStackTrace", desc := "(I)Ljava/lang/Throwable;" } : Jvm.MethodName)) ∈ lw_all := lw_g (lw_at lw_m3 195 rfl) rfl
theorem q790 : (Jvm.Cond.lays "java/lang/UnsupportedOperationException" "java/lang/Throwable" "cause" "Ljava/lang/Throwable;") ∈ lw_all := lw_g (lw_at lw_m3 196 rfl) rfl
theorem q791 : (Jvm.Cond.lays "java/lang/UnsupportedOperationException" "java/lang/Throwable" "stackTrace" "[Ljava/lang/StackTraceElement;") ∈ lw_all := lw_g (lw_at lw_m3 197 rfl) rfl
theorem q792 : (Jvm.Cond.lays "java/lang/UnsupportedOperationException" "java/lang/Throwable" "suppressedExceptions" "Ljava/util/List;") ∈ lw_all := lw_g (lw_at lw_m3 198 rfl) rfl
theorem q793 : (Jvm.Cond.lays "java/lang/UnsupportedOperationException" "java/lang/Throwable" "detailMessage" "Ljava/lang/String;") ∈ lw_all := lw_g (lw_at lw_m3 199 rfl) rfl
theorem q794 : (Jvm.Cond.lays "java/lang/UnsupportedOperationException" "java/lang/Throwable" "backtrace" "Ljava/lang/Object;") ∈ lw_all := lw_g (lw_at lw_m3 200 rfl) rfl
theorem q796 : (Jvm.Cond.instanceMethod ({ cls := "java/lang/UnsupportedOperationException", name := "<init>", desc := "()V" } : Jvm.MethodName)) ∈ lw_all := lw_g (lw_at lw_m3 202 rfl) rfl
theorem q797 : (Jvm.Cond.code ({ cls := "java/lang/UnsupportedOperationException", name := "<init>", desc := "()V" } : Jvm.MethodName) prog_39_method_1_code (1 : Nat) (Option.none : Option Jvm.ClassFile.FieldType)) ∈ lw_all := lw_g (lw_at lw_m3 203 rfl) rfl
theorem q798 : (Jvm.Cond.methodLink "java/lang/UnsupportedOperationException" (1 : Nat) ({ cls := "java/lang/RuntimeException", name := "<init>", desc := "()V" } : Jvm.MethodName)) ∈ lw_all := lw_g (lw_at lw_m3 204 rfl) rfl
theorem q799 : (Jvm.Cond.lays "java/lang/UnsupportedOperationException" "java/lang/Throwable" "depth" "I") ∈ lw_all := lw_g (lw_at lw_m3 205 rfl) rfl
theorem q800 : (Jvm.Cond.superclass "java/lang/UnsupportedOperationException" "java/lang/RuntimeException") ∈ lw_all := lw_g (lw_at lw_m3 206 rfl) rfl
theorem q1859 : (Jvm.Cond.selects "java/lang/UnsupportedOperationException" ({ cls := "java/lang/Object", name := "equals", desc := "(Ljava/lang/Object;)Z" } : Jvm.MethodName) ({ cls := "java/lang/Object", name := "equals", desc := "(Ljava/lang/Object;)Z" } : Jvm.MethodName)) ∈ lw_all := lw_g (lw_at lw_m8 65 rfl) rfl
theorem q2471 : (Jvm.Cond.selects "java/lang/UnsupportedOperationException" ({ cls := "java/lang/Throwable", name := "getLocalizedMessage", desc := "()Ljava/lang/String;" } : Jvm.MethodName) ({ cls := "java/lang/Throwable", name := "getLocalizedMessage", desc := "()Ljava/lang/String;" } : Jvm.MethodName)) ∈ lw_all := lw_g (lw_at lw_m10 197 rfl) rfl
theorem q2483 : (Jvm.Cond.selects "java/lang/UnsupportedOperationException" ({ cls := "java/lang/Throwable", name := "getMessage", desc := "()Ljava/lang/String;" } : Jvm.MethodName) ({ cls := "java/lang/Throwable", name := "getMessage", desc := "()Ljava/lang/String;" } : Jvm.MethodName)) ∈ lw_all := lw_g (lw_at lw_m10 209 rfl) rfl
theorem q2514 : (Jvm.Cond.selects "java/lang/UnsupportedOperationException" ({ cls := "java/lang/Object", name := "toString", desc := "()Ljava/lang/String;" } : Jvm.MethodName) ({ cls := "java/lang/Throwable", name := "toString", desc := "()Ljava/lang/String;" } : Jvm.MethodName)) ∈ lw_all := lw_g (lw_at lw_m11 0 rfl) rfl
theorem q3254 : (Jvm.Cond.castable "java/lang/UnsupportedOperationException" "java/lang/Object") ∈ lw_tbl := lw_at lw_m14 20 rfl
theorem in_J24 : ∀ w ∈ wsJ240, w ∈ lw_all := lw_in wsJ240 [790, 791, 792, 793, 794, 799] (by decide +kernel) (by decide +kernel)

/-! java/util/ArrayDeque -/
set_option maxRecDepth 100000
def RJ25 : String := "java/util/ArrayDeque"
def TJ25 : u_T := fun k => match k with
  | 0 => ("java/util/ArrayDeque", "elements", "[Ljava/lang/Object;", false)
  | 1 => ("java/util/ArrayDeque", "head", "I", false)
  | _ => ("java/util/ArrayDeque", "tail", "I", false)
def tyJ25 : Nat → FieldType := fun k => match k with
  | 0 => .array (.object "java/lang/Object")
  | 1 => .int
  | _ => .int
abbrev wsJ250 : List Cond := u_ws RJ25 TJ25 3
theorem nmJ25 : ∀ a, a < 3 → ∀ b, b < 3 → a ≠ b → (TJ25 a).2.1 ≠ (TJ25 b).2.1 := by decide +kernel
theorem tyJ25_ok : ∀ k, k < 3 → parseFieldDescriptor (TJ25 k).2.2.1 = some (tyJ25 k) := by decide +kernel
abbrev cJ25_init : ByteArray := prog_44_method_3_code
def yJ25_init : MethodName := ⟨RJ25, "<init>", "()V"⟩
def dkwJ25_init_0 : List UInt8 := [42, 183, 0, 42, 42, 16, 17, 189, 0, 47, 181, 0, 3, 177]
abbrev dktJ25_init_0 : List UInt8 := dkwJ25_init_0 ++ []
theorem dksJ25_init_0 : cJ25_init.data.toList.drop 0 = dktJ25_init_0 := by decide +kernel
theorem dJ25_init_0 : decode cJ25_init 0 = .ok (.aload_n 0, 1) := dk_42 (dk_at dksJ25_init_0 0 rfl rfl)
theorem dJ25_init_1 : decode cJ25_init 1 = .ok (.invokespecial 42, 3) := dk_183 0 42 (dk_at dksJ25_init_0 1 rfl rfl)
theorem dJ25_init_4 : decode cJ25_init 4 = .ok (.aload_n 0, 1) := dk_42 (dk_at dksJ25_init_0 4 rfl rfl)
theorem dJ25_init_5 : decode cJ25_init 5 = .ok (.bipush 17, 2) := dk_16 17 (dk_at dksJ25_init_0 5 rfl rfl)
theorem dJ25_init_7 : decode cJ25_init 7 = .ok (.anewarray 47, 3) := dk_189 0 47 (dk_at dksJ25_init_0 7 rfl rfl)
theorem dJ25_init_10 : decode cJ25_init 10 = .ok (.putfield 3, 3) := dk_181 0 3 (dk_at dksJ25_init_0 10 rfl rfl)
theorem dJ25_init_13 : decode cJ25_init 13 = .ok (.return_, 1) := dk_177 (dk_at dksJ25_init_0 13 rfl rfl)
abbrev cJ25_size : ByteArray := prog_44_method_37_code
def yJ25_size : MethodName := ⟨RJ25, "size", "()I"⟩
def dkwJ25_size_0 : List UInt8 := [42, 180, 0, 20, 42, 180, 0, 24, 42, 180, 0, 3, 190, 184, 0, 127, 172]
abbrev dktJ25_size_0 : List UInt8 := dkwJ25_size_0 ++ []
theorem dksJ25_size_0 : cJ25_size.data.toList.drop 0 = dktJ25_size_0 := by decide +kernel
theorem dJ25_size_0 : decode cJ25_size 0 = .ok (.aload_n 0, 1) := dk_42 (dk_at dksJ25_size_0 0 rfl rfl)
theorem dJ25_size_1 : decode cJ25_size 1 = .ok (.getfield 20, 3) := dk_180 0 20 (dk_at dksJ25_size_0 1 rfl rfl)
theorem dJ25_size_4 : decode cJ25_size 4 = .ok (.aload_n 0, 1) := dk_42 (dk_at dksJ25_size_0 4 rfl rfl)
theorem dJ25_size_5 : decode cJ25_size 5 = .ok (.getfield 24, 3) := dk_180 0 24 (dk_at dksJ25_size_0 5 rfl rfl)
theorem dJ25_size_8 : decode cJ25_size 8 = .ok (.aload_n 0, 1) := dk_42 (dk_at dksJ25_size_0 8 rfl rfl)
theorem dJ25_size_9 : decode cJ25_size 9 = .ok (.getfield 3, 3) := dk_180 0 3 (dk_at dksJ25_size_0 9 rfl rfl)
theorem dJ25_size_12 : decode cJ25_size 12 = .ok (.arraylength, 1) := dk_190 (dk_at dksJ25_size_0 12 rfl rfl)
theorem dJ25_size_13 : decode cJ25_size 13 = .ok (.invokestatic 127, 3) := dk_184 0 127 (dk_at dksJ25_size_0 13 rfl rfl)
theorem dJ25_size_16 : decode cJ25_size 16 = .ok (.ireturn, 1) := dk_172 (dk_at dksJ25_size_0 16 rfl rfl)
abbrev cJ25_sub : ByteArray := prog_44_method_9_code
def yJ25_sub : MethodName := ⟨RJ25, "sub", "(III)I"⟩
def dkwJ25_sub_0 : List UInt8 := [26, 27, 100, 89, 59, 156, 0, 7, 26, 28, 96, 59, 26, 172]
abbrev dktJ25_sub_0 : List UInt8 := dkwJ25_sub_0 ++ []
theorem dksJ25_sub_0 : cJ25_sub.data.toList.drop 0 = dktJ25_sub_0 := by decide +kernel
theorem dJ25_sub_0 : decode cJ25_sub 0 = .ok (.iload_n 0, 1) := dk_26 (dk_at dksJ25_sub_0 0 rfl rfl)
theorem dJ25_sub_1 : decode cJ25_sub 1 = .ok (.iload_n 1, 1) := dk_27 (dk_at dksJ25_sub_0 1 rfl rfl)
theorem dJ25_sub_2 : decode cJ25_sub 2 = .ok (.isub, 1) := dk_100 (dk_at dksJ25_sub_0 2 rfl rfl)
theorem dJ25_sub_3 : decode cJ25_sub 3 = .ok (.dup, 1) := dk_89 (dk_at dksJ25_sub_0 3 rfl rfl)
theorem dJ25_sub_4 : decode cJ25_sub 4 = .ok (.istore_n 0, 1) := dk_59 (dk_at dksJ25_sub_0 4 rfl rfl)
theorem dJ25_sub_5 : decode cJ25_sub 5 = .ok (.ifCond .ge 7, 3) := dk_156 0 7 (dk_at dksJ25_sub_0 5 rfl rfl)
theorem dJ25_sub_8 : decode cJ25_sub 8 = .ok (.iload_n 0, 1) := dk_26 (dk_at dksJ25_sub_0 8 rfl rfl)
theorem dJ25_sub_9 : decode cJ25_sub 9 = .ok (.iload_n 2, 1) := dk_28 (dk_at dksJ25_sub_0 9 rfl rfl)
theorem dJ25_sub_10 : decode cJ25_sub 10 = .ok (.iadd, 1) := dk_96 (dk_at dksJ25_sub_0 10 rfl rfl)
theorem dJ25_sub_11 : decode cJ25_sub 11 = .ok (.istore_n 0, 1) := dk_59 (dk_at dksJ25_sub_0 11 rfl rfl)
theorem dJ25_sub_12 : decode cJ25_sub 12 = .ok (.iload_n 0, 1) := dk_26 (dk_at dksJ25_sub_0 12 rfl rfl)
theorem dJ25_sub_13 : decode cJ25_sub 13 = .ok (.ireturn, 1) := dk_172 (dk_at dksJ25_sub_0 13 rfl rfl)
abbrev cJ25_addLast : ByteArray := prog_44_method_13_code
def yJ25_addLast : MethodName := ⟨RJ25, "addLast", "(Ljava/lang/Object;)V"⟩
def dkwJ25_addLast_2 : List UInt8 := [182, 0, 71, 177]
abbrev dktJ25_addLast_2 : List UInt8 := dkwJ25_addLast_2 ++ []
def dkwJ25_addLast_1 : List UInt8 := [42, 180, 0, 24, 42, 42, 180, 0, 20, 44, 190, 184, 0, 74, 90, 181, 0, 20, 160, 0, 8, 42, 4]
abbrev dktJ25_addLast_1 : List UInt8 := dkwJ25_addLast_1 ++ dktJ25_addLast_2
def dkwJ25_addLast_0 : List UInt8 := [43, 199, 0, 11, 187, 0, 65, 89, 183, 0, 67, 191, 42, 180, 0, 3, 77, 44, 42, 180, 0, 20, 43, 83]
abbrev dktJ25_addLast_0 : List UInt8 := dkwJ25_addLast_0 ++ dktJ25_addLast_1
theorem dksJ25_addLast_0 : cJ25_addLast.data.toList.drop 0 = dktJ25_addLast_0 := by decide +kernel
theorem dksJ25_addLast_1 : cJ25_addLast.data.toList.drop 24 = dktJ25_addLast_1 := dk_seg dksJ25_addLast_0 24 rfl rfl
theorem dksJ25_addLast_2 : cJ25_addLast.data.toList.drop 47 = dktJ25_addLast_2 := dk_seg dksJ25_addLast_1 23 rfl rfl
theorem dJ25_addLast_0 : decode cJ25_addLast 0 = .ok (.aload_n 1, 1) := dk_43 (dk_at dksJ25_addLast_0 0 rfl rfl)
theorem dJ25_addLast_1 : decode cJ25_addLast 1 = .ok (.ifnonnull 11, 3) := dk_199 0 11 (dk_at dksJ25_addLast_0 1 rfl rfl)
theorem dJ25_addLast_4 : decode cJ25_addLast 4 = .ok (.new 65, 3) := dk_187 0 65 (dk_at dksJ25_addLast_0 4 rfl rfl)
theorem dJ25_addLast_7 : decode cJ25_addLast 7 = .ok (.dup, 1) := dk_89 (dk_at dksJ25_addLast_0 7 rfl rfl)
theorem dJ25_addLast_8 : decode cJ25_addLast 8 = .ok (.invokespecial 67, 3) := dk_183 0 67 (dk_at dksJ25_addLast_0 8 rfl rfl)
theorem dJ25_addLast_11 : decode cJ25_addLast 11 = .ok (.athrow, 1) := dk_191 (dk_at dksJ25_addLast_0 11 rfl rfl)
theorem dJ25_addLast_12 : decode cJ25_addLast 12 = .ok (.aload_n 0, 1) := dk_42 (dk_at dksJ25_addLast_0 12 rfl rfl)
theorem dJ25_addLast_13 : decode cJ25_addLast 13 = .ok (.getfield 3, 3) := dk_180 0 3 (dk_at dksJ25_addLast_0 13 rfl rfl)
theorem dJ25_addLast_16 : decode cJ25_addLast 16 = .ok (.astore_n 2, 1) := dk_77 (dk_at dksJ25_addLast_0 16 rfl rfl)
theorem dJ25_addLast_17 : decode cJ25_addLast 17 = .ok (.aload_n 2, 1) := dk_44 (dk_at dksJ25_addLast_0 17 rfl rfl)
theorem dJ25_addLast_18 : decode cJ25_addLast 18 = .ok (.aload_n 0, 1) := dk_42 (dk_at dksJ25_addLast_0 18 rfl rfl)
theorem dJ25_addLast_19 : decode cJ25_addLast 19 = .ok (.getfield 20, 3) := dk_180 0 20 (dk_at dksJ25_addLast_0 19 rfl rfl)
theorem dJ25_addLast_22 : decode cJ25_addLast 22 = .ok (.aload_n 1, 1) := dk_43 (dk_at dksJ25_addLast_0 22 rfl rfl)
theorem dJ25_addLast_23 : decode cJ25_addLast 23 = .ok (.aastore, 1) := dk_83 (dk_at dksJ25_addLast_0 23 rfl rfl)
theorem dJ25_addLast_24 : decode cJ25_addLast 24 = .ok (.aload_n 0, 1) := dk_42 (dk_at dksJ25_addLast_1 0 rfl rfl)
theorem dJ25_addLast_25 : decode cJ25_addLast 25 = .ok (.getfield 24, 3) := dk_180 0 24 (dk_at dksJ25_addLast_1 1 rfl rfl)
theorem dJ25_addLast_28 : decode cJ25_addLast 28 = .ok (.aload_n 0, 1) := dk_42 (dk_at dksJ25_addLast_1 4 rfl rfl)
theorem dJ25_addLast_29 : decode cJ25_addLast 29 = .ok (.aload_n 0, 1) := dk_42 (dk_at dksJ25_addLast_1 5 rfl rfl)
theorem dJ25_addLast_30 : decode cJ25_addLast 30 = .ok (.getfield 20, 3) := dk_180 0 20 (dk_at dksJ25_addLast_1 6 rfl rfl)
theorem dJ25_addLast_33 : decode cJ25_addLast 33 = .ok (.aload_n 2, 1) := dk_44 (dk_at dksJ25_addLast_1 9 rfl rfl)
theorem dJ25_addLast_34 : decode cJ25_addLast 34 = .ok (.arraylength, 1) := dk_190 (dk_at dksJ25_addLast_1 10 rfl rfl)
theorem dJ25_addLast_35 : decode cJ25_addLast 35 = .ok (.invokestatic 74, 3) := dk_184 0 74 (dk_at dksJ25_addLast_1 11 rfl rfl)
theorem dJ25_addLast_38 : decode cJ25_addLast 38 = .ok (.dup_x1, 1) := dk_90 (dk_at dksJ25_addLast_1 14 rfl rfl)
theorem dJ25_addLast_39 : decode cJ25_addLast 39 = .ok (.putfield 20, 3) := dk_181 0 20 (dk_at dksJ25_addLast_1 15 rfl rfl)
theorem dJ25_addLast_42 : decode cJ25_addLast 42 = .ok (.if_icmp .ne 8, 3) := dk_160 0 8 (dk_at dksJ25_addLast_1 18 rfl rfl)
theorem dJ25_addLast_45 : decode cJ25_addLast 45 = .ok (.aload_n 0, 1) := dk_42 (dk_at dksJ25_addLast_1 21 rfl rfl)
theorem dJ25_addLast_46 : decode cJ25_addLast 46 = .ok (.iconst 1, 1) := dk_4 (dk_at dksJ25_addLast_1 22 rfl rfl)
theorem dJ25_addLast_47 : decode cJ25_addLast 47 = .ok (.invokevirtual 71, 3) := dk_182 0 71 (dk_at dksJ25_addLast_2 0 rfl rfl)
theorem dJ25_addLast_50 : decode cJ25_addLast 50 = .ok (.return_, 1) := dk_177 (dk_at dksJ25_addLast_2 3 rfl rfl)
abbrev cJ25_inc : ByteArray := prog_44_method_6_code
def yJ25_inc : MethodName := ⟨RJ25, "inc", "(II)I"⟩
def dkwJ25_inc_0 : List UInt8 := [132, 0, 1, 26, 27, 161, 0, 5, 3, 59, 26, 172]
abbrev dktJ25_inc_0 : List UInt8 := dkwJ25_inc_0 ++ []
theorem dksJ25_inc_0 : cJ25_inc.data.toList.drop 0 = dktJ25_inc_0 := by decide +kernel
theorem dJ25_inc_0 : decode cJ25_inc 0 = .ok (.iinc 0 1, 3) := dk_132 0 1 (dk_at dksJ25_inc_0 0 rfl rfl)
theorem dJ25_inc_3 : decode cJ25_inc 3 = .ok (.iload_n 0, 1) := dk_26 (dk_at dksJ25_inc_0 3 rfl rfl)
theorem dJ25_inc_4 : decode cJ25_inc 4 = .ok (.iload_n 1, 1) := dk_27 (dk_at dksJ25_inc_0 4 rfl rfl)
theorem dJ25_inc_5 : decode cJ25_inc 5 = .ok (.if_icmp .lt 5, 3) := dk_161 0 5 (dk_at dksJ25_inc_0 5 rfl rfl)
theorem dJ25_inc_8 : decode cJ25_inc 8 = .ok (.iconst 0, 1) := dk_3 (dk_at dksJ25_inc_0 8 rfl rfl)
theorem dJ25_inc_9 : decode cJ25_inc 9 = .ok (.istore_n 0, 1) := dk_59 (dk_at dksJ25_inc_0 9 rfl rfl)
theorem dJ25_inc_10 : decode cJ25_inc 10 = .ok (.iload_n 0, 1) := dk_26 (dk_at dksJ25_inc_0 10 rfl rfl)
theorem dJ25_inc_11 : decode cJ25_inc 11 = .ok (.ireturn, 1) := dk_172 (dk_at dksJ25_inc_0 11 rfl rfl)
abbrev cJ25_grow : ByteArray := prog_44_method_1_code
def yJ25_grow : MethodName := ⟨RJ25, "grow", "(I)V"⟩
def dkwJ25_grow_7 : List UInt8 := [177]
abbrev dktJ25_grow_7 : List UInt8 := dkwJ25_grow_7 ++ []
def dkwJ25_grow_6 : List UInt8 := [181, 0, 24, 54, 8, 21, 7, 21, 8, 162, 0, 15, 25, 5, 21, 7, 1, 83, 132, 7, 1, 167, 255, 240]
abbrev dktJ25_grow_6 : List UInt8 := dkwJ25_grow_6 ++ dktJ25_grow_7
def dkwJ25_grow_5 : List UInt8 := [42, 180, 0, 24, 100, 184, 0, 27, 42, 180, 0, 24, 54, 7, 42, 89, 180, 0, 24, 21, 6, 96, 90]
abbrev dktJ25_grow_5 : List UInt8 := dkwJ25_grow_5 ++ dktJ25_grow_6
def dkwJ25_grow_4 : List UInt8 := [198, 0, 71, 29, 28, 100, 54, 6, 25, 5, 42, 180, 0, 24, 25, 5, 42, 180, 0, 24, 21, 6, 96, 28]
abbrev dktJ25_grow_4 : List UInt8 := dkwJ25_grow_4 ++ dktJ25_grow_5
def dkwJ25_grow_3 : List UInt8 := [180, 0, 24, 161, 0, 24, 42, 180, 0, 20, 42, 180, 0, 24, 160, 0, 81, 25, 5, 42, 180, 0, 24, 50]
abbrev dktJ25_grow_3 : List UInt8 := dkwJ25_grow_3 ++ dktJ25_grow_4
def dkwJ25_grow_2 : List UInt8 := [182, 0, 10, 62, 42, 42, 180, 0, 3, 29, 184, 0, 14, 90, 181, 0, 3, 58, 5, 42, 180, 0, 20, 42]
abbrev dktJ25_grow_2 : List UInt8 := dkwJ25_grow_2 ++ dktJ25_grow_3
def dkwJ25_grow_1 : List UInt8 := [21, 4, 27, 161, 0, 15, 28, 21, 4, 96, 89, 62, 18, 9, 100, 158, 0, 11, 42, 27, 21, 4]
abbrev dktJ25_grow_1 : List UInt8 := dkwJ25_grow_1 ++ dktJ25_grow_2
def dkwJ25_grow_0 : List UInt8 := [42, 180, 0, 3, 190, 61, 28, 16, 64, 162, 0, 9, 28, 5, 96, 167, 0, 6, 28, 4, 122, 54, 4]
abbrev dktJ25_grow_0 : List UInt8 := dkwJ25_grow_0 ++ dktJ25_grow_1
theorem dksJ25_grow_0 : cJ25_grow.data.toList.drop 0 = dktJ25_grow_0 := by decide +kernel
theorem dksJ25_grow_1 : cJ25_grow.data.toList.drop 23 = dktJ25_grow_1 := dk_seg dksJ25_grow_0 23 rfl rfl
theorem dksJ25_grow_2 : cJ25_grow.data.toList.drop 45 = dktJ25_grow_2 := dk_seg dksJ25_grow_1 22 rfl rfl
theorem dksJ25_grow_3 : cJ25_grow.data.toList.drop 69 = dktJ25_grow_3 := dk_seg dksJ25_grow_2 24 rfl rfl
theorem dksJ25_grow_4 : cJ25_grow.data.toList.drop 93 = dktJ25_grow_4 := dk_seg dksJ25_grow_3 24 rfl rfl
theorem dksJ25_grow_5 : cJ25_grow.data.toList.drop 117 = dktJ25_grow_5 := dk_seg dksJ25_grow_4 24 rfl rfl
theorem dksJ25_grow_6 : cJ25_grow.data.toList.drop 140 = dktJ25_grow_6 := dk_seg dksJ25_grow_5 23 rfl rfl
theorem dksJ25_grow_7 : cJ25_grow.data.toList.drop 164 = dktJ25_grow_7 := dk_seg dksJ25_grow_6 24 rfl rfl
theorem dJ25_grow_0 : decode cJ25_grow 0 = .ok (.aload_n 0, 1) := dk_42 (dk_at dksJ25_grow_0 0 rfl rfl)
theorem dJ25_grow_1 : decode cJ25_grow 1 = .ok (.getfield 3, 3) := dk_180 0 3 (dk_at dksJ25_grow_0 1 rfl rfl)
theorem dJ25_grow_4 : decode cJ25_grow 4 = .ok (.arraylength, 1) := dk_190 (dk_at dksJ25_grow_0 4 rfl rfl)
theorem dJ25_grow_5 : decode cJ25_grow 5 = .ok (.istore_n 2, 1) := dk_61 (dk_at dksJ25_grow_0 5 rfl rfl)
theorem dJ25_grow_6 : decode cJ25_grow 6 = .ok (.iload_n 2, 1) := dk_28 (dk_at dksJ25_grow_0 6 rfl rfl)
theorem dJ25_grow_7 : decode cJ25_grow 7 = .ok (.bipush 64, 2) := dk_16 64 (dk_at dksJ25_grow_0 7 rfl rfl)
theorem dJ25_grow_9 : decode cJ25_grow 9 = .ok (.if_icmp .ge 9, 3) := dk_162 0 9 (dk_at dksJ25_grow_0 9 rfl rfl)
theorem dJ25_grow_12 : decode cJ25_grow 12 = .ok (.iload_n 2, 1) := dk_28 (dk_at dksJ25_grow_0 12 rfl rfl)
theorem dJ25_grow_13 : decode cJ25_grow 13 = .ok (.iconst 2, 1) := dk_5 (dk_at dksJ25_grow_0 13 rfl rfl)
theorem dJ25_grow_14 : decode cJ25_grow 14 = .ok (.iadd, 1) := dk_96 (dk_at dksJ25_grow_0 14 rfl rfl)
theorem dJ25_grow_15 : decode cJ25_grow 15 = .ok (.goto 6, 3) := dk_167 0 6 (dk_at dksJ25_grow_0 15 rfl rfl)
theorem dJ25_grow_18 : decode cJ25_grow 18 = .ok (.iload_n 2, 1) := dk_28 (dk_at dksJ25_grow_0 18 rfl rfl)
theorem dJ25_grow_19 : decode cJ25_grow 19 = .ok (.iconst 1, 1) := dk_4 (dk_at dksJ25_grow_0 19 rfl rfl)
theorem dJ25_grow_20 : decode cJ25_grow 20 = .ok (.ishr, 1) := dk_122 (dk_at dksJ25_grow_0 20 rfl rfl)
theorem dJ25_grow_21 : decode cJ25_grow 21 = .ok (.istore 4, 2) := dk_54 4 (dk_at dksJ25_grow_0 21 rfl rfl)
theorem dJ25_grow_23 : decode cJ25_grow 23 = .ok (.iload 4, 2) := dk_21 4 (dk_at dksJ25_grow_1 0 rfl rfl)
theorem dJ25_grow_25 : decode cJ25_grow 25 = .ok (.iload_n 1, 1) := dk_27 (dk_at dksJ25_grow_1 2 rfl rfl)
theorem dJ25_grow_26 : decode cJ25_grow 26 = .ok (.if_icmp .lt 15, 3) := dk_161 0 15 (dk_at dksJ25_grow_1 3 rfl rfl)
theorem dJ25_grow_29 : decode cJ25_grow 29 = .ok (.iload_n 2, 1) := dk_28 (dk_at dksJ25_grow_1 6 rfl rfl)
theorem dJ25_grow_30 : decode cJ25_grow 30 = .ok (.iload 4, 2) := dk_21 4 (dk_at dksJ25_grow_1 7 rfl rfl)
theorem dJ25_grow_32 : decode cJ25_grow 32 = .ok (.iadd, 1) := dk_96 (dk_at dksJ25_grow_1 9 rfl rfl)
theorem dJ25_grow_33 : decode cJ25_grow 33 = .ok (.dup, 1) := dk_89 (dk_at dksJ25_grow_1 10 rfl rfl)
theorem dJ25_grow_34 : decode cJ25_grow 34 = .ok (.istore_n 3, 1) := dk_62 (dk_at dksJ25_grow_1 11 rfl rfl)
theorem dJ25_grow_35 : decode cJ25_grow 35 = .ok (.ldc 9, 2) := dk_18 9 (dk_at dksJ25_grow_1 12 rfl rfl)
theorem dJ25_grow_37 : decode cJ25_grow 37 = .ok (.isub, 1) := dk_100 (dk_at dksJ25_grow_1 14 rfl rfl)
theorem dJ25_grow_38 : decode cJ25_grow 38 = .ok (.ifCond .le 11, 3) := dk_158 0 11 (dk_at dksJ25_grow_1 15 rfl rfl)
theorem dJ25_grow_41 : decode cJ25_grow 41 = .ok (.aload_n 0, 1) := dk_42 (dk_at dksJ25_grow_1 18 rfl rfl)
theorem dJ25_grow_42 : decode cJ25_grow 42 = .ok (.iload_n 1, 1) := dk_27 (dk_at dksJ25_grow_1 19 rfl rfl)
theorem dJ25_grow_43 : decode cJ25_grow 43 = .ok (.iload 4, 2) := dk_21 4 (dk_at dksJ25_grow_1 20 rfl rfl)
theorem dJ25_grow_45 : decode cJ25_grow 45 = .ok (.invokevirtual 10, 3) := dk_182 0 10 (dk_at dksJ25_grow_2 0 rfl rfl)
theorem dJ25_grow_48 : decode cJ25_grow 48 = .ok (.istore_n 3, 1) := dk_62 (dk_at dksJ25_grow_2 3 rfl rfl)
theorem dJ25_grow_49 : decode cJ25_grow 49 = .ok (.aload_n 0, 1) := dk_42 (dk_at dksJ25_grow_2 4 rfl rfl)
theorem dJ25_grow_50 : decode cJ25_grow 50 = .ok (.aload_n 0, 1) := dk_42 (dk_at dksJ25_grow_2 5 rfl rfl)
theorem dJ25_grow_51 : decode cJ25_grow 51 = .ok (.getfield 3, 3) := dk_180 0 3 (dk_at dksJ25_grow_2 6 rfl rfl)
theorem dJ25_grow_54 : decode cJ25_grow 54 = .ok (.iload_n 3, 1) := dk_29 (dk_at dksJ25_grow_2 9 rfl rfl)
theorem dJ25_grow_55 : decode cJ25_grow 55 = .ok (.invokestatic 14, 3) := dk_184 0 14 (dk_at dksJ25_grow_2 10 rfl rfl)
theorem dJ25_grow_58 : decode cJ25_grow 58 = .ok (.dup_x1, 1) := dk_90 (dk_at dksJ25_grow_2 13 rfl rfl)
theorem dJ25_grow_59 : decode cJ25_grow 59 = .ok (.putfield 3, 3) := dk_181 0 3 (dk_at dksJ25_grow_2 14 rfl rfl)
theorem dJ25_grow_62 : decode cJ25_grow 62 = .ok (.astore 5, 2) := dk_58 5 (dk_at dksJ25_grow_2 17 rfl rfl)
theorem dJ25_grow_64 : decode cJ25_grow 64 = .ok (.aload_n 0, 1) := dk_42 (dk_at dksJ25_grow_2 19 rfl rfl)
theorem dJ25_grow_65 : decode cJ25_grow 65 = .ok (.getfield 20, 3) := dk_180 0 20 (dk_at dksJ25_grow_2 20 rfl rfl)
theorem dJ25_grow_68 : decode cJ25_grow 68 = .ok (.aload_n 0, 1) := dk_42 (dk_at dksJ25_grow_2 23 rfl rfl)
theorem dJ25_grow_69 : decode cJ25_grow 69 = .ok (.getfield 24, 3) := dk_180 0 24 (dk_at dksJ25_grow_3 0 rfl rfl)
theorem dJ25_grow_72 : decode cJ25_grow 72 = .ok (.if_icmp .lt 24, 3) := dk_161 0 24 (dk_at dksJ25_grow_3 3 rfl rfl)
theorem dJ25_grow_75 : decode cJ25_grow 75 = .ok (.aload_n 0, 1) := dk_42 (dk_at dksJ25_grow_3 6 rfl rfl)
theorem dJ25_grow_76 : decode cJ25_grow 76 = .ok (.getfield 20, 3) := dk_180 0 20 (dk_at dksJ25_grow_3 7 rfl rfl)
theorem dJ25_grow_79 : decode cJ25_grow 79 = .ok (.aload_n 0, 1) := dk_42 (dk_at dksJ25_grow_3 10 rfl rfl)
theorem dJ25_grow_80 : decode cJ25_grow 80 = .ok (.getfield 24, 3) := dk_180 0 24 (dk_at dksJ25_grow_3 11 rfl rfl)
theorem dJ25_grow_83 : decode cJ25_grow 83 = .ok (.if_icmp .ne 81, 3) := dk_160 0 81 (dk_at dksJ25_grow_3 14 rfl rfl)
theorem dJ25_grow_86 : decode cJ25_grow 86 = .ok (.aload 5, 2) := dk_25 5 (dk_at dksJ25_grow_3 17 rfl rfl)
theorem dJ25_grow_88 : decode cJ25_grow 88 = .ok (.aload_n 0, 1) := dk_42 (dk_at dksJ25_grow_3 19 rfl rfl)
theorem dJ25_grow_89 : decode cJ25_grow 89 = .ok (.getfield 24, 3) := dk_180 0 24 (dk_at dksJ25_grow_3 20 rfl rfl)
theorem dJ25_grow_92 : decode cJ25_grow 92 = .ok (.aaload, 1) := dk_50 (dk_at dksJ25_grow_3 23 rfl rfl)
theorem dJ25_grow_93 : decode cJ25_grow 93 = .ok (.ifnull 71, 3) := dk_198 0 71 (dk_at dksJ25_grow_4 0 rfl rfl)
theorem dJ25_grow_96 : decode cJ25_grow 96 = .ok (.iload_n 3, 1) := dk_29 (dk_at dksJ25_grow_4 3 rfl rfl)
theorem dJ25_grow_97 : decode cJ25_grow 97 = .ok (.iload_n 2, 1) := dk_28 (dk_at dksJ25_grow_4 4 rfl rfl)
theorem dJ25_grow_98 : decode cJ25_grow 98 = .ok (.isub, 1) := dk_100 (dk_at dksJ25_grow_4 5 rfl rfl)
theorem dJ25_grow_99 : decode cJ25_grow 99 = .ok (.istore 6, 2) := dk_54 6 (dk_at dksJ25_grow_4 6 rfl rfl)
theorem dJ25_grow_101 : decode cJ25_grow 101 = .ok (.aload 5, 2) := dk_25 5 (dk_at dksJ25_grow_4 8 rfl rfl)
theorem dJ25_grow_103 : decode cJ25_grow 103 = .ok (.aload_n 0, 1) := dk_42 (dk_at dksJ25_grow_4 10 rfl rfl)
theorem dJ25_grow_104 : decode cJ25_grow 104 = .ok (.getfield 24, 3) := dk_180 0 24 (dk_at dksJ25_grow_4 11 rfl rfl)
theorem dJ25_grow_107 : decode cJ25_grow 107 = .ok (.aload 5, 2) := dk_25 5 (dk_at dksJ25_grow_4 14 rfl rfl)
theorem dJ25_grow_109 : decode cJ25_grow 109 = .ok (.aload_n 0, 1) := dk_42 (dk_at dksJ25_grow_4 16 rfl rfl)
theorem dJ25_grow_110 : decode cJ25_grow 110 = .ok (.getfield 24, 3) := dk_180 0 24 (dk_at dksJ25_grow_4 17 rfl rfl)
theorem dJ25_grow_113 : decode cJ25_grow 113 = .ok (.iload 6, 2) := dk_21 6 (dk_at dksJ25_grow_4 20 rfl rfl)
theorem dJ25_grow_115 : decode cJ25_grow 115 = .ok (.iadd, 1) := dk_96 (dk_at dksJ25_grow_4 22 rfl rfl)
theorem dJ25_grow_116 : decode cJ25_grow 116 = .ok (.iload_n 2, 1) := dk_28 (dk_at dksJ25_grow_4 23 rfl rfl)
theorem dJ25_grow_117 : decode cJ25_grow 117 = .ok (.aload_n 0, 1) := dk_42 (dk_at dksJ25_grow_5 0 rfl rfl)
theorem dJ25_grow_118 : decode cJ25_grow 118 = .ok (.getfield 24, 3) := dk_180 0 24 (dk_at dksJ25_grow_5 1 rfl rfl)
theorem dJ25_grow_121 : decode cJ25_grow 121 = .ok (.isub, 1) := dk_100 (dk_at dksJ25_grow_5 4 rfl rfl)
theorem dJ25_grow_122 : decode cJ25_grow 122 = .ok (.invokestatic 27, 3) := dk_184 0 27 (dk_at dksJ25_grow_5 5 rfl rfl)
theorem dJ25_grow_125 : decode cJ25_grow 125 = .ok (.aload_n 0, 1) := dk_42 (dk_at dksJ25_grow_5 8 rfl rfl)
theorem dJ25_grow_126 : decode cJ25_grow 126 = .ok (.getfield 24, 3) := dk_180 0 24 (dk_at dksJ25_grow_5 9 rfl rfl)
theorem dJ25_grow_129 : decode cJ25_grow 129 = .ok (.istore 7, 2) := dk_54 7 (dk_at dksJ25_grow_5 12 rfl rfl)
theorem dJ25_grow_131 : decode cJ25_grow 131 = .ok (.aload_n 0, 1) := dk_42 (dk_at dksJ25_grow_5 14 rfl rfl)
theorem dJ25_grow_132 : decode cJ25_grow 132 = .ok (.dup, 1) := dk_89 (dk_at dksJ25_grow_5 15 rfl rfl)
theorem dJ25_grow_133 : decode cJ25_grow 133 = .ok (.getfield 24, 3) := dk_180 0 24 (dk_at dksJ25_grow_5 16 rfl rfl)
theorem dJ25_grow_136 : decode cJ25_grow 136 = .ok (.iload 6, 2) := dk_21 6 (dk_at dksJ25_grow_5 19 rfl rfl)
theorem dJ25_grow_138 : decode cJ25_grow 138 = .ok (.iadd, 1) := dk_96 (dk_at dksJ25_grow_5 21 rfl rfl)
theorem dJ25_grow_139 : decode cJ25_grow 139 = .ok (.dup_x1, 1) := dk_90 (dk_at dksJ25_grow_5 22 rfl rfl)
theorem dJ25_grow_140 : decode cJ25_grow 140 = .ok (.putfield 24, 3) := dk_181 0 24 (dk_at dksJ25_grow_6 0 rfl rfl)
theorem dJ25_grow_143 : decode cJ25_grow 143 = .ok (.istore 8, 2) := dk_54 8 (dk_at dksJ25_grow_6 3 rfl rfl)
theorem dJ25_grow_145 : decode cJ25_grow 145 = .ok (.iload 7, 2) := dk_21 7 (dk_at dksJ25_grow_6 5 rfl rfl)
theorem dJ25_grow_147 : decode cJ25_grow 147 = .ok (.iload 8, 2) := dk_21 8 (dk_at dksJ25_grow_6 7 rfl rfl)
theorem dJ25_grow_149 : decode cJ25_grow 149 = .ok (.if_icmp .ge 15, 3) := dk_162 0 15 (dk_at dksJ25_grow_6 9 rfl rfl)
theorem dJ25_grow_152 : decode cJ25_grow 152 = .ok (.aload 5, 2) := dk_25 5 (dk_at dksJ25_grow_6 12 rfl rfl)
theorem dJ25_grow_154 : decode cJ25_grow 154 = .ok (.iload 7, 2) := dk_21 7 (dk_at dksJ25_grow_6 14 rfl rfl)
theorem dJ25_grow_156 : decode cJ25_grow 156 = .ok (.aconst_null, 1) := dk_1 (dk_at dksJ25_grow_6 16 rfl rfl)
theorem dJ25_grow_157 : decode cJ25_grow 157 = .ok (.aastore, 1) := dk_83 (dk_at dksJ25_grow_6 17 rfl rfl)
theorem dJ25_grow_158 : decode cJ25_grow 158 = .ok (.iinc 7 1, 3) := dk_132 7 1 (dk_at dksJ25_grow_6 18 rfl rfl)
theorem dJ25_grow_161 : decode cJ25_grow 161 = .ok (.goto (-16), 3) := dk_167 255 240 (dk_at dksJ25_grow_6 21 rfl rfl)
theorem dJ25_grow_164 : decode cJ25_grow 164 = .ok (.return_, 1) := dk_177 (dk_at dksJ25_grow_7 0 rfl rfl)
abbrev cJ25_newCapacity : ByteArray := prog_44_method_2_code
def yJ25_newCapacity : MethodName := ⟨RJ25, "newCapacity", "(II)I"⟩
def dkwJ25_newCapacity_2 : List UInt8 := [18, 9, 100, 156, 0, 9, 29, 28, 96, 167, 0, 5, 18, 9, 172]
abbrev dktJ25_newCapacity_2 : List UInt8 := dkwJ25_newCapacity_2 ++ []
def dkwJ25_newCapacity_1 : List UInt8 := [187, 0, 33, 89, 18, 35, 183, 0, 37, 191, 18, 41, 172, 27, 28, 164, 0, 6, 21, 4, 172, 29, 28, 96]
abbrev dktJ25_newCapacity_1 : List UInt8 := dkwJ25_newCapacity_1 ++ dktJ25_newCapacity_2
def dkwJ25_newCapacity_0 : List UInt8 := [42, 180, 0, 3, 190, 62, 29, 27, 96, 89, 54, 4, 18, 9, 100, 158, 0, 21, 21, 4, 156, 0, 13]
abbrev dktJ25_newCapacity_0 : List UInt8 := dkwJ25_newCapacity_0 ++ dktJ25_newCapacity_1
theorem dksJ25_newCapacity_0 : cJ25_newCapacity.data.toList.drop 0 = dktJ25_newCapacity_0 := by decide +kernel
theorem dksJ25_newCapacity_1 : cJ25_newCapacity.data.toList.drop 23 = dktJ25_newCapacity_1 := dk_seg dksJ25_newCapacity_0 23 rfl rfl
theorem dksJ25_newCapacity_2 : cJ25_newCapacity.data.toList.drop 47 = dktJ25_newCapacity_2 := dk_seg dksJ25_newCapacity_1 24 rfl rfl
theorem dJ25_newCapacity_0 : decode cJ25_newCapacity 0 = .ok (.aload_n 0, 1) := dk_42 (dk_at dksJ25_newCapacity_0 0 rfl rfl)
theorem dJ25_newCapacity_1 : decode cJ25_newCapacity 1 = .ok (.getfield 3, 3) := dk_180 0 3 (dk_at dksJ25_newCapacity_0 1 rfl rfl)
theorem dJ25_newCapacity_4 : decode cJ25_newCapacity 4 = .ok (.arraylength, 1) := dk_190 (dk_at dksJ25_newCapacity_0 4 rfl rfl)
theorem dJ25_newCapacity_5 : decode cJ25_newCapacity 5 = .ok (.istore_n 3, 1) := dk_62 (dk_at dksJ25_newCapacity_0 5 rfl rfl)
theorem dJ25_newCapacity_6 : decode cJ25_newCapacity 6 = .ok (.iload_n 3, 1) := dk_29 (dk_at dksJ25_newCapacity_0 6 rfl rfl)
theorem dJ25_newCapacity_7 : decode cJ25_newCapacity 7 = .ok (.iload_n 1, 1) := dk_27 (dk_at dksJ25_newCapacity_0 7 rfl rfl)
theorem dJ25_newCapacity_8 : decode cJ25_newCapacity 8 = .ok (.iadd, 1) := dk_96 (dk_at dksJ25_newCapacity_0 8 rfl rfl)
theorem dJ25_newCapacity_9 : decode cJ25_newCapacity 9 = .ok (.dup, 1) := dk_89 (dk_at dksJ25_newCapacity_0 9 rfl rfl)
theorem dJ25_newCapacity_10 : decode cJ25_newCapacity 10 = .ok (.istore 4, 2) := dk_54 4 (dk_at dksJ25_newCapacity_0 10 rfl rfl)
theorem dJ25_newCapacity_12 : decode cJ25_newCapacity 12 = .ok (.ldc 9, 2) := dk_18 9 (dk_at dksJ25_newCapacity_0 12 rfl rfl)
theorem dJ25_newCapacity_14 : decode cJ25_newCapacity 14 = .ok (.isub, 1) := dk_100 (dk_at dksJ25_newCapacity_0 14 rfl rfl)
theorem dJ25_newCapacity_15 : decode cJ25_newCapacity 15 = .ok (.ifCond .le 21, 3) := dk_158 0 21 (dk_at dksJ25_newCapacity_0 15 rfl rfl)
theorem dJ25_newCapacity_18 : decode cJ25_newCapacity 18 = .ok (.iload 4, 2) := dk_21 4 (dk_at dksJ25_newCapacity_0 18 rfl rfl)
theorem dJ25_newCapacity_20 : decode cJ25_newCapacity 20 = .ok (.ifCond .ge 13, 3) := dk_156 0 13 (dk_at dksJ25_newCapacity_0 20 rfl rfl)
theorem dJ25_newCapacity_23 : decode cJ25_newCapacity 23 = .ok (.new 33, 3) := dk_187 0 33 (dk_at dksJ25_newCapacity_1 0 rfl rfl)
theorem dJ25_newCapacity_26 : decode cJ25_newCapacity 26 = .ok (.dup, 1) := dk_89 (dk_at dksJ25_newCapacity_1 3 rfl rfl)
theorem dJ25_newCapacity_27 : decode cJ25_newCapacity 27 = .ok (.ldc 35, 2) := dk_18 35 (dk_at dksJ25_newCapacity_1 4 rfl rfl)
theorem dJ25_newCapacity_29 : decode cJ25_newCapacity 29 = .ok (.invokespecial 37, 3) := dk_183 0 37 (dk_at dksJ25_newCapacity_1 6 rfl rfl)
theorem dJ25_newCapacity_32 : decode cJ25_newCapacity 32 = .ok (.athrow, 1) := dk_191 (dk_at dksJ25_newCapacity_1 9 rfl rfl)
theorem dJ25_newCapacity_33 : decode cJ25_newCapacity 33 = .ok (.ldc 41, 2) := dk_18 41 (dk_at dksJ25_newCapacity_1 10 rfl rfl)
theorem dJ25_newCapacity_35 : decode cJ25_newCapacity 35 = .ok (.ireturn, 1) := dk_172 (dk_at dksJ25_newCapacity_1 12 rfl rfl)
theorem dJ25_newCapacity_36 : decode cJ25_newCapacity 36 = .ok (.iload_n 1, 1) := dk_27 (dk_at dksJ25_newCapacity_1 13 rfl rfl)
theorem dJ25_newCapacity_37 : decode cJ25_newCapacity 37 = .ok (.iload_n 2, 1) := dk_28 (dk_at dksJ25_newCapacity_1 14 rfl rfl)
theorem dJ25_newCapacity_38 : decode cJ25_newCapacity 38 = .ok (.if_icmp .le 6, 3) := dk_164 0 6 (dk_at dksJ25_newCapacity_1 15 rfl rfl)
theorem dJ25_newCapacity_41 : decode cJ25_newCapacity 41 = .ok (.iload 4, 2) := dk_21 4 (dk_at dksJ25_newCapacity_1 18 rfl rfl)
theorem dJ25_newCapacity_43 : decode cJ25_newCapacity 43 = .ok (.ireturn, 1) := dk_172 (dk_at dksJ25_newCapacity_1 20 rfl rfl)
theorem dJ25_newCapacity_44 : decode cJ25_newCapacity 44 = .ok (.iload_n 3, 1) := dk_29 (dk_at dksJ25_newCapacity_1 21 rfl rfl)
theorem dJ25_newCapacity_45 : decode cJ25_newCapacity 45 = .ok (.iload_n 2, 1) := dk_28 (dk_at dksJ25_newCapacity_1 22 rfl rfl)
theorem dJ25_newCapacity_46 : decode cJ25_newCapacity 46 = .ok (.iadd, 1) := dk_96 (dk_at dksJ25_newCapacity_1 23 rfl rfl)
theorem dJ25_newCapacity_47 : decode cJ25_newCapacity 47 = .ok (.ldc 9, 2) := dk_18 9 (dk_at dksJ25_newCapacity_2 0 rfl rfl)
theorem dJ25_newCapacity_49 : decode cJ25_newCapacity 49 = .ok (.isub, 1) := dk_100 (dk_at dksJ25_newCapacity_2 2 rfl rfl)
theorem dJ25_newCapacity_50 : decode cJ25_newCapacity 50 = .ok (.ifCond .ge 9, 3) := dk_156 0 9 (dk_at dksJ25_newCapacity_2 3 rfl rfl)
theorem dJ25_newCapacity_53 : decode cJ25_newCapacity 53 = .ok (.iload_n 3, 1) := dk_29 (dk_at dksJ25_newCapacity_2 6 rfl rfl)
theorem dJ25_newCapacity_54 : decode cJ25_newCapacity 54 = .ok (.iload_n 2, 1) := dk_28 (dk_at dksJ25_newCapacity_2 7 rfl rfl)
theorem dJ25_newCapacity_55 : decode cJ25_newCapacity 55 = .ok (.iadd, 1) := dk_96 (dk_at dksJ25_newCapacity_2 8 rfl rfl)
theorem dJ25_newCapacity_56 : decode cJ25_newCapacity 56 = .ok (.goto 5, 3) := dk_167 0 5 (dk_at dksJ25_newCapacity_2 9 rfl rfl)
theorem dJ25_newCapacity_59 : decode cJ25_newCapacity 59 = .ok (.ldc 9, 2) := dk_18 9 (dk_at dksJ25_newCapacity_2 12 rfl rfl)
theorem dJ25_newCapacity_61 : decode cJ25_newCapacity 61 = .ok (.ireturn, 1) := dk_172 (dk_at dksJ25_newCapacity_2 14 rfl rfl)
abbrev cJ25_removeFirst : ByteArray := prog_44_method_18_code
def yJ25_removeFirst : MethodName := ⟨RJ25, "removeFirst", "()Ljava/lang/Object;"⟩
def dkwJ25_removeFirst_0 : List UInt8 := [42, 182, 0, 93, 76, 43, 199, 0, 11, 187, 0, 97, 89, 183, 0, 99, 191, 43, 176]
abbrev dktJ25_removeFirst_0 : List UInt8 := dkwJ25_removeFirst_0 ++ []
theorem dksJ25_removeFirst_0 : cJ25_removeFirst.data.toList.drop 0 = dktJ25_removeFirst_0 := by decide +kernel
theorem dJ25_removeFirst_0 : decode cJ25_removeFirst 0 = .ok (.aload_n 0, 1) := dk_42 (dk_at dksJ25_removeFirst_0 0 rfl rfl)
theorem dJ25_removeFirst_1 : decode cJ25_removeFirst 1 = .ok (.invokevirtual 93, 3) := dk_182 0 93 (dk_at dksJ25_removeFirst_0 1 rfl rfl)
theorem dJ25_removeFirst_4 : decode cJ25_removeFirst 4 = .ok (.astore_n 1, 1) := dk_76 (dk_at dksJ25_removeFirst_0 4 rfl rfl)
theorem dJ25_removeFirst_5 : decode cJ25_removeFirst 5 = .ok (.aload_n 1, 1) := dk_43 (dk_at dksJ25_removeFirst_0 5 rfl rfl)
theorem dJ25_removeFirst_6 : decode cJ25_removeFirst 6 = .ok (.ifnonnull 11, 3) := dk_199 0 11 (dk_at dksJ25_removeFirst_0 6 rfl rfl)
theorem dJ25_removeFirst_9 : decode cJ25_removeFirst 9 = .ok (.new 97, 3) := dk_187 0 97 (dk_at dksJ25_removeFirst_0 9 rfl rfl)
theorem dJ25_removeFirst_12 : decode cJ25_removeFirst 12 = .ok (.dup, 1) := dk_89 (dk_at dksJ25_removeFirst_0 12 rfl rfl)
theorem dJ25_removeFirst_13 : decode cJ25_removeFirst 13 = .ok (.invokespecial 99, 3) := dk_183 0 99 (dk_at dksJ25_removeFirst_0 13 rfl rfl)
theorem dJ25_removeFirst_16 : decode cJ25_removeFirst 16 = .ok (.athrow, 1) := dk_191 (dk_at dksJ25_removeFirst_0 16 rfl rfl)
theorem dJ25_removeFirst_17 : decode cJ25_removeFirst 17 = .ok (.aload_n 1, 1) := dk_43 (dk_at dksJ25_removeFirst_0 17 rfl rfl)
theorem dJ25_removeFirst_18 : decode cJ25_removeFirst 18 = .ok (.areturn, 1) := dk_176 (dk_at dksJ25_removeFirst_0 18 rfl rfl)
abbrev cJ25_pollFirst : ByteArray := prog_44_method_20_code
def yJ25_pollFirst : MethodName := ⟨RJ25, "pollFirst", "()Ljava/lang/Object;"⟩
def dkwJ25_pollFirst_1 : List UInt8 := [42, 28, 43, 190, 184, 0, 74, 181, 0, 24, 45, 176]
abbrev dktJ25_pollFirst_1 : List UInt8 := dkwJ25_pollFirst_1 ++ []
def dkwJ25_pollFirst_0 : List UInt8 := [42, 180, 0, 3, 89, 76, 42, 180, 0, 24, 89, 61, 184, 0, 103, 78, 45, 198, 0, 17, 43, 28, 1, 83]
abbrev dktJ25_pollFirst_0 : List UInt8 := dkwJ25_pollFirst_0 ++ dktJ25_pollFirst_1
theorem dksJ25_pollFirst_0 : cJ25_pollFirst.data.toList.drop 0 = dktJ25_pollFirst_0 := by decide +kernel
theorem dksJ25_pollFirst_1 : cJ25_pollFirst.data.toList.drop 24 = dktJ25_pollFirst_1 := dk_seg dksJ25_pollFirst_0 24 rfl rfl
theorem dJ25_pollFirst_0 : decode cJ25_pollFirst 0 = .ok (.aload_n 0, 1) := dk_42 (dk_at dksJ25_pollFirst_0 0 rfl rfl)
theorem dJ25_pollFirst_1 : decode cJ25_pollFirst 1 = .ok (.getfield 3, 3) := dk_180 0 3 (dk_at dksJ25_pollFirst_0 1 rfl rfl)
theorem dJ25_pollFirst_4 : decode cJ25_pollFirst 4 = .ok (.dup, 1) := dk_89 (dk_at dksJ25_pollFirst_0 4 rfl rfl)
theorem dJ25_pollFirst_5 : decode cJ25_pollFirst 5 = .ok (.astore_n 1, 1) := dk_76 (dk_at dksJ25_pollFirst_0 5 rfl rfl)
theorem dJ25_pollFirst_6 : decode cJ25_pollFirst 6 = .ok (.aload_n 0, 1) := dk_42 (dk_at dksJ25_pollFirst_0 6 rfl rfl)
theorem dJ25_pollFirst_7 : decode cJ25_pollFirst 7 = .ok (.getfield 24, 3) := dk_180 0 24 (dk_at dksJ25_pollFirst_0 7 rfl rfl)
theorem dJ25_pollFirst_10 : decode cJ25_pollFirst 10 = .ok (.dup, 1) := dk_89 (dk_at dksJ25_pollFirst_0 10 rfl rfl)
theorem dJ25_pollFirst_11 : decode cJ25_pollFirst 11 = .ok (.istore_n 2, 1) := dk_61 (dk_at dksJ25_pollFirst_0 11 rfl rfl)
theorem dJ25_pollFirst_12 : decode cJ25_pollFirst 12 = .ok (.invokestatic 103, 3) := dk_184 0 103 (dk_at dksJ25_pollFirst_0 12 rfl rfl)
theorem dJ25_pollFirst_15 : decode cJ25_pollFirst 15 = .ok (.astore_n 3, 1) := dk_78 (dk_at dksJ25_pollFirst_0 15 rfl rfl)
theorem dJ25_pollFirst_16 : decode cJ25_pollFirst 16 = .ok (.aload_n 3, 1) := dk_45 (dk_at dksJ25_pollFirst_0 16 rfl rfl)
theorem dJ25_pollFirst_17 : decode cJ25_pollFirst 17 = .ok (.ifnull 17, 3) := dk_198 0 17 (dk_at dksJ25_pollFirst_0 17 rfl rfl)
theorem dJ25_pollFirst_20 : decode cJ25_pollFirst 20 = .ok (.aload_n 1, 1) := dk_43 (dk_at dksJ25_pollFirst_0 20 rfl rfl)
theorem dJ25_pollFirst_21 : decode cJ25_pollFirst 21 = .ok (.iload_n 2, 1) := dk_28 (dk_at dksJ25_pollFirst_0 21 rfl rfl)
theorem dJ25_pollFirst_22 : decode cJ25_pollFirst 22 = .ok (.aconst_null, 1) := dk_1 (dk_at dksJ25_pollFirst_0 22 rfl rfl)
theorem dJ25_pollFirst_23 : decode cJ25_pollFirst 23 = .ok (.aastore, 1) := dk_83 (dk_at dksJ25_pollFirst_0 23 rfl rfl)
theorem dJ25_pollFirst_24 : decode cJ25_pollFirst 24 = .ok (.aload_n 0, 1) := dk_42 (dk_at dksJ25_pollFirst_1 0 rfl rfl)
theorem dJ25_pollFirst_25 : decode cJ25_pollFirst 25 = .ok (.iload_n 2, 1) := dk_28 (dk_at dksJ25_pollFirst_1 1 rfl rfl)
theorem dJ25_pollFirst_26 : decode cJ25_pollFirst 26 = .ok (.aload_n 1, 1) := dk_43 (dk_at dksJ25_pollFirst_1 2 rfl rfl)
theorem dJ25_pollFirst_27 : decode cJ25_pollFirst 27 = .ok (.arraylength, 1) := dk_190 (dk_at dksJ25_pollFirst_1 3 rfl rfl)
theorem dJ25_pollFirst_28 : decode cJ25_pollFirst 28 = .ok (.invokestatic 74, 3) := dk_184 0 74 (dk_at dksJ25_pollFirst_1 4 rfl rfl)
theorem dJ25_pollFirst_31 : decode cJ25_pollFirst 31 = .ok (.putfield 24, 3) := dk_181 0 24 (dk_at dksJ25_pollFirst_1 7 rfl rfl)
theorem dJ25_pollFirst_34 : decode cJ25_pollFirst 34 = .ok (.aload_n 3, 1) := dk_45 (dk_at dksJ25_pollFirst_1 10 rfl rfl)
theorem dJ25_pollFirst_35 : decode cJ25_pollFirst 35 = .ok (.areturn, 1) := dk_176 (dk_at dksJ25_pollFirst_1 11 rfl rfl)
abbrev cJ25_elementAt : ByteArray := prog_44_method_10_code
def yJ25_elementAt : MethodName := ⟨RJ25, "elementAt", "([Ljava/lang/Object;I)Ljava/lang/Object;"⟩
def dkwJ25_elementAt_0 : List UInt8 := [42, 27, 50, 176]
abbrev dktJ25_elementAt_0 : List UInt8 := dkwJ25_elementAt_0 ++ []
theorem dksJ25_elementAt_0 : cJ25_elementAt.data.toList.drop 0 = dktJ25_elementAt_0 := by decide +kernel
theorem dJ25_elementAt_0 : decode cJ25_elementAt 0 = .ok (.aload_n 0, 1) := dk_42 (dk_at dksJ25_elementAt_0 0 rfl rfl)
theorem dJ25_elementAt_1 : decode cJ25_elementAt 1 = .ok (.iload_n 1, 1) := dk_27 (dk_at dksJ25_elementAt_0 1 rfl rfl)
theorem dJ25_elementAt_2 : decode cJ25_elementAt 2 = .ok (.aaload, 1) := dk_50 (dk_at dksJ25_elementAt_0 2 rfl rfl)
theorem dJ25_elementAt_3 : decode cJ25_elementAt 3 = .ok (.areturn, 1) := dk_176 (dk_at dksJ25_elementAt_0 3 rfl rfl)
abbrev cJ25_isEmpty : ByteArray := prog_44_method_38_code
def yJ25_isEmpty : MethodName := ⟨RJ25, "isEmpty", "()Z"⟩
def dkwJ25_isEmpty_0 : List UInt8 := [42, 180, 0, 24, 42, 180, 0, 20, 160, 0, 7, 4, 167, 0, 4, 3, 172]
abbrev dktJ25_isEmpty_0 : List UInt8 := dkwJ25_isEmpty_0 ++ []
theorem dksJ25_isEmpty_0 : cJ25_isEmpty.data.toList.drop 0 = dktJ25_isEmpty_0 := by decide +kernel
theorem dJ25_isEmpty_0 : decode cJ25_isEmpty 0 = .ok (.aload_n 0, 1) := dk_42 (dk_at dksJ25_isEmpty_0 0 rfl rfl)
theorem dJ25_isEmpty_1 : decode cJ25_isEmpty 1 = .ok (.getfield 24, 3) := dk_180 0 24 (dk_at dksJ25_isEmpty_0 1 rfl rfl)
theorem dJ25_isEmpty_4 : decode cJ25_isEmpty 4 = .ok (.aload_n 0, 1) := dk_42 (dk_at dksJ25_isEmpty_0 4 rfl rfl)
theorem dJ25_isEmpty_5 : decode cJ25_isEmpty 5 = .ok (.getfield 20, 3) := dk_180 0 20 (dk_at dksJ25_isEmpty_0 5 rfl rfl)
theorem dJ25_isEmpty_8 : decode cJ25_isEmpty 8 = .ok (.if_icmp .ne 7, 3) := dk_160 0 7 (dk_at dksJ25_isEmpty_0 8 rfl rfl)
theorem dJ25_isEmpty_11 : decode cJ25_isEmpty 11 = .ok (.iconst 1, 1) := dk_4 (dk_at dksJ25_isEmpty_0 11 rfl rfl)
theorem dJ25_isEmpty_12 : decode cJ25_isEmpty 12 = .ok (.goto 4, 3) := dk_167 0 4 (dk_at dksJ25_isEmpty_0 12 rfl rfl)
theorem dJ25_isEmpty_15 : decode cJ25_isEmpty 15 = .ok (.iconst 0, 1) := dk_3 (dk_at dksJ25_isEmpty_0 15 rfl rfl)
theorem dJ25_isEmpty_16 : decode cJ25_isEmpty 16 = .ok (.ireturn, 1) := dk_172 (dk_at dksJ25_isEmpty_0 16 rfl rfl)
abbrev cJ25_removeLast : ByteArray := prog_44_method_19_code
def yJ25_removeLast : MethodName := ⟨RJ25, "removeLast", "()Ljava/lang/Object;"⟩
def dkwJ25_removeLast_0 : List UInt8 := [42, 182, 0, 100, 76, 43, 199, 0, 11, 187, 0, 97, 89, 183, 0, 99, 191, 43, 176]
abbrev dktJ25_removeLast_0 : List UInt8 := dkwJ25_removeLast_0 ++ []
theorem dksJ25_removeLast_0 : cJ25_removeLast.data.toList.drop 0 = dktJ25_removeLast_0 := by decide +kernel
theorem dJ25_removeLast_0 : decode cJ25_removeLast 0 = .ok (.aload_n 0, 1) := dk_42 (dk_at dksJ25_removeLast_0 0 rfl rfl)
theorem dJ25_removeLast_1 : decode cJ25_removeLast 1 = .ok (.invokevirtual 100, 3) := dk_182 0 100 (dk_at dksJ25_removeLast_0 1 rfl rfl)
theorem dJ25_removeLast_4 : decode cJ25_removeLast 4 = .ok (.astore_n 1, 1) := dk_76 (dk_at dksJ25_removeLast_0 4 rfl rfl)
theorem dJ25_removeLast_5 : decode cJ25_removeLast 5 = .ok (.aload_n 1, 1) := dk_43 (dk_at dksJ25_removeLast_0 5 rfl rfl)
theorem dJ25_removeLast_6 : decode cJ25_removeLast 6 = .ok (.ifnonnull 11, 3) := dk_199 0 11 (dk_at dksJ25_removeLast_0 6 rfl rfl)
theorem dJ25_removeLast_9 : decode cJ25_removeLast 9 = .ok (.new 97, 3) := dk_187 0 97 (dk_at dksJ25_removeLast_0 9 rfl rfl)
theorem dJ25_removeLast_12 : decode cJ25_removeLast 12 = .ok (.dup, 1) := dk_89 (dk_at dksJ25_removeLast_0 12 rfl rfl)
theorem dJ25_removeLast_13 : decode cJ25_removeLast 13 = .ok (.invokespecial 99, 3) := dk_183 0 99 (dk_at dksJ25_removeLast_0 13 rfl rfl)
theorem dJ25_removeLast_16 : decode cJ25_removeLast 16 = .ok (.athrow, 1) := dk_191 (dk_at dksJ25_removeLast_0 16 rfl rfl)
theorem dJ25_removeLast_17 : decode cJ25_removeLast 17 = .ok (.aload_n 1, 1) := dk_43 (dk_at dksJ25_removeLast_0 17 rfl rfl)
theorem dJ25_removeLast_18 : decode cJ25_removeLast 18 = .ok (.areturn, 1) := dk_176 (dk_at dksJ25_removeLast_0 18 rfl rfl)
abbrev cJ25_pollLast : ByteArray := prog_44_method_21_code
def yJ25_pollLast : MethodName := ⟨RJ25, "pollLast", "()Ljava/lang/Object;"⟩
def dkwJ25_pollLast_1 : List UInt8 := [198, 0, 12, 43, 42, 28, 90, 181, 0, 20, 1, 83, 45, 176]
abbrev dktJ25_pollLast_1 : List UInt8 := dkwJ25_pollLast_1 ++ []
def dkwJ25_pollLast_0 : List UInt8 := [42, 180, 0, 3, 89, 76, 42, 180, 0, 20, 43, 190, 184, 0, 68, 89, 61, 184, 0, 103, 78, 45]
abbrev dktJ25_pollLast_0 : List UInt8 := dkwJ25_pollLast_0 ++ dktJ25_pollLast_1
theorem dksJ25_pollLast_0 : cJ25_pollLast.data.toList.drop 0 = dktJ25_pollLast_0 := by decide +kernel
theorem dksJ25_pollLast_1 : cJ25_pollLast.data.toList.drop 22 = dktJ25_pollLast_1 := dk_seg dksJ25_pollLast_0 22 rfl rfl
theorem dJ25_pollLast_0 : decode cJ25_pollLast 0 = .ok (.aload_n 0, 1) := dk_42 (dk_at dksJ25_pollLast_0 0 rfl rfl)
theorem dJ25_pollLast_1 : decode cJ25_pollLast 1 = .ok (.getfield 3, 3) := dk_180 0 3 (dk_at dksJ25_pollLast_0 1 rfl rfl)
theorem dJ25_pollLast_4 : decode cJ25_pollLast 4 = .ok (.dup, 1) := dk_89 (dk_at dksJ25_pollLast_0 4 rfl rfl)
theorem dJ25_pollLast_5 : decode cJ25_pollLast 5 = .ok (.astore_n 1, 1) := dk_76 (dk_at dksJ25_pollLast_0 5 rfl rfl)
theorem dJ25_pollLast_6 : decode cJ25_pollLast 6 = .ok (.aload_n 0, 1) := dk_42 (dk_at dksJ25_pollLast_0 6 rfl rfl)
theorem dJ25_pollLast_7 : decode cJ25_pollLast 7 = .ok (.getfield 20, 3) := dk_180 0 20 (dk_at dksJ25_pollLast_0 7 rfl rfl)
theorem dJ25_pollLast_10 : decode cJ25_pollLast 10 = .ok (.aload_n 1, 1) := dk_43 (dk_at dksJ25_pollLast_0 10 rfl rfl)
theorem dJ25_pollLast_11 : decode cJ25_pollLast 11 = .ok (.arraylength, 1) := dk_190 (dk_at dksJ25_pollLast_0 11 rfl rfl)
theorem dJ25_pollLast_12 : decode cJ25_pollLast 12 = .ok (.invokestatic 68, 3) := dk_184 0 68 (dk_at dksJ25_pollLast_0 12 rfl rfl)
theorem dJ25_pollLast_15 : decode cJ25_pollLast 15 = .ok (.dup, 1) := dk_89 (dk_at dksJ25_pollLast_0 15 rfl rfl)
theorem dJ25_pollLast_16 : decode cJ25_pollLast 16 = .ok (.istore_n 2, 1) := dk_61 (dk_at dksJ25_pollLast_0 16 rfl rfl)
theorem dJ25_pollLast_17 : decode cJ25_pollLast 17 = .ok (.invokestatic 103, 3) := dk_184 0 103 (dk_at dksJ25_pollLast_0 17 rfl rfl)
theorem dJ25_pollLast_20 : decode cJ25_pollLast 20 = .ok (.astore_n 3, 1) := dk_78 (dk_at dksJ25_pollLast_0 20 rfl rfl)
theorem dJ25_pollLast_21 : decode cJ25_pollLast 21 = .ok (.aload_n 3, 1) := dk_45 (dk_at dksJ25_pollLast_0 21 rfl rfl)
theorem dJ25_pollLast_22 : decode cJ25_pollLast 22 = .ok (.ifnull 12, 3) := dk_198 0 12 (dk_at dksJ25_pollLast_1 0 rfl rfl)
theorem dJ25_pollLast_25 : decode cJ25_pollLast 25 = .ok (.aload_n 1, 1) := dk_43 (dk_at dksJ25_pollLast_1 3 rfl rfl)
theorem dJ25_pollLast_26 : decode cJ25_pollLast 26 = .ok (.aload_n 0, 1) := dk_42 (dk_at dksJ25_pollLast_1 4 rfl rfl)
theorem dJ25_pollLast_27 : decode cJ25_pollLast 27 = .ok (.iload_n 2, 1) := dk_28 (dk_at dksJ25_pollLast_1 5 rfl rfl)
theorem dJ25_pollLast_28 : decode cJ25_pollLast 28 = .ok (.dup_x1, 1) := dk_90 (dk_at dksJ25_pollLast_1 6 rfl rfl)
theorem dJ25_pollLast_29 : decode cJ25_pollLast 29 = .ok (.putfield 20, 3) := dk_181 0 20 (dk_at dksJ25_pollLast_1 7 rfl rfl)
theorem dJ25_pollLast_32 : decode cJ25_pollLast 32 = .ok (.aconst_null, 1) := dk_1 (dk_at dksJ25_pollLast_1 10 rfl rfl)
theorem dJ25_pollLast_33 : decode cJ25_pollLast 33 = .ok (.aastore, 1) := dk_83 (dk_at dksJ25_pollLast_1 11 rfl rfl)
theorem dJ25_pollLast_34 : decode cJ25_pollLast 34 = .ok (.aload_n 3, 1) := dk_45 (dk_at dksJ25_pollLast_1 12 rfl rfl)
theorem dJ25_pollLast_35 : decode cJ25_pollLast 35 = .ok (.areturn, 1) := dk_176 (dk_at dksJ25_pollLast_1 13 rfl rfl)
abbrev cJ25_dec : ByteArray := prog_44_method_7_code
def yJ25_dec : MethodName := ⟨RJ25, "dec", "(II)I"⟩
def dkwJ25_dec_0 : List UInt8 := [132, 0, 255, 26, 156, 0, 7, 27, 4, 100, 59, 26, 172]
abbrev dktJ25_dec_0 : List UInt8 := dkwJ25_dec_0 ++ []
theorem dksJ25_dec_0 : cJ25_dec.data.toList.drop 0 = dktJ25_dec_0 := by decide +kernel
theorem dJ25_dec_0 : decode cJ25_dec 0 = .ok (.iinc 0 (-1), 3) := dk_132 0 255 (dk_at dksJ25_dec_0 0 rfl rfl)
theorem dJ25_dec_3 : decode cJ25_dec 3 = .ok (.iload_n 0, 1) := dk_26 (dk_at dksJ25_dec_0 3 rfl rfl)
theorem dJ25_dec_4 : decode cJ25_dec 4 = .ok (.ifCond .ge 7, 3) := dk_156 0 7 (dk_at dksJ25_dec_0 4 rfl rfl)
theorem dJ25_dec_7 : decode cJ25_dec 7 = .ok (.iload_n 1, 1) := dk_27 (dk_at dksJ25_dec_0 7 rfl rfl)
theorem dJ25_dec_8 : decode cJ25_dec 8 = .ok (.iconst 1, 1) := dk_4 (dk_at dksJ25_dec_0 8 rfl rfl)
theorem dJ25_dec_9 : decode cJ25_dec 9 = .ok (.isub, 1) := dk_100 (dk_at dksJ25_dec_0 9 rfl rfl)
theorem dJ25_dec_10 : decode cJ25_dec 10 = .ok (.istore_n 0, 1) := dk_59 (dk_at dksJ25_dec_0 10 rfl rfl)
theorem dJ25_dec_11 : decode cJ25_dec 11 = .ok (.iload_n 0, 1) := dk_26 (dk_at dksJ25_dec_0 11 rfl rfl)
theorem dJ25_dec_12 : decode cJ25_dec 12 = .ok (.ireturn, 1) := dk_172 (dk_at dksJ25_dec_0 12 rfl rfl)
abbrev cJ25_clear : ByteArray := prog_44_method_53_code
def yJ25_clear : MethodName := ⟨RJ25, "clear", "()V"⟩
def dkwJ25_clear_1 : List UInt8 := [181, 0, 24, 177]
abbrev dktJ25_clear_1 : List UInt8 := dkwJ25_clear_1 ++ []
def dkwJ25_clear_0 : List UInt8 := [42, 180, 0, 3, 42, 180, 0, 24, 42, 180, 0, 20, 184, 0, 181, 42, 42, 3, 90, 181, 0, 20]
abbrev dktJ25_clear_0 : List UInt8 := dkwJ25_clear_0 ++ dktJ25_clear_1
theorem dksJ25_clear_0 : cJ25_clear.data.toList.drop 0 = dktJ25_clear_0 := by decide +kernel
theorem dksJ25_clear_1 : cJ25_clear.data.toList.drop 22 = dktJ25_clear_1 := dk_seg dksJ25_clear_0 22 rfl rfl
theorem dJ25_clear_0 : decode cJ25_clear 0 = .ok (.aload_n 0, 1) := dk_42 (dk_at dksJ25_clear_0 0 rfl rfl)
theorem dJ25_clear_1 : decode cJ25_clear 1 = .ok (.getfield 3, 3) := dk_180 0 3 (dk_at dksJ25_clear_0 1 rfl rfl)
theorem dJ25_clear_4 : decode cJ25_clear 4 = .ok (.aload_n 0, 1) := dk_42 (dk_at dksJ25_clear_0 4 rfl rfl)
theorem dJ25_clear_5 : decode cJ25_clear 5 = .ok (.getfield 24, 3) := dk_180 0 24 (dk_at dksJ25_clear_0 5 rfl rfl)
theorem dJ25_clear_8 : decode cJ25_clear 8 = .ok (.aload_n 0, 1) := dk_42 (dk_at dksJ25_clear_0 8 rfl rfl)
theorem dJ25_clear_9 : decode cJ25_clear 9 = .ok (.getfield 20, 3) := dk_180 0 20 (dk_at dksJ25_clear_0 9 rfl rfl)
theorem dJ25_clear_12 : decode cJ25_clear 12 = .ok (.invokestatic 181, 3) := dk_184 0 181 (dk_at dksJ25_clear_0 12 rfl rfl)
theorem dJ25_clear_15 : decode cJ25_clear 15 = .ok (.aload_n 0, 1) := dk_42 (dk_at dksJ25_clear_0 15 rfl rfl)
theorem dJ25_clear_16 : decode cJ25_clear 16 = .ok (.aload_n 0, 1) := dk_42 (dk_at dksJ25_clear_0 16 rfl rfl)
theorem dJ25_clear_17 : decode cJ25_clear 17 = .ok (.iconst 0, 1) := dk_3 (dk_at dksJ25_clear_0 17 rfl rfl)
theorem dJ25_clear_18 : decode cJ25_clear 18 = .ok (.dup_x1, 1) := dk_90 (dk_at dksJ25_clear_0 18 rfl rfl)
theorem dJ25_clear_19 : decode cJ25_clear 19 = .ok (.putfield 20, 3) := dk_181 0 20 (dk_at dksJ25_clear_0 19 rfl rfl)
theorem dJ25_clear_22 : decode cJ25_clear 22 = .ok (.putfield 24, 3) := dk_181 0 24 (dk_at dksJ25_clear_1 0 rfl rfl)
theorem dJ25_clear_25 : decode cJ25_clear 25 = .ok (.return_, 1) := dk_177 (dk_at dksJ25_clear_1 3 rfl rfl)
abbrev cJ25_circularClear : ByteArray := prog_44_method_54_code
def yJ25_circularClear : MethodName := ⟨RJ25, "circularClear", "([Ljava/lang/Object;II)V"⟩
def dkwJ25_circularClear_1 : List UInt8 := [167, 255, 244, 29, 28, 160, 0, 6, 167, 0, 10, 3, 60, 28, 62, 167, 255, 229, 177]
abbrev dktJ25_circularClear_1 : List UInt8 := dkwJ25_circularClear_1 ++ []
def dkwJ25_circularClear_0 : List UInt8 := [27, 28, 163, 0, 7, 28, 167, 0, 5, 42, 190, 62, 27, 29, 162, 0, 13, 42, 27, 1, 83, 132, 1, 1]
abbrev dktJ25_circularClear_0 : List UInt8 := dkwJ25_circularClear_0 ++ dktJ25_circularClear_1
theorem dksJ25_circularClear_0 : cJ25_circularClear.data.toList.drop 0 = dktJ25_circularClear_0 := by decide +kernel
theorem dksJ25_circularClear_1 : cJ25_circularClear.data.toList.drop 24 = dktJ25_circularClear_1 := dk_seg dksJ25_circularClear_0 24 rfl rfl
theorem dJ25_circularClear_0 : decode cJ25_circularClear 0 = .ok (.iload_n 1, 1) := dk_27 (dk_at dksJ25_circularClear_0 0 rfl rfl)
theorem dJ25_circularClear_1 : decode cJ25_circularClear 1 = .ok (.iload_n 2, 1) := dk_28 (dk_at dksJ25_circularClear_0 1 rfl rfl)
theorem dJ25_circularClear_2 : decode cJ25_circularClear 2 = .ok (.if_icmp .gt 7, 3) := dk_163 0 7 (dk_at dksJ25_circularClear_0 2 rfl rfl)
theorem dJ25_circularClear_5 : decode cJ25_circularClear 5 = .ok (.iload_n 2, 1) := dk_28 (dk_at dksJ25_circularClear_0 5 rfl rfl)
theorem dJ25_circularClear_6 : decode cJ25_circularClear 6 = .ok (.goto 5, 3) := dk_167 0 5 (dk_at dksJ25_circularClear_0 6 rfl rfl)
theorem dJ25_circularClear_9 : decode cJ25_circularClear 9 = .ok (.aload_n 0, 1) := dk_42 (dk_at dksJ25_circularClear_0 9 rfl rfl)
theorem dJ25_circularClear_10 : decode cJ25_circularClear 10 = .ok (.arraylength, 1) := dk_190 (dk_at dksJ25_circularClear_0 10 rfl rfl)
theorem dJ25_circularClear_11 : decode cJ25_circularClear 11 = .ok (.istore_n 3, 1) := dk_62 (dk_at dksJ25_circularClear_0 11 rfl rfl)
theorem dJ25_circularClear_12 : decode cJ25_circularClear 12 = .ok (.iload_n 1, 1) := dk_27 (dk_at dksJ25_circularClear_0 12 rfl rfl)
theorem dJ25_circularClear_13 : decode cJ25_circularClear 13 = .ok (.iload_n 3, 1) := dk_29 (dk_at dksJ25_circularClear_0 13 rfl rfl)
theorem dJ25_circularClear_14 : decode cJ25_circularClear 14 = .ok (.if_icmp .ge 13, 3) := dk_162 0 13 (dk_at dksJ25_circularClear_0 14 rfl rfl)
theorem dJ25_circularClear_17 : decode cJ25_circularClear 17 = .ok (.aload_n 0, 1) := dk_42 (dk_at dksJ25_circularClear_0 17 rfl rfl)
theorem dJ25_circularClear_18 : decode cJ25_circularClear 18 = .ok (.iload_n 1, 1) := dk_27 (dk_at dksJ25_circularClear_0 18 rfl rfl)
theorem dJ25_circularClear_19 : decode cJ25_circularClear 19 = .ok (.aconst_null, 1) := dk_1 (dk_at dksJ25_circularClear_0 19 rfl rfl)
theorem dJ25_circularClear_20 : decode cJ25_circularClear 20 = .ok (.aastore, 1) := dk_83 (dk_at dksJ25_circularClear_0 20 rfl rfl)
theorem dJ25_circularClear_21 : decode cJ25_circularClear 21 = .ok (.iinc 1 1, 3) := dk_132 1 1 (dk_at dksJ25_circularClear_0 21 rfl rfl)
theorem dJ25_circularClear_24 : decode cJ25_circularClear 24 = .ok (.goto (-12), 3) := dk_167 255 244 (dk_at dksJ25_circularClear_1 0 rfl rfl)
theorem dJ25_circularClear_27 : decode cJ25_circularClear 27 = .ok (.iload_n 3, 1) := dk_29 (dk_at dksJ25_circularClear_1 3 rfl rfl)
theorem dJ25_circularClear_28 : decode cJ25_circularClear 28 = .ok (.iload_n 2, 1) := dk_28 (dk_at dksJ25_circularClear_1 4 rfl rfl)
theorem dJ25_circularClear_29 : decode cJ25_circularClear 29 = .ok (.if_icmp .ne 6, 3) := dk_160 0 6 (dk_at dksJ25_circularClear_1 5 rfl rfl)
theorem dJ25_circularClear_32 : decode cJ25_circularClear 32 = .ok (.goto 10, 3) := dk_167 0 10 (dk_at dksJ25_circularClear_1 8 rfl rfl)
theorem dJ25_circularClear_35 : decode cJ25_circularClear 35 = .ok (.iconst 0, 1) := dk_3 (dk_at dksJ25_circularClear_1 11 rfl rfl)
theorem dJ25_circularClear_36 : decode cJ25_circularClear 36 = .ok (.istore_n 1, 1) := dk_60 (dk_at dksJ25_circularClear_1 12 rfl rfl)
theorem dJ25_circularClear_37 : decode cJ25_circularClear 37 = .ok (.iload_n 2, 1) := dk_28 (dk_at dksJ25_circularClear_1 13 rfl rfl)
theorem dJ25_circularClear_38 : decode cJ25_circularClear 38 = .ok (.istore_n 3, 1) := dk_62 (dk_at dksJ25_circularClear_1 14 rfl rfl)
theorem dJ25_circularClear_39 : decode cJ25_circularClear 39 = .ok (.goto (-27), 3) := dk_167 255 229 (dk_at dksJ25_circularClear_1 15 rfl rfl)
theorem dJ25_circularClear_42 : decode cJ25_circularClear 42 = .ok (.return_, 1) := dk_177 (dk_at dksJ25_circularClear_1 18 rfl rfl)
theorem q144 : (Jvm.Cond.initialized "java/util/ArrayDeque") ∈ lw_all := lw_g (lw_at lw_m1 30 rfl) rfl
theorem q761 : (Jvm.Cond.selects "java/util/ArrayDeque" ({ cls := "java/lang/Object", name := "getClass", desc := "()Ljava/lang/Class;" } : Jvm.MethodName) ({ cls := "java/lang/Object", name := "getClass", desc := "()Ljava/lang/Class;" } : Jvm.MethodName)) ∈ lw_all := lw_g (lw_at lw_m3 167 rfl) rfl
theorem q821 : (Jvm.Cond.instantiable "java/util/ArrayDeque" (3 : Nat)) ∈ lw_all := lw_g (lw_at lw_m3 227 rfl) rfl
theorem q823 : (Jvm.Cond.instanceMethod ({ cls := "java/util/ArrayDeque", name := "<init>", desc := "()V" } : Jvm.MethodName)) ∈ lw_all := lw_g (lw_at lw_m3 229 rfl) rfl
theorem q824 : (Jvm.Cond.code ({ cls := "java/util/ArrayDeque", name := "<init>", desc := "()V" } : Jvm.MethodName) prog_44_method_3_code (1 : Nat) (Option.none : Option Jvm.ClassFile.FieldType)) ∈ lw_all := lw_g (lw_at lw_m3 230 rfl) rfl
theorem q825 : (Jvm.Cond.methodLink "java/util/ArrayDeque" (42 : Nat) ({ cls := "java/util/AbstractCollection", name := "<init>", desc := "()V" } : Jvm.MethodName)) ∈ lw_all := lw_g (lw_at lw_m3 231 rfl) rfl
theorem q826 : (Jvm.Cond.classLink "java/util/ArrayDeque" (47 : Nat) "java/lang/Object") ∈ lw_all := lw_g (lw_at lw_m3 232 rfl) rfl
theorem q827 : (Jvm.Cond.fieldLink "java/util/ArrayDeque" (3 : Nat) "java/util/ArrayDeque" "elements" "[Ljava/lang/Object;") ∈ lw_all := lw_g (lw_at lw_m3 233 rfl) rfl
theorem q828 : (Jvm.Cond.fieldLink "java/util/ArrayDeque" (24 : Nat) "java/util/ArrayDeque" "head" "I") ∈ lw_all := lw_g (lw_at lw_m3 234 rfl) rfl
theorem q829 : (Jvm.Cond.fieldLink "java/util/ArrayDeque" (20 : Nat) "java/util/ArrayDeque" "tail" "I") ∈ lw_all := lw_g (lw_at lw_m3 235 rfl) rfl
theorem q830 : (Jvm.Cond.lays "java/util/ArrayDeque" "java/util/ArrayDeque" "elements" "[Ljava/lang/Object;") ∈ lw_all := lw_g (lw_at lw_m3 236 rfl) rfl
theorem q831 : (Jvm.Cond.soleField "java/util/ArrayDeque" "elements") ∈ lw_all := lw_g (lw_at lw_m3 237 rfl) rfl
theorem q832 : (Jvm.Cond.lays "java/util/ArrayDeque" "java/util/ArrayDeque" "head" "I") ∈ lw_all := lw_g (lw_at lw_m3 238 rfl) rfl
theorem q833 : (Jvm.Cond.soleField "java/util/ArrayDeque" "head") ∈ lw_all := lw_g (lw_at lw_m3 239 rfl) rfl
theorem q834 : (Jvm.Cond.lays "java/util/ArrayDeque" "java/util/ArrayDeque" "tail" "I") ∈ lw_all := lw_g (lw_at lw_m4 0 rfl) rfl
theorem q835 : (Jvm.Cond.soleField "java/util/ArrayDeque" "tail") ∈ lw_all := lw_g (lw_at lw_m4 1 rfl) rfl
theorem q836 : (Jvm.Cond.superclass "java/util/ArrayDeque" "java/util/AbstractCollection") ∈ lw_all := lw_g (lw_at lw_m4 2 rfl) rfl
theorem q1535 : (Jvm.Cond.instanceMethod ({ cls := "java/util/ArrayDeque", name := "size", desc := "()I" } : Jvm.MethodName)) ∈ lw_all := lw_g (lw_at lw_m6 221 rfl) rfl
theorem q1536 : (Jvm.Cond.selects "java/util/ArrayDeque" ({ cls := "java/util/ArrayDeque", name := "size", desc := "()I" } : Jvm.MethodName) ({ cls := "java/util/ArrayDeque", name := "size", desc := "()I" } : Jvm.MethodName)) ∈ lw_all := lw_g (lw_at lw_m6 222 rfl) rfl
theorem q1537 : (Jvm.Cond.code ({ cls := "java/util/ArrayDeque", name := "size", desc := "()I" } : Jvm.MethodName) prog_44_method_37_code (1 : Nat) (Option.some Jvm.ClassFile.FieldType.int)) ∈ lw_all := lw_g (lw_at lw_m6 223 rfl) rfl
theorem q1538 : (Jvm.Cond.methodLink "java/util/ArrayDeque" (127 : Nat) ({ cls := "java/util/ArrayDeque", name := "sub", desc := "(III)I" } : Jvm.MethodName)) ∈ lw_all := lw_g (lw_at lw_m6 224 rfl) rfl
theorem q1539 : (Jvm.Cond.static ({ cls := "java/util/ArrayDeque", name := "sub", desc := "(III)I" } : Jvm.MethodName)) ∈ lw_all := lw_g (lw_at lw_m6 225 rfl) rfl
theorem q1540 : (Jvm.Cond.code ({ cls := "java/util/ArrayDeque", name := "sub", desc := "(III)I" } : Jvm.MethodName) prog_44_method_9_code (3 : Nat) (Option.some Jvm.ClassFile.FieldType.int)) ∈ lw_all := lw_g (lw_at lw_m6 226 rfl) rfl
theorem q1725 : (Jvm.Cond.instanceMethod ({ cls := "java/util/ArrayDeque", name := "addLast", desc := "(Ljava/lang/Object;)V" } : Jvm.MethodName)) ∈ lw_all := lw_g (lw_at lw_m7 171 rfl) rfl
theorem q1726 : (Jvm.Cond.selects "java/util/ArrayDeque" ({ cls := "java/util/ArrayDeque", name := "addLast", desc := "(Ljava/lang/Object;)V" } : Jvm.MethodName) ({ cls := "java/util/ArrayDeque", name := "addLast", desc := "(Ljava/lang/Object;)V" } : Jvm.MethodName)) ∈ lw_all := lw_g (lw_at lw_m7 172 rfl) rfl
theorem q1727 : (Jvm.Cond.code ({ cls := "java/util/ArrayDeque", name := "addLast", desc := "(Ljava/lang/Object;)V" } : Jvm.MethodName) prog_44_method_13_code (3 : Nat) (Option.none : Option Jvm.ClassFile.FieldType)) ∈ lw_all := lw_g (lw_at lw_m7 173 rfl) rfl
theorem q1728 : (Jvm.Cond.methodLink "java/util/ArrayDeque" (74 : Nat) ({ cls := "java/util/ArrayDeque", name := "inc", desc := "(II)I" } : Jvm.MethodName)) ∈ lw_all := lw_g (lw_at lw_m7 174 rfl) rfl
theorem q1729 : (Jvm.Cond.static ({ cls := "java/util/ArrayDeque", name := "inc", desc := "(II)I" } : Jvm.MethodName)) ∈ lw_all := lw_g (lw_at lw_m7 175 rfl) rfl
theorem q1730 : (Jvm.Cond.code ({ cls := "java/util/ArrayDeque", name := "inc", desc := "(II)I" } : Jvm.MethodName) prog_44_method_6_code (2 : Nat) (Option.some Jvm.ClassFile.FieldType.int)) ∈ lw_all := lw_g (lw_at lw_m7 176 rfl) rfl
theorem q1731 : (Jvm.Cond.methodLink "java/util/ArrayDeque" (71 : Nat) ({ cls := "java/util/ArrayDeque", name := "grow", desc := "(I)V" } : Jvm.MethodName)) ∈ lw_all := lw_g (lw_at lw_m7 177 rfl) rfl
theorem q1732 : (Jvm.Cond.privateMethod ({ cls := "java/util/ArrayDeque", name := "grow", desc := "(I)V" } : Jvm.MethodName)) ∈ lw_tbl := lw_at lw_m7 178 rfl
theorem q1733 : (Jvm.Cond.instanceMethod ({ cls := "java/util/ArrayDeque", name := "grow", desc := "(I)V" } : Jvm.MethodName)) ∈ lw_all := lw_g (lw_at lw_m7 179 rfl) rfl
theorem q1734 : (Jvm.Cond.code ({ cls := "java/util/ArrayDeque", name := "grow", desc := "(I)V" } : Jvm.MethodName) prog_44_method_1_code (9 : Nat) (Option.none : Option Jvm.ClassFile.FieldType)) ∈ lw_all := lw_g (lw_at lw_m7 180 rfl) rfl
theorem q1735 : (Jvm.Cond.constant "java/util/ArrayDeque" (9 : Nat) (2147483639 : Int32)) ∈ lw_all := lw_g (lw_at lw_m7 181 rfl) rfl
theorem q1736 : (Jvm.Cond.methodLink "java/util/ArrayDeque" (10 : Nat) ({ cls := "java/util/ArrayDeque", name := "newCapacity", desc := "(II)I" } : Jvm.MethodName)) ∈ lw_all := lw_g (lw_at lw_m7 182 rfl) rfl
theorem q1737 : (Jvm.Cond.privateMethod ({ cls := "java/util/ArrayDeque", name := "newCapacity", desc := "(II)I" } : Jvm.MethodName)) ∈ lw_tbl := lw_at lw_m7 183 rfl
theorem q1738 : (Jvm.Cond.instanceMethod ({ cls := "java/util/ArrayDeque", name := "newCapacity", desc := "(II)I" } : Jvm.MethodName)) ∈ lw_all := lw_g (lw_at lw_m7 184 rfl) rfl
theorem q1739 : (Jvm.Cond.code ({ cls := "java/util/ArrayDeque", name := "newCapacity", desc := "(II)I" } : Jvm.MethodName) prog_44_method_2_code (5 : Nat) (Option.some Jvm.ClassFile.FieldType.int)) ∈ lw_all := lw_g (lw_at lw_m7 185 rfl) rfl
theorem q1740 : (Jvm.Cond.classLink "java/util/ArrayDeque" (33 : Nat) "java/lang/IllegalStateException") ∈ lw_all := lw_g (lw_at lw_m7 186 rfl) rfl
theorem q1741 : (Jvm.Cond.stringRef "java/util/ArrayDeque" (35 : Nat) "Sorry, deque too big") ∈ lw_tbl := lw_at lw_m7 187 rfl
theorem q1742 : (Jvm.Cond.methodLink "java/util/ArrayDeque" (37 : Nat) ({ cls := "java/lang/IllegalStateException", name := "<init>", desc := "(Ljava/lang/String;)V" } : Jvm.MethodName)) ∈ lw_all := lw_g (lw_at lw_m7 188 rfl) rfl
theorem q1746 : (Jvm.Cond.constant "java/util/ArrayDeque" (41 : Nat) (2147483647 : Int32)) ∈ lw_all := lw_g (lw_at lw_m7 192 rfl) rfl
theorem q1747 : (Jvm.Cond.methodLink "java/util/ArrayDeque" (14 : Nat) ({ cls := "java/util/Arrays", name := "copyOf", desc := "([Ljava/lang/Object;I)[Ljava/lang/Object;" } : Jvm.MethodName)) ∈ lw_all := lw_g (lw_at lw_m7 193 rfl) rfl
theorem q1748 : (Jvm.Cond.methodLink "java/util/ArrayDeque" (27 : Nat) ({ cls := "java/lang/System", name := "arraycopy", desc := "(Ljava/lang/Object;ILjava/lang/Object;II)V" } : Jvm.MethodName)) ∈ lw_all := lw_g (lw_at lw_m7 194 rfl) rfl
theorem q1750 : (Jvm.Cond.instanceMethod ({ cls := "java/util/ArrayDeque", name := "removeFirst", desc := "()Ljava/lang/Object;" } : Jvm.MethodName)) ∈ lw_all := lw_g (lw_at lw_m7 196 rfl) rfl
theorem q1751 : (Jvm.Cond.selects "java/util/ArrayDeque" ({ cls := "java/util/ArrayDeque", name := "removeFirst", desc := "()Ljava/lang/Object;" } : Jvm.MethodName) ({ cls := "java/util/ArrayDeque", name := "removeFirst", desc := "()Ljava/lang/Object;" } : Jvm.MethodName)) ∈ lw_all := lw_g (lw_at lw_m7 197 rfl) rfl
theorem q1752 : (Jvm.Cond.code ({ cls := "java/util/ArrayDeque", name := "removeFirst", desc := "()Ljava/lang/Object;" } : Jvm.MethodName) prog_44_method_18_code (2 : Nat) (Option.some (Jvm.ClassFile.FieldType.object "java/lang/Object"))) ∈ lw_all := lw_g (lw_at lw_m7 198 rfl) rfl
theorem q1753 : (Jvm.Cond.methodLink "java/util/ArrayDeque" (93 : Nat) ({ cls := "java/util/ArrayDeque", name := "pollFirst", desc := "()Ljava/lang/Object;" } : Jvm.MethodName)) ∈ lw_all := lw_g (lw_at lw_m7 199 rfl) rfl
theorem q1754 : (Jvm.Cond.instanceMethod ({ cls := "java/util/ArrayDeque", name := "pollFirst", desc := "()Ljava/lang/Object;" } : Jvm.MethodName)) ∈ lw_all := lw_g (lw_at lw_m7 200 rfl) rfl
theorem q1755 : (Jvm.Cond.selects "java/util/ArrayDeque" ({ cls := "java/util/ArrayDeque", name := "pollFirst", desc := "()Ljava/lang/Object;" } : Jvm.MethodName) ({ cls := "java/util/ArrayDeque", name := "pollFirst", desc := "()Ljava/lang/Object;" } : Jvm.MethodName)) ∈ lw_all := lw_g (lw_at lw_m7 201 rfl) rfl
theorem q1756 : (Jvm.Cond.code ({ cls := "java/util/ArrayDeque", name := "pollFirst", desc := "()Ljava/lang/Object;" } : Jvm.MethodName) prog_44_method_20_code (4 : Nat) (Option.some (Jvm.ClassFile.FieldType.object "java/lang/Object"))) ∈ lw_all := lw_g (lw_at lw_m7 202 rfl) rfl
theorem q1757 : (Jvm.Cond.methodLink "java/util/ArrayDeque" (103 : Nat) ({ cls := "java/util/ArrayDeque", name := "elementAt", desc := "([Ljava/lang/Object;I)Ljava/lang/Object;" } : Jvm.MethodName)) ∈ lw_all := lw_g (lw_at lw_m7 203 rfl) rfl
theorem q1758 : (Jvm.Cond.static ({ cls := "java/util/ArrayDeque", name := "elementAt", desc := "([Ljava/lang/Object;I)Ljava/lang/Object;" } : Jvm.MethodName)) ∈ lw_all := lw_g (lw_at lw_m7 204 rfl) rfl
theorem q1759 : (Jvm.Cond.code ({ cls := "java/util/ArrayDeque", name := "elementAt", desc := "([Ljava/lang/Object;I)Ljava/lang/Object;" } : Jvm.MethodName) prog_44_method_10_code (2 : Nat) (Option.some (Jvm.ClassFile.FieldType.object "java/lang/Object"))) ∈ lw_all := lw_g (lw_at lw_m7 205 rfl) rfl
theorem q1760 : (Jvm.Cond.classLink "java/util/ArrayDeque" (97 : Nat) "java/util/NoSuchElementException") ∈ lw_all := lw_g (lw_at lw_m7 206 rfl) rfl
theorem q1761 : (Jvm.Cond.methodLink "java/util/ArrayDeque" (99 : Nat) ({ cls := "java/util/NoSuchElementException", name := "<init>", desc := "()V" } : Jvm.MethodName)) ∈ lw_all := lw_g (lw_at lw_m7 207 rfl) rfl
theorem q2580 : (Jvm.Cond.instanceMethod ({ cls := "java/util/ArrayDeque", name := "isEmpty", desc := "()Z" } : Jvm.MethodName)) ∈ lw_all := lw_g (lw_at lw_m11 66 rfl) rfl
theorem q2581 : (Jvm.Cond.selects "java/util/ArrayDeque" ({ cls := "java/util/ArrayDeque", name := "isEmpty", desc := "()Z" } : Jvm.MethodName) ({ cls := "java/util/ArrayDeque", name := "isEmpty", desc := "()Z" } : Jvm.MethodName)) ∈ lw_all := lw_g (lw_at lw_m11 67 rfl) rfl
theorem q2582 : (Jvm.Cond.code ({ cls := "java/util/ArrayDeque", name := "isEmpty", desc := "()Z" } : Jvm.MethodName) prog_44_method_38_code (1 : Nat) (Option.some Jvm.ClassFile.FieldType.boolean)) ∈ lw_all := lw_g (lw_at lw_m11 68 rfl) rfl
theorem q2584 : (Jvm.Cond.instanceMethod ({ cls := "java/util/ArrayDeque", name := "removeLast", desc := "()Ljava/lang/Object;" } : Jvm.MethodName)) ∈ lw_all := lw_g (lw_at lw_m11 70 rfl) rfl
theorem q2585 : (Jvm.Cond.selects "java/util/ArrayDeque" ({ cls := "java/util/ArrayDeque", name := "removeLast", desc := "()Ljava/lang/Object;" } : Jvm.MethodName) ({ cls := "java/util/ArrayDeque", name := "removeLast", desc := "()Ljava/lang/Object;" } : Jvm.MethodName)) ∈ lw_all := lw_g (lw_at lw_m11 71 rfl) rfl
theorem q2586 : (Jvm.Cond.code ({ cls := "java/util/ArrayDeque", name := "removeLast", desc := "()Ljava/lang/Object;" } : Jvm.MethodName) prog_44_method_19_code (2 : Nat) (Option.some (Jvm.ClassFile.FieldType.object "java/lang/Object"))) ∈ lw_all := lw_g (lw_at lw_m11 72 rfl) rfl
theorem q2587 : (Jvm.Cond.methodLink "java/util/ArrayDeque" (100 : Nat) ({ cls := "java/util/ArrayDeque", name := "pollLast", desc := "()Ljava/lang/Object;" } : Jvm.MethodName)) ∈ lw_all := lw_g (lw_at lw_m11 73 rfl) rfl
theorem q2588 : (Jvm.Cond.instanceMethod ({ cls := "java/util/ArrayDeque", name := "pollLast", desc := "()Ljava/lang/Object;" } : Jvm.MethodName)) ∈ lw_all := lw_g (lw_at lw_m11 74 rfl) rfl
theorem q2589 : (Jvm.Cond.selects "java/util/ArrayDeque" ({ cls := "java/util/ArrayDeque", name := "pollLast", desc := "()Ljava/lang/Object;" } : Jvm.MethodName) ({ cls := "java/util/ArrayDeque", name := "pollLast", desc := "()Ljava/lang/Object;" } : Jvm.MethodName)) ∈ lw_all := lw_g (lw_at lw_m11 75 rfl) rfl
theorem q2590 : (Jvm.Cond.code ({ cls := "java/util/ArrayDeque", name := "pollLast", desc := "()Ljava/lang/Object;" } : Jvm.MethodName) prog_44_method_21_code (4 : Nat) (Option.some (Jvm.ClassFile.FieldType.object "java/lang/Object"))) ∈ lw_all := lw_g (lw_at lw_m11 76 rfl) rfl
theorem q2591 : (Jvm.Cond.methodLink "java/util/ArrayDeque" (68 : Nat) ({ cls := "java/util/ArrayDeque", name := "dec", desc := "(II)I" } : Jvm.MethodName)) ∈ lw_all := lw_g (lw_at lw_m11 77 rfl) rfl
theorem q2592 : (Jvm.Cond.static ({ cls := "java/util/ArrayDeque", name := "dec", desc := "(II)I" } : Jvm.MethodName)) ∈ lw_all := lw_g (lw_at lw_m11 78 rfl) rfl
theorem q2593 : (Jvm.Cond.code ({ cls := "java/util/ArrayDeque", name := "dec", desc := "(II)I" } : Jvm.MethodName) prog_44_method_7_code (2 : Nat) (Option.some Jvm.ClassFile.FieldType.int)) ∈ lw_all := lw_g (lw_at lw_m11 79 rfl) rfl
theorem q2602 : (Jvm.Cond.instanceMethod ({ cls := "java/util/ArrayDeque", name := "clear", desc := "()V" } : Jvm.MethodName)) ∈ lw_all := lw_g (lw_at lw_m11 88 rfl) rfl
theorem q2603 : (Jvm.Cond.selects "java/util/ArrayDeque" ({ cls := "java/util/ArrayDeque", name := "clear", desc := "()V" } : Jvm.MethodName) ({ cls := "java/util/ArrayDeque", name := "clear", desc := "()V" } : Jvm.MethodName)) ∈ lw_all := lw_g (lw_at lw_m11 89 rfl) rfl
theorem q2604 : (Jvm.Cond.code ({ cls := "java/util/ArrayDeque", name := "clear", desc := "()V" } : Jvm.MethodName) prog_44_method_53_code (1 : Nat) (Option.none : Option Jvm.ClassFile.FieldType)) ∈ lw_all := lw_g (lw_at lw_m11 90 rfl) rfl
theorem q2605 : (Jvm.Cond.methodLink "java/util/ArrayDeque" (181 : Nat) ({ cls := "java/util/ArrayDeque", name := "circularClear", desc := "([Ljava/lang/Object;II)V" } : Jvm.MethodName)) ∈ lw_all := lw_g (lw_at lw_m11 91 rfl) rfl
theorem q2606 : (Jvm.Cond.static ({ cls := "java/util/ArrayDeque", name := "circularClear", desc := "([Ljava/lang/Object;II)V" } : Jvm.MethodName)) ∈ lw_all := lw_g (lw_at lw_m11 92 rfl) rfl
theorem q2607 : (Jvm.Cond.code ({ cls := "java/util/ArrayDeque", name := "circularClear", desc := "([Ljava/lang/Object;II)V" } : Jvm.MethodName) prog_44_method_54_code (4 : Nat) (Option.none : Option Jvm.ClassFile.FieldType)) ∈ lw_all := lw_g (lw_at lw_m11 93 rfl) rfl
theorem q3240 : (Jvm.Cond.castable "java/util/ArrayDeque" "java/lang/Object") ∈ lw_tbl := lw_at lw_m14 6 rfl
theorem in_J25 : ∀ w ∈ wsJ250, w ∈ lw_all := lw_in wsJ250 [830, 832, 834] (by decide +kernel) (by decide +kernel)

/-! java/lang/ArrayIndexOutOfBoundsException -/
set_option maxRecDepth 100000
def RJ26 : String := "java/lang/ArrayIndexOutOfBoundsException"
def TJ26 : u_T := fun k => match k with
  | 0 => ("java/lang/Throwable", "cause", "Ljava/lang/Throwable;", false)
  | 1 => ("java/lang/Throwable", "stackTrace", "[Ljava/lang/StackTraceElement;", false)
  | 2 => ("java/lang/Throwable", "suppressedExceptions", "Ljava/util/List;", false)
  | 3 => ("java/lang/Throwable", "detailMessage", "Ljava/lang/String;", false)
  | 4 => ("java/lang/Throwable", "backtrace", "Ljava/lang/Object;", false)
  | _ => ("java/lang/Throwable", "depth", "I", false)
def tyJ26 : Nat → FieldType := fun k => match k with
  | 0 => .object "java/lang/Throwable"
  | 1 => .array (.object "java/lang/StackTraceElement")
  | 2 => .object "java/util/List"
  | 3 => .object "java/lang/String"
  | 4 => .object "java/lang/Object"
  | _ => .int
abbrev wsJ260 : List Cond := u_ws RJ26 TJ26 6
theorem nmJ26 : ∀ a, a < 6 → ∀ b, b < 6 → a ≠ b → (TJ26 a).2.1 ≠ (TJ26 b).2.1 := by decide +kernel
theorem tyJ26_ok : ∀ k, k < 6 → parseFieldDescriptor (TJ26 k).2.2.1 = some (tyJ26 k) := by decide +kernel
abbrev cJ26_init : ByteArray := prog_17_method_3_code
def yJ26_init : MethodName := ⟨RJ26, "<init>", "(I)V"⟩
def dkwJ26_init_0 : List UInt8 := [42, 187, 0, 10, 89, 183, 0, 12, 18, 13, 182, 0, 15, 27, 182, 0, 19, 182, 0, 22, 183, 0, 7, 177]
abbrev dktJ26_init_0 : List UInt8 := dkwJ26_init_0 ++ []
theorem dksJ26_init_0 : cJ26_init.data.toList.drop 0 = dktJ26_init_0 := by decide +kernel
theorem dJ26_init_0 : decode cJ26_init 0 = .ok (.aload_n 0, 1) := dk_42 (dk_at dksJ26_init_0 0 rfl rfl)
theorem dJ26_init_1 : decode cJ26_init 1 = .ok (.new 10, 3) := dk_187 0 10 (dk_at dksJ26_init_0 1 rfl rfl)
theorem dJ26_init_4 : decode cJ26_init 4 = .ok (.dup, 1) := dk_89 (dk_at dksJ26_init_0 4 rfl rfl)
theorem dJ26_init_5 : decode cJ26_init 5 = .ok (.invokespecial 12, 3) := dk_183 0 12 (dk_at dksJ26_init_0 5 rfl rfl)
theorem dJ26_init_8 : decode cJ26_init 8 = .ok (.ldc 13, 2) := dk_18 13 (dk_at dksJ26_init_0 8 rfl rfl)
theorem dJ26_init_10 : decode cJ26_init 10 = .ok (.invokevirtual 15, 3) := dk_182 0 15 (dk_at dksJ26_init_0 10 rfl rfl)
theorem dJ26_init_13 : decode cJ26_init 13 = .ok (.iload_n 1, 1) := dk_27 (dk_at dksJ26_init_0 13 rfl rfl)
theorem dJ26_init_14 : decode cJ26_init 14 = .ok (.invokevirtual 19, 3) := dk_182 0 19 (dk_at dksJ26_init_0 14 rfl rfl)
theorem dJ26_init_17 : decode cJ26_init 17 = .ok (.invokevirtual 22, 3) := dk_182 0 22 (dk_at dksJ26_init_0 17 rfl rfl)
theorem dJ26_init_20 : decode cJ26_init 20 = .ok (.invokespecial 7, 3) := dk_183 0 7 (dk_at dksJ26_init_0 20 rfl rfl)
theorem dJ26_init_23 : decode cJ26_init 23 = .ok (.return_, 1) := dk_177 (dk_at dksJ26_init_0 23 rfl rfl)
abbrev cJ26_init_2 : ByteArray := prog_17_method_2_code
def yJ26_init_2 : MethodName := ⟨RJ26, "<init>", "(Ljava/lang/String;)V"⟩
def dkwJ26_init_2_0 : List UInt8 := [42, 43, 183, 0, 7, 177]
abbrev dktJ26_init_2_0 : List UInt8 := dkwJ26_init_2_0 ++ []
theorem dksJ26_init_2_0 : cJ26_init_2.data.toList.drop 0 = dktJ26_init_2_0 := by decide +kernel
theorem dJ26_init_2_0 : decode cJ26_init_2 0 = .ok (.aload_n 0, 1) := dk_42 (dk_at dksJ26_init_2_0 0 rfl rfl)
theorem dJ26_init_2_1 : decode cJ26_init_2 1 = .ok (.aload_n 1, 1) := dk_43 (dk_at dksJ26_init_2_0 1 rfl rfl)
theorem dJ26_init_2_2 : decode cJ26_init_2 2 = .ok (.invokespecial 7, 3) := dk_183 0 7 (dk_at dksJ26_init_2_0 2 rfl rfl)
theorem dJ26_init_2_5 : decode cJ26_init_2 5 = .ok (.return_, 1) := dk_177 (dk_at dksJ26_init_2_0 5 rfl rfl)
theorem q146 : (Jvm.Cond.initialized "java/lang/ArrayIndexOutOfBoundsException") ∈ lw_all := lw_g (lw_at lw_m1 32 rfl) rfl
theorem q349 : (Jvm.Cond.selects "java/lang/ArrayIndexOutOfBoundsException" ({ cls := "java/lang/Throwable", name := "fillInStackTrace", desc := "()Ljava/lang/Throwable;" } : Jvm.MethodName) ({ cls := "java/lang/Throwable", name := "fillInStackTrace", desc := "()Ljava/lang/Throwable;" } : Jvm.MethodName)) ∈ lw_all := lw_g (lw_at lw_m1 235 rfl) rfl
theorem q752 : (Jvm.Cond.selects "java/lang/ArrayIndexOutOfBoundsException" ({ cls := "java/lang/Object", name := "getClass", desc := "()Ljava/lang/Class;" } : Jvm.MethodName) ({ cls := "java/lang/Object", name := "getClass", desc := "()Ljava/lang/Class;" } : Jvm.MethodName)) ∈ lw_all := lw_g (lw_at lw_m3 158 rfl) rfl
theorem q1504 : (Jvm.Cond.instantiable "java/lang/ArrayIndexOutOfBoundsException" (6 : Nat)) ∈ lw_all := lw_g (lw_at lw_m6 190 rfl) rfl
theorem q1505 : (Jvm.Cond.castable "java/lang/ArrayIndexOutOfBoundsException" "java/lang/ArrayIndexOutOfBoundsException") ∈ lw_tbl := lw_at lw_m6 191 rfl
theorem q1508 : (Jvm.Cond.selects "java/lang/ArrayIndexOutOfBoundsException" ({ cls := "java/lang/Throwable", name := "fillInStackTrace", desc := "(I)Ljava/lang/Throwable;" } : Jvm.MethodName) ({ cls := "java/lang/Throwable", name := "fillInStackTrace", desc := "(I)Ljava/lang/Throwable;" } : Jvm.MethodName)) ∈ lw_all := lw_g (lw_at lw_m6 194 rfl) rfl
theorem q1509 : (Jvm.Cond.lays "java/lang/ArrayIndexOutOfBoundsException" "java/lang/Throwable" "cause" "Ljava/lang/Throwable;") ∈ lw_all := lw_g (lw_at lw_m6 195 rfl) rfl
theorem q1510 : (Jvm.Cond.lays "java/lang/ArrayIndexOutOfBoundsException" "java/lang/Throwable" "stackTrace" "[Ljava/lang/StackTraceElement;") ∈ lw_all := lw_g (lw_at lw_m6 196 rfl) rfl
theorem q1511 : (Jvm.Cond.lays "java/lang/ArrayIndexOutOfBoundsException" "java/lang/Throwable" "suppressedExceptions" "Ljava/util/List;") ∈ lw_all := lw_g (lw_at lw_m6 197 rfl) rfl
theorem q1512 : (Jvm.Cond.lays "java/lang/ArrayIndexOutOfBoundsException" "java/lang/Throwable" "detailMessage" "Ljava/lang/String;") ∈ lw_all := lw_g (lw_at lw_m6 198 rfl) rfl
theorem q1513 : (Jvm.Cond.lays "java/lang/ArrayIndexOutOfBoundsException" "java/lang/Throwable" "backtrace" "Ljava/lang/Object;") ∈ lw_all := lw_g (lw_at lw_m6 199 rfl) rfl
theorem q1515 : (Jvm.Cond.instanceMethod ({ cls := "java/lang/ArrayIndexOutOfBoundsException", name := "<init>", desc := "(I)V" } : Jvm.MethodName)) ∈ lw_all := lw_g (lw_at lw_m6 201 rfl) rfl
theorem q1516 : (Jvm.Cond.code ({ cls := "java/lang/ArrayIndexOutOfBoundsException", name := "<init>", desc := "(I)V" } : Jvm.MethodName) prog_17_method_3_code (2 : Nat) (Option.none : Option Jvm.ClassFile.FieldType)) ∈ lw_all := lw_g (lw_at lw_m6 202 rfl) rfl
theorem q1517 : (Jvm.Cond.classLink "java/lang/ArrayIndexOutOfBoundsException" (10 : Nat) "java/lang/StringBuilder") ∈ lw_all := lw_g (lw_at lw_m6 203 rfl) rfl
theorem q1518 : (Jvm.Cond.methodLink "java/lang/ArrayIndexOutOfBoundsException" (12 : Nat) ({ cls := "java/lang/StringBuilder", name := "<init>", desc := "()V" } : Jvm.MethodName)) ∈ lw_all := lw_g (lw_at lw_m6 204 rfl) rfl
theorem q1519 : (Jvm.Cond.stringRef "java/lang/ArrayIndexOutOfBoundsException" (13 : Nat) "Array index out of range: ") ∈ lw_tbl := lw_at lw_m6 205 rfl
theorem q1520 : (Jvm.Cond.methodLink "java/lang/ArrayIndexOutOfBoundsException" (15 : Nat) ({ cls := "java/lang/StringBuilder", name := "append", desc := "(Ljava/lang/String;)Ljava/lang/StringBuilder;" } : Jvm.MethodName)) ∈ lw_all := lw_g (lw_at lw_m6 206 rfl) rfl
theorem q1521 : (Jvm.Cond.methodLink "java/lang/ArrayIndexOutOfBoundsException" (19 : Nat) ({ cls := "java/lang/StringBuilder", name := "append", desc := "(I)Ljava/lang/StringBuilder;" } : Jvm.MethodName)) ∈ lw_all := lw_g (lw_at lw_m6 207 rfl) rfl
theorem q1522 : (Jvm.Cond.methodLink "java/lang/ArrayIndexOutOfBoundsException" (22 : Nat) ({ cls := "java/lang/StringBuilder", name := "toString", desc := "()Ljava/lang/String;" } : Jvm.MethodName)) ∈ lw_all := lw_g (lw_at lw_m6 208 rfl) rfl
theorem q1523 : (Jvm.Cond.methodLink "java/lang/ArrayIndexOutOfBoundsException" (7 : Nat) ({ cls := "java/lang/IndexOutOfBoundsException", name := "<init>", desc := "(Ljava/lang/String;)V" } : Jvm.MethodName)) ∈ lw_all := lw_g (lw_at lw_m6 209 rfl) rfl
theorem q1524 : (Jvm.Cond.lays "java/lang/ArrayIndexOutOfBoundsException" "java/lang/Throwable" "depth" "I") ∈ lw_all := lw_g (lw_at lw_m6 210 rfl) rfl
theorem q1525 : (Jvm.Cond.superclass "java/lang/ArrayIndexOutOfBoundsException" "java/lang/IndexOutOfBoundsException") ∈ lw_all := lw_g (lw_at lw_m6 211 rfl) rfl
theorem q1562 : (Jvm.Cond.instanceMethod ({ cls := "java/lang/ArrayIndexOutOfBoundsException", name := "<init>", desc := "(Ljava/lang/String;)V" } : Jvm.MethodName)) ∈ lw_all := lw_g (lw_at lw_m7 8 rfl) rfl
theorem q1563 : (Jvm.Cond.code ({ cls := "java/lang/ArrayIndexOutOfBoundsException", name := "<init>", desc := "(Ljava/lang/String;)V" } : Jvm.MethodName) prog_17_method_2_code (2 : Nat) (Option.none : Option Jvm.ClassFile.FieldType)) ∈ lw_all := lw_g (lw_at lw_m7 9 rfl) rfl
theorem q1843 : (Jvm.Cond.selects "java/lang/ArrayIndexOutOfBoundsException" ({ cls := "java/lang/Object", name := "equals", desc := "(Ljava/lang/Object;)Z" } : Jvm.MethodName) ({ cls := "java/lang/Object", name := "equals", desc := "(Ljava/lang/Object;)Z" } : Jvm.MethodName)) ∈ lw_all := lw_g (lw_at lw_m8 49 rfl) rfl
theorem q2466 : (Jvm.Cond.selects "java/lang/ArrayIndexOutOfBoundsException" ({ cls := "java/lang/Throwable", name := "getLocalizedMessage", desc := "()Ljava/lang/String;" } : Jvm.MethodName) ({ cls := "java/lang/Throwable", name := "getLocalizedMessage", desc := "()Ljava/lang/String;" } : Jvm.MethodName)) ∈ lw_all := lw_g (lw_at lw_m10 192 rfl) rfl
theorem q2478 : (Jvm.Cond.selects "java/lang/ArrayIndexOutOfBoundsException" ({ cls := "java/lang/Throwable", name := "getMessage", desc := "()Ljava/lang/String;" } : Jvm.MethodName) ({ cls := "java/lang/Throwable", name := "getMessage", desc := "()Ljava/lang/String;" } : Jvm.MethodName)) ∈ lw_all := lw_g (lw_at lw_m10 204 rfl) rfl
theorem q2491 : (Jvm.Cond.selects "java/lang/ArrayIndexOutOfBoundsException" ({ cls := "java/lang/Object", name := "toString", desc := "()Ljava/lang/String;" } : Jvm.MethodName) ({ cls := "java/lang/Throwable", name := "toString", desc := "()Ljava/lang/String;" } : Jvm.MethodName)) ∈ lw_all := lw_g (lw_at lw_m10 217 rfl) rfl
theorem q3232 : (Jvm.Cond.castable "java/lang/ArrayIndexOutOfBoundsException" "java/lang/IndexOutOfBoundsException") ∈ lw_tbl := lw_at lw_m13 238 rfl
theorem q3243 : (Jvm.Cond.castable "java/lang/ArrayIndexOutOfBoundsException" "java/lang/Object") ∈ lw_tbl := lw_at lw_m14 9 rfl
theorem in_J26 : ∀ w ∈ wsJ260, w ∈ lw_all := lw_in wsJ260 [1509, 1510, 1511, 1512, 1513, 1524] (by decide +kernel) (by decide +kernel)

/-! java/lang/StringIndexOutOfBoundsException -/
set_option maxRecDepth 100000
def RJ27 : String := "java/lang/StringIndexOutOfBoundsException"
def TJ27 : u_T := fun k => match k with
  | 0 => ("java/lang/Throwable", "backtrace", "Ljava/lang/Object;", false)
  | 1 => ("java/lang/Throwable", "detailMessage", "Ljava/lang/String;", false)
  | 2 => ("java/lang/Throwable", "cause", "Ljava/lang/Throwable;", false)
  | 3 => ("java/lang/Throwable", "stackTrace", "[Ljava/lang/StackTraceElement;", false)
  | 4 => ("java/lang/Throwable", "depth", "I", false)
  | _ => ("java/lang/Throwable", "suppressedExceptions", "Ljava/util/List;", false)
def tyJ27 : Nat → FieldType := fun k => match k with
  | 0 => .object "java/lang/Object"
  | 1 => .object "java/lang/String"
  | 2 => .object "java/lang/Throwable"
  | 3 => .array (.object "java/lang/StackTraceElement")
  | 4 => .int
  | _ => .object "java/util/List"
abbrev wsJ270 : List Cond := u_ws RJ27 TJ27 6
theorem nmJ27 : ∀ a, a < 6 → ∀ b, b < 6 → a ≠ b → (TJ27 a).2.1 ≠ (TJ27 b).2.1 := by decide +kernel
theorem tyJ27_ok : ∀ k, k < 6 → parseFieldDescriptor (TJ27 k).2.2.1 = some (tyJ27 k) := by decide +kernel
abbrev cJ27_init : ByteArray := prog_34_method_3_code
def yJ27_init : MethodName := ⟨RJ27, "<init>", "(I)V"⟩
def dkwJ27_init_0 : List UInt8 := [42, 187, 0, 10, 89, 183, 0, 12, 18, 13, 182, 0, 15, 27, 182, 0, 19, 182, 0, 22, 183, 0, 7, 177]
abbrev dktJ27_init_0 : List UInt8 := dkwJ27_init_0 ++ []
theorem dksJ27_init_0 : cJ27_init.data.toList.drop 0 = dktJ27_init_0 := by decide +kernel
theorem dJ27_init_0 : decode cJ27_init 0 = .ok (.aload_n 0, 1) := dk_42 (dk_at dksJ27_init_0 0 rfl rfl)
theorem dJ27_init_1 : decode cJ27_init 1 = .ok (.new 10, 3) := dk_187 0 10 (dk_at dksJ27_init_0 1 rfl rfl)
theorem dJ27_init_4 : decode cJ27_init 4 = .ok (.dup, 1) := dk_89 (dk_at dksJ27_init_0 4 rfl rfl)
theorem dJ27_init_5 : decode cJ27_init 5 = .ok (.invokespecial 12, 3) := dk_183 0 12 (dk_at dksJ27_init_0 5 rfl rfl)
theorem dJ27_init_8 : decode cJ27_init 8 = .ok (.ldc 13, 2) := dk_18 13 (dk_at dksJ27_init_0 8 rfl rfl)
theorem dJ27_init_10 : decode cJ27_init 10 = .ok (.invokevirtual 15, 3) := dk_182 0 15 (dk_at dksJ27_init_0 10 rfl rfl)
theorem dJ27_init_13 : decode cJ27_init 13 = .ok (.iload_n 1, 1) := dk_27 (dk_at dksJ27_init_0 13 rfl rfl)
theorem dJ27_init_14 : decode cJ27_init 14 = .ok (.invokevirtual 19, 3) := dk_182 0 19 (dk_at dksJ27_init_0 14 rfl rfl)
theorem dJ27_init_17 : decode cJ27_init 17 = .ok (.invokevirtual 22, 3) := dk_182 0 22 (dk_at dksJ27_init_0 17 rfl rfl)
theorem dJ27_init_20 : decode cJ27_init 20 = .ok (.invokespecial 7, 3) := dk_183 0 7 (dk_at dksJ27_init_0 20 rfl rfl)
theorem dJ27_init_23 : decode cJ27_init 23 = .ok (.return_, 1) := dk_177 (dk_at dksJ27_init_0 23 rfl rfl)
theorem q148 : (Jvm.Cond.initialized "java/lang/StringIndexOutOfBoundsException") ∈ lw_all := lw_g (lw_at lw_m1 34 rfl) rfl
theorem q353 : (Jvm.Cond.selects "java/lang/StringIndexOutOfBoundsException" ({ cls := "java/lang/Throwable", name := "fillInStackTrace", desc := "()Ljava/lang/Throwable;" } : Jvm.MethodName) ({ cls := "java/lang/Throwable", name := "fillInStackTrace", desc := "()Ljava/lang/Throwable;" } : Jvm.MethodName)) ∈ lw_all := lw_g (lw_at lw_m1 239 rfl) rfl
theorem q759 : (Jvm.Cond.selects "java/lang/StringIndexOutOfBoundsException" ({ cls := "java/lang/Object", name := "getClass", desc := "()Ljava/lang/Class;" } : Jvm.MethodName) ({ cls := "java/lang/Object", name := "getClass", desc := "()Ljava/lang/Class;" } : Jvm.MethodName)) ∈ lw_all := lw_g (lw_at lw_m3 165 rfl) rfl
theorem q1473 : (Jvm.Cond.instantiable "java/lang/StringIndexOutOfBoundsException" (6 : Nat)) ∈ lw_all := lw_g (lw_at lw_m6 159 rfl) rfl
theorem q1475 : (Jvm.Cond.instanceMethod ({ cls := "java/lang/StringIndexOutOfBoundsException", name := "<init>", desc := "(I)V" } : Jvm.MethodName)) ∈ lw_all := lw_g (lw_at lw_m6 161 rfl) rfl
theorem q1476 : (Jvm.Cond.code ({ cls := "java/lang/StringIndexOutOfBoundsException", name := "<init>", desc := "(I)V" } : Jvm.MethodName) prog_34_method_3_code (2 : Nat) (Option.none : Option Jvm.ClassFile.FieldType)) ∈ lw_all := lw_g (lw_at lw_m6 162 rfl) rfl
theorem q1477 : (Jvm.Cond.classLink "java/lang/StringIndexOutOfBoundsException" (10 : Nat) "java/lang/StringBuilder") ∈ lw_all := lw_g (lw_at lw_m6 163 rfl) rfl
theorem q1478 : (Jvm.Cond.methodLink "java/lang/StringIndexOutOfBoundsException" (12 : Nat) ({ cls := "java/lang/StringBuilder", name := "<init>", desc := "()V" } : Jvm.MethodName)) ∈ lw_all := lw_g (lw_at lw_m6 164 rfl) rfl
theorem q1479 : (Jvm.Cond.stringRef "java/lang/StringIndexOutOfBoundsException" (13 : Nat) "String index out of range: ") ∈ lw_tbl := lw_at lw_m6 165 rfl
theorem q1480 : (Jvm.Cond.methodLink "java/lang/StringIndexOutOfBoundsException" (15 : Nat) ({ cls := "java/lang/StringBuilder", name := "append", desc := "(Ljava/lang/String;)Ljava/lang/StringBuilder;" } : Jvm.MethodName)) ∈ lw_all := lw_g (lw_at lw_m6 166 rfl) rfl
theorem q1481 : (Jvm.Cond.methodLink "java/lang/StringIndexOutOfBoundsException" (19 : Nat) ({ cls := "java/lang/StringBuilder", name := "append", desc := "(I)Ljava/lang/StringBuilder;" } : Jvm.MethodName)) ∈ lw_all := lw_g (lw_at lw_m6 167 rfl) rfl
theorem q1482 : (Jvm.Cond.methodLink "java/lang/StringIndexOutOfBoundsException" (22 : Nat) ({ cls := "java/lang/StringBuilder", name := "toString", desc := "()Ljava/lang/String;" } : Jvm.MethodName)) ∈ lw_all := lw_g (lw_at lw_m6 168 rfl) rfl
theorem q1483 : (Jvm.Cond.methodLink "java/lang/StringIndexOutOfBoundsException" (7 : Nat) ({ cls := "java/lang/IndexOutOfBoundsException", name := "<init>", desc := "(Ljava/lang/String;)V" } : Jvm.MethodName)) ∈ lw_all := lw_g (lw_at lw_m6 169 rfl) rfl
theorem q1484 : (Jvm.Cond.lays "java/lang/StringIndexOutOfBoundsException" "java/lang/Throwable" "backtrace" "Ljava/lang/Object;") ∈ lw_all := lw_g (lw_at lw_m6 170 rfl) rfl
theorem q1485 : (Jvm.Cond.lays "java/lang/StringIndexOutOfBoundsException" "java/lang/Throwable" "detailMessage" "Ljava/lang/String;") ∈ lw_all := lw_g (lw_at lw_m6 171 rfl) rfl
theorem q1486 : (Jvm.Cond.lays "java/lang/StringIndexOutOfBoundsException" "java/lang/Throwable" "cause" "Ljava/lang/Throwable;") ∈ lw_all := lw_g (lw_at lw_m6 172 rfl) rfl
theorem q1487 : (Jvm.Cond.lays "java/lang/StringIndexOutOfBoundsException" "java/lang/Throwable" "stackTrace" "[Ljava/lang/StackTraceElement;") ∈ lw_all := lw_g (lw_at lw_m6 173 rfl) rfl
theorem q1488 : (Jvm.Cond.lays "java/lang/StringIndexOutOfBoundsException" "java/lang/Throwable" "depth" "I") ∈ lw_all := lw_g (lw_at lw_m6 174 rfl) rfl
theorem q1489 : (Jvm.Cond.lays "java/lang/StringIndexOutOfBoundsException" "java/lang/Throwable" "suppressedExceptions" "Ljava/util/List;") ∈ lw_all := lw_g (lw_at lw_m6 175 rfl) rfl
theorem q1490 : (Jvm.Cond.superclass "java/lang/StringIndexOutOfBoundsException" "java/lang/IndexOutOfBoundsException") ∈ lw_all := lw_g (lw_at lw_m6 176 rfl) rfl
theorem q1858 : (Jvm.Cond.selects "java/lang/StringIndexOutOfBoundsException" ({ cls := "java/lang/Object", name := "equals", desc := "(Ljava/lang/Object;)Z" } : Jvm.MethodName) ({ cls := "java/lang/Object", name := "equals", desc := "(Ljava/lang/Object;)Z" } : Jvm.MethodName)) ∈ lw_all := lw_g (lw_at lw_m8 64 rfl) rfl
theorem q2470 : (Jvm.Cond.selects "java/lang/StringIndexOutOfBoundsException" ({ cls := "java/lang/Throwable", name := "getLocalizedMessage", desc := "()Ljava/lang/String;" } : Jvm.MethodName) ({ cls := "java/lang/Throwable", name := "getLocalizedMessage", desc := "()Ljava/lang/String;" } : Jvm.MethodName)) ∈ lw_all := lw_g (lw_at lw_m10 196 rfl) rfl
theorem q2482 : (Jvm.Cond.selects "java/lang/StringIndexOutOfBoundsException" ({ cls := "java/lang/Throwable", name := "getMessage", desc := "()Ljava/lang/String;" } : Jvm.MethodName) ({ cls := "java/lang/Throwable", name := "getMessage", desc := "()Ljava/lang/String;" } : Jvm.MethodName)) ∈ lw_all := lw_g (lw_at lw_m10 208 rfl) rfl
theorem q2513 : (Jvm.Cond.selects "java/lang/StringIndexOutOfBoundsException" ({ cls := "java/lang/Object", name := "toString", desc := "()Ljava/lang/String;" } : Jvm.MethodName) ({ cls := "java/lang/Throwable", name := "toString", desc := "()Ljava/lang/String;" } : Jvm.MethodName)) ∈ lw_all := lw_g (lw_at lw_m10 239 rfl) rfl
theorem q3233 : (Jvm.Cond.castable "java/lang/StringIndexOutOfBoundsException" "java/lang/IndexOutOfBoundsException") ∈ lw_tbl := lw_at lw_m13 239 rfl
theorem q3248 : (Jvm.Cond.castable "java/lang/StringIndexOutOfBoundsException" "java/lang/Object") ∈ lw_tbl := lw_at lw_m14 14 rfl
theorem in_J27 : ∀ w ∈ wsJ270, w ∈ lw_all := lw_in wsJ270 [1484, 1485, 1486, 1487, 1488, 1489] (by decide +kernel) (by decide +kernel)

/-! java/lang/IllegalStateException -/
set_option maxRecDepth 100000
def RJ28 : String := "java/lang/IllegalStateException"
def TJ28 : u_T := fun k => match k with
  | 0 => ("java/lang/Throwable", "cause", "Ljava/lang/Throwable;", false)
  | 1 => ("java/lang/Throwable", "stackTrace", "[Ljava/lang/StackTraceElement;", false)
  | 2 => ("java/lang/Throwable", "suppressedExceptions", "Ljava/util/List;", false)
  | 3 => ("java/lang/Throwable", "detailMessage", "Ljava/lang/String;", false)
  | 4 => ("java/lang/Throwable", "backtrace", "Ljava/lang/Object;", false)
  | _ => ("java/lang/Throwable", "depth", "I", false)
def tyJ28 : Nat → FieldType := fun k => match k with
  | 0 => .object "java/lang/Throwable"
  | 1 => .array (.object "java/lang/StackTraceElement")
  | 2 => .object "java/util/List"
  | 3 => .object "java/lang/String"
  | 4 => .object "java/lang/Object"
  | _ => .int
abbrev wsJ280 : List Cond := u_ws RJ28 TJ28 6
theorem nmJ28 : ∀ a, a < 6 → ∀ b, b < 6 → a ≠ b → (TJ28 a).2.1 ≠ (TJ28 b).2.1 := by decide +kernel
theorem tyJ28_ok : ∀ k, k < 6 → parseFieldDescriptor (TJ28 k).2.2.1 = some (tyJ28 k) := by decide +kernel
abbrev cJ28_init : ByteArray := prog_23_method_1_code
def yJ28_init : MethodName := ⟨RJ28, "<init>", "()V"⟩
theorem dJ28_init_0 : decode cJ28_init 0 = .ok (.aload_n 0, 1) := by decide +kernel
theorem dJ28_init_1 : decode cJ28_init 1 = .ok (.invokespecial 1, 3) := by decide +kernel
theorem dJ28_init_4 : decode cJ28_init 4 = .ok (.return_, 1) := by decide +kernel
abbrev cJ28_init_2 : ByteArray := prog_23_method_2_code
def yJ28_init_2 : MethodName := ⟨RJ28, "<init>", "(Ljava/lang/String;)V"⟩
def dkwJ28_init_2_0 : List UInt8 := [42, 43, 183, 0, 7, 177]
abbrev dktJ28_init_2_0 : List UInt8 := dkwJ28_init_2_0 ++ []
theorem dksJ28_init_2_0 : cJ28_init_2.data.toList.drop 0 = dktJ28_init_2_0 := by decide +kernel
theorem dJ28_init_2_0 : decode cJ28_init_2 0 = .ok (.aload_n 0, 1) := dk_42 (dk_at dksJ28_init_2_0 0 rfl rfl)
theorem dJ28_init_2_1 : decode cJ28_init_2 1 = .ok (.aload_n 1, 1) := dk_43 (dk_at dksJ28_init_2_0 1 rfl rfl)
theorem dJ28_init_2_2 : decode cJ28_init_2 2 = .ok (.invokespecial 7, 3) := dk_183 0 7 (dk_at dksJ28_init_2_0 2 rfl rfl)
theorem dJ28_init_2_5 : decode cJ28_init_2 5 = .ok (.return_, 1) := dk_177 (dk_at dksJ28_init_2_0 5 rfl rfl)
theorem q150 : (Jvm.Cond.initialized "java/lang/IllegalStateException") ∈ lw_all := lw_g (lw_at lw_m1 36 rfl) rfl
theorem q351 : (Jvm.Cond.selects "java/lang/IllegalStateException" ({ cls := "java/lang/Throwable", name := "fillInStackTrace", desc := "()Ljava/lang/Throwable;" } : Jvm.MethodName) ({ cls := "java/lang/Throwable", name := "fillInStackTrace", desc := "()Ljava/lang/Throwable;" } : Jvm.MethodName)) ∈ lw_all := lw_g (lw_at lw_m1 237 rfl) rfl
theorem q754 : (Jvm.Cond.selects "java/lang/IllegalStateException" ({ cls := "java/lang/Object", name := "getClass", desc := "()Ljava/lang/Class;" } : Jvm.MethodName) ({ cls := "java/lang/Object", name := "getClass", desc := "()Ljava/lang/Class;" } : Jvm.MethodName)) ∈ lw_all := lw_g (lw_at lw_m3 160 rfl) rfl
theorem q1702 : (Jvm.Cond.instantiable "java/lang/IllegalStateException" (6 : Nat)) ∈ lw_all := lw_g (lw_at lw_m7 148 rfl) rfl
theorem q1703 : (Jvm.Cond.castable "java/lang/IllegalStateException" "java/lang/IllegalStateException") ∈ lw_tbl := lw_at lw_m7 149 rfl
theorem q1704 : (Jvm.Cond.selects "java/lang/IllegalStateException" ({ cls := "java/lang/Throwable", name := "fillInStackTrace", desc := "(I)Ljava/lang/Throwable;" } : Jvm.MethodName) ({ cls := "java/lang/Throwable", name := "fillInStackTrace", desc := "(I)Ljava/lang/Throwable;" } : Jvm.MethodName)) ∈ lw_all := lw_g (lw_at lw_m7 150 rfl) rfl
theorem q1705 : (Jvm.Cond.lays "java/lang/IllegalStateException" "java/lang/Throwable" "cause" "Ljava/lang/Throwable;") ∈ lw_all := lw_g (lw_at lw_m7 151 rfl) rfl
theorem q1706 : (Jvm.Cond.lays "java/lang/IllegalStateException" "java/lang/Throwable" "stackTrace" "[Ljava/lang/StackTraceElement;") ∈ lw_all := lw_g (lw_at lw_m7 152 rfl) rfl
theorem q1707 : (Jvm.Cond.lays "java/lang/IllegalStateException" "java/lang/Throwable" "suppressedExceptions" "Ljava/util/List;") ∈ lw_all := lw_g (lw_at lw_m7 153 rfl) rfl
theorem q1708 : (Jvm.Cond.lays "java/lang/IllegalStateException" "java/lang/Throwable" "detailMessage" "Ljava/lang/String;") ∈ lw_all := lw_g (lw_at lw_m7 154 rfl) rfl
theorem q1709 : (Jvm.Cond.lays "java/lang/IllegalStateException" "java/lang/Throwable" "backtrace" "Ljava/lang/Object;") ∈ lw_all := lw_g (lw_at lw_m7 155 rfl) rfl
theorem q1711 : (Jvm.Cond.instanceMethod ({ cls := "java/lang/IllegalStateException", name := "<init>", desc := "()V" } : Jvm.MethodName)) ∈ lw_all := lw_g (lw_at lw_m7 157 rfl) rfl
theorem q1712 : (Jvm.Cond.code ({ cls := "java/lang/IllegalStateException", name := "<init>", desc := "()V" } : Jvm.MethodName) prog_23_method_1_code (1 : Nat) (Option.none : Option Jvm.ClassFile.FieldType)) ∈ lw_all := lw_g (lw_at lw_m7 158 rfl) rfl
theorem q1713 : (Jvm.Cond.methodLink "java/lang/IllegalStateException" (1 : Nat) ({ cls := "java/lang/RuntimeException", name := "<init>", desc := "()V" } : Jvm.MethodName)) ∈ lw_all := lw_g (lw_at lw_m7 159 rfl) rfl
theorem q1714 : (Jvm.Cond.lays "java/lang/IllegalStateException" "java/lang/Throwable" "depth" "I") ∈ lw_all := lw_g (lw_at lw_m7 160 rfl) rfl
theorem q1715 : (Jvm.Cond.superclass "java/lang/IllegalStateException" "java/lang/RuntimeException") ∈ lw_all := lw_g (lw_at lw_m7 161 rfl) rfl
theorem q1743 : (Jvm.Cond.instanceMethod ({ cls := "java/lang/IllegalStateException", name := "<init>", desc := "(Ljava/lang/String;)V" } : Jvm.MethodName)) ∈ lw_all := lw_g (lw_at lw_m7 189 rfl) rfl
theorem q1744 : (Jvm.Cond.code ({ cls := "java/lang/IllegalStateException", name := "<init>", desc := "(Ljava/lang/String;)V" } : Jvm.MethodName) prog_23_method_2_code (2 : Nat) (Option.none : Option Jvm.ClassFile.FieldType)) ∈ lw_all := lw_g (lw_at lw_m7 190 rfl) rfl
theorem q1745 : (Jvm.Cond.methodLink "java/lang/IllegalStateException" (7 : Nat) ({ cls := "java/lang/RuntimeException", name := "<init>", desc := "(Ljava/lang/String;)V" } : Jvm.MethodName)) ∈ lw_all := lw_g (lw_at lw_m7 191 rfl) rfl
theorem q1845 : (Jvm.Cond.selects "java/lang/IllegalStateException" ({ cls := "java/lang/Object", name := "equals", desc := "(Ljava/lang/Object;)Z" } : Jvm.MethodName) ({ cls := "java/lang/Object", name := "equals", desc := "(Ljava/lang/Object;)Z" } : Jvm.MethodName)) ∈ lw_all := lw_g (lw_at lw_m8 51 rfl) rfl
theorem q2468 : (Jvm.Cond.selects "java/lang/IllegalStateException" ({ cls := "java/lang/Throwable", name := "getLocalizedMessage", desc := "()Ljava/lang/String;" } : Jvm.MethodName) ({ cls := "java/lang/Throwable", name := "getLocalizedMessage", desc := "()Ljava/lang/String;" } : Jvm.MethodName)) ∈ lw_all := lw_g (lw_at lw_m10 194 rfl) rfl
theorem q2480 : (Jvm.Cond.selects "java/lang/IllegalStateException" ({ cls := "java/lang/Throwable", name := "getMessage", desc := "()Ljava/lang/String;" } : Jvm.MethodName) ({ cls := "java/lang/Throwable", name := "getMessage", desc := "()Ljava/lang/String;" } : Jvm.MethodName)) ∈ lw_all := lw_g (lw_at lw_m10 206 rfl) rfl
theorem q2493 : (Jvm.Cond.selects "java/lang/IllegalStateException" ({ cls := "java/lang/Object", name := "toString", desc := "()Ljava/lang/String;" } : Jvm.MethodName) ({ cls := "java/lang/Throwable", name := "toString", desc := "()Ljava/lang/String;" } : Jvm.MethodName)) ∈ lw_all := lw_g (lw_at lw_m10 219 rfl) rfl
theorem q3250 : (Jvm.Cond.castable "java/lang/IllegalStateException" "java/lang/Object") ∈ lw_tbl := lw_at lw_m14 16 rfl
theorem in_J28 : ∀ w ∈ wsJ280, w ∈ lw_all := lw_in wsJ280 [1705, 1706, 1707, 1708, 1709, 1714] (by decide +kernel) (by decide +kernel)

/-! java/lang/Long -/
set_option maxRecDepth 100000
def RJ30 : String := "java/lang/Long"
abbrev cJ30_numberOfLeadingZeros : ByteArray := prog_28_method_48_code
def yJ30_numberOfLeadingZeros : MethodName := ⟨RJ30, "numberOfLeadingZeros", "(J)I"⟩
def dkwJ30_numberOfLeadingZeros_1 : List UInt8 := [184, 1, 52, 172]
abbrev dktJ30_numberOfLeadingZeros_1 : List UInt8 := dkwJ30_numberOfLeadingZeros_1 ++ []
def dkwJ30_numberOfLeadingZeros_0 : List UInt8 := [30, 16, 32, 125, 136, 61, 28, 154, 0, 14, 16, 32, 30, 136, 184, 1, 52, 96, 167, 0, 7, 28]
abbrev dktJ30_numberOfLeadingZeros_0 : List UInt8 := dkwJ30_numberOfLeadingZeros_0 ++ dktJ30_numberOfLeadingZeros_1
theorem dksJ30_numberOfLeadingZeros_0 : cJ30_numberOfLeadingZeros.data.toList.drop 0 = dktJ30_numberOfLeadingZeros_0 := by decide +kernel
theorem dksJ30_numberOfLeadingZeros_1 : cJ30_numberOfLeadingZeros.data.toList.drop 22 = dktJ30_numberOfLeadingZeros_1 := dk_seg dksJ30_numberOfLeadingZeros_0 22 rfl rfl
theorem dJ30_numberOfLeadingZeros_0 : decode cJ30_numberOfLeadingZeros 0 = .ok (.lload_n 0, 1) := dk_30 (dk_at dksJ30_numberOfLeadingZeros_0 0 rfl rfl)
theorem dJ30_numberOfLeadingZeros_1 : decode cJ30_numberOfLeadingZeros 1 = .ok (.bipush 32, 2) := dk_16 32 (dk_at dksJ30_numberOfLeadingZeros_0 1 rfl rfl)
theorem dJ30_numberOfLeadingZeros_3 : decode cJ30_numberOfLeadingZeros 3 = .ok (.lushr, 1) := dk_125 (dk_at dksJ30_numberOfLeadingZeros_0 3 rfl rfl)
theorem dJ30_numberOfLeadingZeros_4 : decode cJ30_numberOfLeadingZeros 4 = .ok (.l2i, 1) := dk_136 (dk_at dksJ30_numberOfLeadingZeros_0 4 rfl rfl)
theorem dJ30_numberOfLeadingZeros_5 : decode cJ30_numberOfLeadingZeros 5 = .ok (.istore_n 2, 1) := dk_61 (dk_at dksJ30_numberOfLeadingZeros_0 5 rfl rfl)
theorem dJ30_numberOfLeadingZeros_6 : decode cJ30_numberOfLeadingZeros 6 = .ok (.iload_n 2, 1) := dk_28 (dk_at dksJ30_numberOfLeadingZeros_0 6 rfl rfl)
theorem dJ30_numberOfLeadingZeros_7 : decode cJ30_numberOfLeadingZeros 7 = .ok (.ifCond .ne 14, 3) := dk_154 0 14 (dk_at dksJ30_numberOfLeadingZeros_0 7 rfl rfl)
theorem dJ30_numberOfLeadingZeros_10 : decode cJ30_numberOfLeadingZeros 10 = .ok (.bipush 32, 2) := dk_16 32 (dk_at dksJ30_numberOfLeadingZeros_0 10 rfl rfl)
theorem dJ30_numberOfLeadingZeros_12 : decode cJ30_numberOfLeadingZeros 12 = .ok (.lload_n 0, 1) := dk_30 (dk_at dksJ30_numberOfLeadingZeros_0 12 rfl rfl)
theorem dJ30_numberOfLeadingZeros_13 : decode cJ30_numberOfLeadingZeros 13 = .ok (.l2i, 1) := dk_136 (dk_at dksJ30_numberOfLeadingZeros_0 13 rfl rfl)
theorem dJ30_numberOfLeadingZeros_14 : decode cJ30_numberOfLeadingZeros 14 = .ok (.invokestatic 308, 3) := dk_184 1 52 (dk_at dksJ30_numberOfLeadingZeros_0 14 rfl rfl)
theorem dJ30_numberOfLeadingZeros_17 : decode cJ30_numberOfLeadingZeros 17 = .ok (.iadd, 1) := dk_96 (dk_at dksJ30_numberOfLeadingZeros_0 17 rfl rfl)
theorem dJ30_numberOfLeadingZeros_18 : decode cJ30_numberOfLeadingZeros 18 = .ok (.goto 7, 3) := dk_167 0 7 (dk_at dksJ30_numberOfLeadingZeros_0 18 rfl rfl)
theorem dJ30_numberOfLeadingZeros_21 : decode cJ30_numberOfLeadingZeros 21 = .ok (.iload_n 2, 1) := dk_28 (dk_at dksJ30_numberOfLeadingZeros_0 21 rfl rfl)
theorem dJ30_numberOfLeadingZeros_22 : decode cJ30_numberOfLeadingZeros 22 = .ok (.invokestatic 308, 3) := dk_184 1 52 (dk_at dksJ30_numberOfLeadingZeros_1 0 rfl rfl)
theorem dJ30_numberOfLeadingZeros_25 : decode cJ30_numberOfLeadingZeros 25 = .ok (.ireturn, 1) := dk_172 (dk_at dksJ30_numberOfLeadingZeros_1 3 rfl rfl)
abbrev cJ30_numberOfTrailingZeros : ByteArray := prog_28_method_49_code
def yJ30_numberOfTrailingZeros : MethodName := ⟨RJ30, "numberOfTrailingZeros", "(J)I"⟩
def dkwJ30_numberOfTrailingZeros_1 : List UInt8 := [184, 1, 55, 172]
abbrev dktJ30_numberOfTrailingZeros_1 : List UInt8 := dkwJ30_numberOfTrailingZeros_1 ++ []
def dkwJ30_numberOfTrailingZeros_0 : List UInt8 := [30, 136, 61, 28, 154, 0, 17, 16, 32, 30, 16, 32, 125, 136, 184, 1, 55, 96, 167, 0, 7, 28]
abbrev dktJ30_numberOfTrailingZeros_0 : List UInt8 := dkwJ30_numberOfTrailingZeros_0 ++ dktJ30_numberOfTrailingZeros_1
theorem dksJ30_numberOfTrailingZeros_0 : cJ30_numberOfTrailingZeros.data.toList.drop 0 = dktJ30_numberOfTrailingZeros_0 := by decide +kernel
theorem dksJ30_numberOfTrailingZeros_1 : cJ30_numberOfTrailingZeros.data.toList.drop 22 = dktJ30_numberOfTrailingZeros_1 := dk_seg dksJ30_numberOfTrailingZeros_0 22 rfl rfl
theorem dJ30_numberOfTrailingZeros_0 : decode cJ30_numberOfTrailingZeros 0 = .ok (.lload_n 0, 1) := dk_30 (dk_at dksJ30_numberOfTrailingZeros_0 0 rfl rfl)
theorem dJ30_numberOfTrailingZeros_1 : decode cJ30_numberOfTrailingZeros 1 = .ok (.l2i, 1) := dk_136 (dk_at dksJ30_numberOfTrailingZeros_0 1 rfl rfl)
theorem dJ30_numberOfTrailingZeros_2 : decode cJ30_numberOfTrailingZeros 2 = .ok (.istore_n 2, 1) := dk_61 (dk_at dksJ30_numberOfTrailingZeros_0 2 rfl rfl)
theorem dJ30_numberOfTrailingZeros_3 : decode cJ30_numberOfTrailingZeros 3 = .ok (.iload_n 2, 1) := dk_28 (dk_at dksJ30_numberOfTrailingZeros_0 3 rfl rfl)
theorem dJ30_numberOfTrailingZeros_4 : decode cJ30_numberOfTrailingZeros 4 = .ok (.ifCond .ne 17, 3) := dk_154 0 17 (dk_at dksJ30_numberOfTrailingZeros_0 4 rfl rfl)
theorem dJ30_numberOfTrailingZeros_7 : decode cJ30_numberOfTrailingZeros 7 = .ok (.bipush 32, 2) := dk_16 32 (dk_at dksJ30_numberOfTrailingZeros_0 7 rfl rfl)
theorem dJ30_numberOfTrailingZeros_9 : decode cJ30_numberOfTrailingZeros 9 = .ok (.lload_n 0, 1) := dk_30 (dk_at dksJ30_numberOfTrailingZeros_0 9 rfl rfl)
theorem dJ30_numberOfTrailingZeros_10 : decode cJ30_numberOfTrailingZeros 10 = .ok (.bipush 32, 2) := dk_16 32 (dk_at dksJ30_numberOfTrailingZeros_0 10 rfl rfl)
theorem dJ30_numberOfTrailingZeros_12 : decode cJ30_numberOfTrailingZeros 12 = .ok (.lushr, 1) := dk_125 (dk_at dksJ30_numberOfTrailingZeros_0 12 rfl rfl)
theorem dJ30_numberOfTrailingZeros_13 : decode cJ30_numberOfTrailingZeros 13 = .ok (.l2i, 1) := dk_136 (dk_at dksJ30_numberOfTrailingZeros_0 13 rfl rfl)
theorem dJ30_numberOfTrailingZeros_14 : decode cJ30_numberOfTrailingZeros 14 = .ok (.invokestatic 311, 3) := dk_184 1 55 (dk_at dksJ30_numberOfTrailingZeros_0 14 rfl rfl)
theorem dJ30_numberOfTrailingZeros_17 : decode cJ30_numberOfTrailingZeros 17 = .ok (.iadd, 1) := dk_96 (dk_at dksJ30_numberOfTrailingZeros_0 17 rfl rfl)
theorem dJ30_numberOfTrailingZeros_18 : decode cJ30_numberOfTrailingZeros 18 = .ok (.goto 7, 3) := dk_167 0 7 (dk_at dksJ30_numberOfTrailingZeros_0 18 rfl rfl)
theorem dJ30_numberOfTrailingZeros_21 : decode cJ30_numberOfTrailingZeros 21 = .ok (.iload_n 2, 1) := dk_28 (dk_at dksJ30_numberOfTrailingZeros_0 21 rfl rfl)
theorem dJ30_numberOfTrailingZeros_22 : decode cJ30_numberOfTrailingZeros 22 = .ok (.invokestatic 311, 3) := dk_184 1 55 (dk_at dksJ30_numberOfTrailingZeros_1 0 rfl rfl)
theorem dJ30_numberOfTrailingZeros_25 : decode cJ30_numberOfTrailingZeros 25 = .ok (.ireturn, 1) := dk_172 (dk_at dksJ30_numberOfTrailingZeros_1 3 rfl rfl)
theorem q155 : (Jvm.Cond.initialized "java/lang/Long") ∈ lw_all := lw_g (lw_at lw_m1 41 rfl) rfl
theorem q1066 : (Jvm.Cond.static ({ cls := "java/lang/Long", name := "numberOfLeadingZeros", desc := "(J)I" } : Jvm.MethodName)) ∈ lw_all := lw_g (lw_at lw_m4 232 rfl) rfl
theorem q1067 : (Jvm.Cond.code ({ cls := "java/lang/Long", name := "numberOfLeadingZeros", desc := "(J)I" } : Jvm.MethodName) prog_28_method_48_code (3 : Nat) (Option.some Jvm.ClassFile.FieldType.int)) ∈ lw_all := lw_g (lw_at lw_m4 233 rfl) rfl
theorem q1068 : (Jvm.Cond.methodLink "java/lang/Long" (308 : Nat) ({ cls := "java/lang/Integer", name := "numberOfLeadingZeros", desc := "(I)I" } : Jvm.MethodName)) ∈ lw_all := lw_g (lw_at lw_m4 234 rfl) rfl
theorem q1075 : (Jvm.Cond.static ({ cls := "java/lang/Long", name := "numberOfTrailingZeros", desc := "(J)I" } : Jvm.MethodName)) ∈ lw_all := lw_g (lw_at lw_m5 1 rfl) rfl
theorem q1076 : (Jvm.Cond.code ({ cls := "java/lang/Long", name := "numberOfTrailingZeros", desc := "(J)I" } : Jvm.MethodName) prog_28_method_49_code (3 : Nat) (Option.some Jvm.ClassFile.FieldType.int)) ∈ lw_all := lw_g (lw_at lw_m5 2 rfl) rfl
theorem q1077 : (Jvm.Cond.methodLink "java/lang/Long" (311 : Nat) ({ cls := "java/lang/Integer", name := "numberOfTrailingZeros", desc := "(I)I" } : Jvm.MethodName)) ∈ lw_all := lw_g (lw_at lw_m5 3 rfl) rfl

/-! java/util/List -/
set_option maxRecDepth 100000
def RJ31 : String := "java/util/List"
abbrev cJ31_of : ByteArray := prog_57_method_41_code
def yJ31_of : MethodName := ⟨RJ31, "of", "(Ljava/lang/Object;Ljava/lang/Object;Ljava/lang/Object;Ljava/lang/Object;Ljava/lang/Object;)Ljava/util/List;"⟩
def dkwJ31_of_1 : List UInt8 := [83, 184, 0, 105, 176]
abbrev dktJ31_of_1 : List UInt8 := dkwJ31_of_1 ++ []
def dkwJ31_of_0 : List UInt8 := [8, 189, 0, 103, 89, 3, 42, 83, 89, 4, 43, 83, 89, 5, 44, 83, 89, 6, 45, 83, 89, 7, 25, 4]
abbrev dktJ31_of_0 : List UInt8 := dkwJ31_of_0 ++ dktJ31_of_1
theorem dksJ31_of_0 : cJ31_of.data.toList.drop 0 = dktJ31_of_0 := by decide +kernel
theorem dksJ31_of_1 : cJ31_of.data.toList.drop 24 = dktJ31_of_1 := dk_seg dksJ31_of_0 24 rfl rfl
theorem dJ31_of_0 : decode cJ31_of 0 = .ok (.iconst 5, 1) := dk_8 (dk_at dksJ31_of_0 0 rfl rfl)
theorem dJ31_of_1 : decode cJ31_of 1 = .ok (.anewarray 103, 3) := dk_189 0 103 (dk_at dksJ31_of_0 1 rfl rfl)
theorem dJ31_of_4 : decode cJ31_of 4 = .ok (.dup, 1) := dk_89 (dk_at dksJ31_of_0 4 rfl rfl)
theorem dJ31_of_5 : decode cJ31_of 5 = .ok (.iconst 0, 1) := dk_3 (dk_at dksJ31_of_0 5 rfl rfl)
theorem dJ31_of_6 : decode cJ31_of 6 = .ok (.aload_n 0, 1) := dk_42 (dk_at dksJ31_of_0 6 rfl rfl)
theorem dJ31_of_7 : decode cJ31_of 7 = .ok (.aastore, 1) := dk_83 (dk_at dksJ31_of_0 7 rfl rfl)
theorem dJ31_of_8 : decode cJ31_of 8 = .ok (.dup, 1) := dk_89 (dk_at dksJ31_of_0 8 rfl rfl)
theorem dJ31_of_9 : decode cJ31_of 9 = .ok (.iconst 1, 1) := dk_4 (dk_at dksJ31_of_0 9 rfl rfl)
theorem dJ31_of_10 : decode cJ31_of 10 = .ok (.aload_n 1, 1) := dk_43 (dk_at dksJ31_of_0 10 rfl rfl)
theorem dJ31_of_11 : decode cJ31_of 11 = .ok (.aastore, 1) := dk_83 (dk_at dksJ31_of_0 11 rfl rfl)
theorem dJ31_of_12 : decode cJ31_of 12 = .ok (.dup, 1) := dk_89 (dk_at dksJ31_of_0 12 rfl rfl)
theorem dJ31_of_13 : decode cJ31_of 13 = .ok (.iconst 2, 1) := dk_5 (dk_at dksJ31_of_0 13 rfl rfl)
theorem dJ31_of_14 : decode cJ31_of 14 = .ok (.aload_n 2, 1) := dk_44 (dk_at dksJ31_of_0 14 rfl rfl)
theorem dJ31_of_15 : decode cJ31_of 15 = .ok (.aastore, 1) := dk_83 (dk_at dksJ31_of_0 15 rfl rfl)
theorem dJ31_of_16 : decode cJ31_of 16 = .ok (.dup, 1) := dk_89 (dk_at dksJ31_of_0 16 rfl rfl)
theorem dJ31_of_17 : decode cJ31_of 17 = .ok (.iconst 3, 1) := dk_6 (dk_at dksJ31_of_0 17 rfl rfl)
theorem dJ31_of_18 : decode cJ31_of 18 = .ok (.aload_n 3, 1) := dk_45 (dk_at dksJ31_of_0 18 rfl rfl)
theorem dJ31_of_19 : decode cJ31_of 19 = .ok (.aastore, 1) := dk_83 (dk_at dksJ31_of_0 19 rfl rfl)
theorem dJ31_of_20 : decode cJ31_of 20 = .ok (.dup, 1) := dk_89 (dk_at dksJ31_of_0 20 rfl rfl)
theorem dJ31_of_21 : decode cJ31_of 21 = .ok (.iconst 4, 1) := dk_7 (dk_at dksJ31_of_0 21 rfl rfl)
theorem dJ31_of_22 : decode cJ31_of 22 = .ok (.aload 4, 2) := dk_25 4 (dk_at dksJ31_of_0 22 rfl rfl)
theorem dJ31_of_24 : decode cJ31_of 24 = .ok (.aastore, 1) := dk_83 (dk_at dksJ31_of_1 0 rfl rfl)
theorem dJ31_of_25 : decode cJ31_of 25 = .ok (.invokestatic 105, 3) := dk_184 0 105 (dk_at dksJ31_of_1 1 rfl rfl)
theorem dJ31_of_28 : decode cJ31_of 28 = .ok (.areturn, 1) := dk_176 (dk_at dksJ31_of_1 4 rfl rfl)
theorem q157 : (Jvm.Cond.initialized "java/util/List") ∈ lw_all := lw_g (lw_at lw_m1 43 rfl) rfl
theorem q220 : (Jvm.Cond.interfaceMethod "java/util/List" "java/util/List" "iterator" "()Ljava/util/Iterator;") ∈ lw_tbl := lw_at lw_m1 106 rfl
theorem q221 : (Jvm.Cond.declares ({ cls := "java/util/List", name := "iterator", desc := "()Ljava/util/Iterator;" } : Jvm.MethodName)) ∈ lw_tbl := lw_at lw_m1 107 rfl
theorem q391 : (Jvm.Cond.interfaceMethod "java/util/List" "java/util/List" "get" "(I)Ljava/lang/Object;") ∈ lw_tbl := lw_at lw_m2 37 rfl
theorem q392 : (Jvm.Cond.declares ({ cls := "java/util/List", name := "get", desc := "(I)Ljava/lang/Object;" } : Jvm.MethodName)) ∈ lw_tbl := lw_at lw_m2 38 rfl
theorem q715 : (Jvm.Cond.interfaceMethod "java/util/List" "java/util/List" "add" "(Ljava/lang/Object;)Z") ∈ lw_tbl := lw_at lw_m3 121 rfl
theorem q716 : (Jvm.Cond.declares ({ cls := "java/util/List", name := "add", desc := "(Ljava/lang/Object;)Z" } : Jvm.MethodName)) ∈ lw_tbl := lw_at lw_m3 122 rfl
theorem q894 : (Jvm.Cond.interfaceMethod "java/util/List" "java/util/List" "size" "()I") ∈ lw_tbl := lw_at lw_m4 60 rfl
theorem q895 : (Jvm.Cond.declares ({ cls := "java/util/List", name := "size", desc := "()I" } : Jvm.MethodName)) ∈ lw_tbl := lw_at lw_m4 61 rfl
theorem q1160 : (Jvm.Cond.interfaceMethod "java/util/List" "java/util/List" "add" "(ILjava/lang/Object;)V") ∈ lw_tbl := lw_at lw_m5 86 rfl
theorem q1161 : (Jvm.Cond.declares ({ cls := "java/util/List", name := "add", desc := "(ILjava/lang/Object;)V" } : Jvm.MethodName)) ∈ lw_tbl := lw_at lw_m5 87 rfl
theorem q1821 : (Jvm.Cond.interfaceMethod "java/util/List" "java/util/List" "remove" "(Ljava/lang/Object;)Z") ∈ lw_tbl := lw_at lw_m8 27 rfl
theorem q1822 : (Jvm.Cond.declares ({ cls := "java/util/List", name := "remove", desc := "(Ljava/lang/Object;)Z" } : Jvm.MethodName)) ∈ lw_tbl := lw_at lw_m8 28 rfl
theorem q1886 : (Jvm.Cond.interfaceMethod "java/util/List" "java/util/List" "set" "(ILjava/lang/Object;)Ljava/lang/Object;") ∈ lw_tbl := lw_at lw_m8 92 rfl
theorem q1887 : (Jvm.Cond.declares ({ cls := "java/util/List", name := "set", desc := "(ILjava/lang/Object;)Ljava/lang/Object;" } : Jvm.MethodName)) ∈ lw_tbl := lw_at lw_m8 93 rfl
theorem q2016 : (Jvm.Cond.static ({ cls := "java/util/List", name := "of", desc := "(Ljava/lang/Object;Ljava/lang/Object;Ljava/lang/Object;Ljava/lang/Object;Ljava/lang/Object;)Ljava/util/List;" } : Jvm.MethodName)) ∈ lw_all := lw_g (lw_at lw_m8 222 rfl) rfl
theorem q2017 : (Jvm.Cond.code ({ cls := "java/util/List", name := "of", desc := "(Ljava/lang/Object;Ljava/lang/Object;Ljava/lang/Object;Ljava/lang/Object;Ljava/lang/Object;)Ljava/util/List;" } : Jvm.MethodName) prog_57_method_41_code (5 : Nat) (Option.some (Jvm.ClassFile.FieldType.object "java/util/List"))) ∈ lw_all := lw_g (lw_at lw_m8 223 rfl) rfl
theorem q2018 : (Jvm.Cond.classLink "java/util/List" (103 : Nat) "java/lang/Object") ∈ lw_all := lw_g (lw_at lw_m8 224 rfl) rfl
theorem q2019 : (Jvm.Cond.methodLink "java/util/List" (105 : Nat) ({ cls := "java/util/ImmutableCollections", name := "listFromTrustedArray", desc := "([Ljava/lang/Object;)Ljava/util/List;" } : Jvm.MethodName)) ∈ lw_all := lw_g (lw_at lw_m8 225 rfl) rfl

/-! java/util/ImmutableCollections$AbstractImmutableCollection -/
set_option maxRecDepth 100000
def RJ32 : String := "java/util/ImmutableCollections$AbstractImmutableCollection"
abbrev cJ32_add : ByteArray := prog_51_method_2_code
def yJ32_add : MethodName := ⟨RJ32, "add", "(Ljava/lang/Object;)Z"⟩
theorem dJ32_add_0 : decode cJ32_add 0 = .ok (.invokestatic 7, 3) := by decide +kernel
theorem dJ32_add_3 : decode cJ32_add 3 = .ok (.athrow, 1) := by decide +kernel
abbrev cJ32_remove : ByteArray := prog_51_method_5_code
def yJ32_remove : MethodName := ⟨RJ32, "remove", "(Ljava/lang/Object;)Z"⟩
theorem dJ32_remove_0 : decode cJ32_remove 0 = .ok (.invokestatic 7, 3) := by decide +kernel
theorem dJ32_remove_3 : decode cJ32_remove 3 = .ok (.athrow, 1) := by decide +kernel
abbrev cJ32_init : ByteArray := prog_51_method_1_code
def yJ32_init : MethodName := ⟨RJ32, "<init>", "()V"⟩
theorem dJ32_init_0 : decode cJ32_init 0 = .ok (.aload_n 0, 1) := by decide +kernel
theorem dJ32_init_1 : decode cJ32_init 1 = .ok (.invokespecial 1, 3) := by decide +kernel
theorem dJ32_init_4 : decode cJ32_init 4 = .ok (.return_, 1) := by decide +kernel
theorem q158 : (Jvm.Cond.initialized "java/util/ImmutableCollections$AbstractImmutableCollection") ∈ lw_all := lw_g (lw_at lw_m1 44 rfl) rfl
theorem q780 : (Jvm.Cond.instanceMethod ({ cls := "java/util/ImmutableCollections$AbstractImmutableCollection", name := "add", desc := "(Ljava/lang/Object;)Z" } : Jvm.MethodName)) ∈ lw_all := lw_g (lw_at lw_m3 186 rfl) rfl
theorem q781 : (Jvm.Cond.publicMethod ({ cls := "java/util/ImmutableCollections$AbstractImmutableCollection", name := "add", desc := "(Ljava/lang/Object;)Z" } : Jvm.MethodName)) ∈ lw_tbl := lw_at lw_m3 187 rfl
theorem q782 : (Jvm.Cond.code ({ cls := "java/util/ImmutableCollections$AbstractImmutableCollection", name := "add", desc := "(Ljava/lang/Object;)Z" } : Jvm.MethodName) prog_51_method_2_code (2 : Nat) (Option.some Jvm.ClassFile.FieldType.boolean)) ∈ lw_all := lw_g (lw_at lw_m3 188 rfl) rfl
theorem q783 : (Jvm.Cond.methodLink "java/util/ImmutableCollections$AbstractImmutableCollection" (7 : Nat) ({ cls := "java/util/ImmutableCollections", name := "uoe", desc := "()Ljava/lang/UnsupportedOperationException;" } : Jvm.MethodName)) ∈ lw_all := lw_g (lw_at lw_m3 189 rfl) rfl
theorem q1868 : (Jvm.Cond.instanceMethod ({ cls := "java/util/ImmutableCollections$AbstractImmutableCollection", name := "remove", desc := "(Ljava/lang/Object;)Z" } : Jvm.MethodName)) ∈ lw_all := lw_g (lw_at lw_m8 74 rfl) rfl
theorem q1869 : (Jvm.Cond.publicMethod ({ cls := "java/util/ImmutableCollections$AbstractImmutableCollection", name := "remove", desc := "(Ljava/lang/Object;)Z" } : Jvm.MethodName)) ∈ lw_tbl := lw_at lw_m8 75 rfl
theorem q1870 : (Jvm.Cond.code ({ cls := "java/util/ImmutableCollections$AbstractImmutableCollection", name := "remove", desc := "(Ljava/lang/Object;)Z" } : Jvm.MethodName) prog_51_method_5_code (2 : Nat) (Option.some Jvm.ClassFile.FieldType.boolean)) ∈ lw_all := lw_g (lw_at lw_m8 76 rfl) rfl
theorem q2040 : (Jvm.Cond.instanceMethod ({ cls := "java/util/ImmutableCollections$AbstractImmutableCollection", name := "<init>", desc := "()V" } : Jvm.MethodName)) ∈ lw_all := lw_g (lw_at lw_m9 6 rfl) rfl
theorem q2041 : (Jvm.Cond.code ({ cls := "java/util/ImmutableCollections$AbstractImmutableCollection", name := "<init>", desc := "()V" } : Jvm.MethodName) prog_51_method_1_code (1 : Nat) (Option.none : Option Jvm.ClassFile.FieldType)) ∈ lw_all := lw_g (lw_at lw_m9 7 rfl) rfl
theorem q2042 : (Jvm.Cond.methodLink "java/util/ImmutableCollections$AbstractImmutableCollection" (1 : Nat) ({ cls := "java/util/AbstractCollection", name := "<init>", desc := "()V" } : Jvm.MethodName)) ∈ lw_all := lw_g (lw_at lw_m9 8 rfl) rfl

/-! java/util/ImmutableCollections$AbstractImmutableList -/
set_option maxRecDepth 100000
def RJ33 : String := "java/util/ImmutableCollections$AbstractImmutableList"
abbrev cJ33_iterator : ByteArray := prog_52_method_10_code
def yJ33_iterator : MethodName := ⟨RJ33, "iterator", "()Ljava/util/Iterator;"⟩
def dkwJ33_iterator_0 : List UInt8 := [187, 0, 61, 89, 42, 42, 182, 0, 13, 183, 0, 63, 176]
abbrev dktJ33_iterator_0 : List UInt8 := dkwJ33_iterator_0 ++ []
theorem dksJ33_iterator_0 : cJ33_iterator.data.toList.drop 0 = dktJ33_iterator_0 := by decide +kernel
theorem dJ33_iterator_0 : decode cJ33_iterator 0 = .ok (.new 61, 3) := dk_187 0 61 (dk_at dksJ33_iterator_0 0 rfl rfl)
theorem dJ33_iterator_3 : decode cJ33_iterator 3 = .ok (.dup, 1) := dk_89 (dk_at dksJ33_iterator_0 3 rfl rfl)
theorem dJ33_iterator_4 : decode cJ33_iterator 4 = .ok (.aload_n 0, 1) := dk_42 (dk_at dksJ33_iterator_0 4 rfl rfl)
theorem dJ33_iterator_5 : decode cJ33_iterator 5 = .ok (.aload_n 0, 1) := dk_42 (dk_at dksJ33_iterator_0 5 rfl rfl)
theorem dJ33_iterator_6 : decode cJ33_iterator 6 = .ok (.invokevirtual 13, 3) := dk_182 0 13 (dk_at dksJ33_iterator_0 6 rfl rfl)
theorem dJ33_iterator_9 : decode cJ33_iterator 9 = .ok (.invokespecial 63, 3) := dk_183 0 63 (dk_at dksJ33_iterator_0 9 rfl rfl)
theorem dJ33_iterator_12 : decode cJ33_iterator 12 = .ok (.areturn, 1) := dk_176 (dk_at dksJ33_iterator_0 12 rfl rfl)
abbrev cJ33_outOfBounds : ByteArray := prog_52_method_17_code
def yJ33_outOfBounds : MethodName := ⟨RJ33, "outOfBounds", "(I)Ljava/lang/IndexOutOfBoundsException;"⟩
def dkwJ33_outOfBounds_1 : List UInt8 := [182, 0, 36, 42, 182, 0, 13, 182, 0, 40, 182, 0, 43, 183, 0, 47, 176]
abbrev dktJ33_outOfBounds_1 : List UInt8 := dkwJ33_outOfBounds_1 ++ []
def dkwJ33_outOfBounds_0 : List UInt8 := [187, 0, 29, 89, 187, 0, 31, 89, 183, 0, 33, 18, 116, 182, 0, 36, 27, 182, 0, 40, 18, 118]
abbrev dktJ33_outOfBounds_0 : List UInt8 := dkwJ33_outOfBounds_0 ++ dktJ33_outOfBounds_1
theorem dksJ33_outOfBounds_0 : cJ33_outOfBounds.data.toList.drop 0 = dktJ33_outOfBounds_0 := by decide +kernel
theorem dksJ33_outOfBounds_1 : cJ33_outOfBounds.data.toList.drop 22 = dktJ33_outOfBounds_1 := dk_seg dksJ33_outOfBounds_0 22 rfl rfl
theorem dJ33_outOfBounds_0 : decode cJ33_outOfBounds 0 = .ok (.new 29, 3) := dk_187 0 29 (dk_at dksJ33_outOfBounds_0 0 rfl rfl)
theorem dJ33_outOfBounds_3 : decode cJ33_outOfBounds 3 = .ok (.dup, 1) := dk_89 (dk_at dksJ33_outOfBounds_0 3 rfl rfl)
theorem dJ33_outOfBounds_4 : decode cJ33_outOfBounds 4 = .ok (.new 31, 3) := dk_187 0 31 (dk_at dksJ33_outOfBounds_0 4 rfl rfl)
theorem dJ33_outOfBounds_7 : decode cJ33_outOfBounds 7 = .ok (.dup, 1) := dk_89 (dk_at dksJ33_outOfBounds_0 7 rfl rfl)
theorem dJ33_outOfBounds_8 : decode cJ33_outOfBounds 8 = .ok (.invokespecial 33, 3) := dk_183 0 33 (dk_at dksJ33_outOfBounds_0 8 rfl rfl)
theorem dJ33_outOfBounds_11 : decode cJ33_outOfBounds 11 = .ok (.ldc 116, 2) := dk_18 116 (dk_at dksJ33_outOfBounds_0 11 rfl rfl)
theorem dJ33_outOfBounds_13 : decode cJ33_outOfBounds 13 = .ok (.invokevirtual 36, 3) := dk_182 0 36 (dk_at dksJ33_outOfBounds_0 13 rfl rfl)
theorem dJ33_outOfBounds_16 : decode cJ33_outOfBounds 16 = .ok (.iload_n 1, 1) := dk_27 (dk_at dksJ33_outOfBounds_0 16 rfl rfl)
theorem dJ33_outOfBounds_17 : decode cJ33_outOfBounds 17 = .ok (.invokevirtual 40, 3) := dk_182 0 40 (dk_at dksJ33_outOfBounds_0 17 rfl rfl)
theorem dJ33_outOfBounds_20 : decode cJ33_outOfBounds 20 = .ok (.ldc 118, 2) := dk_18 118 (dk_at dksJ33_outOfBounds_0 20 rfl rfl)
theorem dJ33_outOfBounds_22 : decode cJ33_outOfBounds 22 = .ok (.invokevirtual 36, 3) := dk_182 0 36 (dk_at dksJ33_outOfBounds_1 0 rfl rfl)
theorem dJ33_outOfBounds_25 : decode cJ33_outOfBounds 25 = .ok (.aload_n 0, 1) := dk_42 (dk_at dksJ33_outOfBounds_1 3 rfl rfl)
theorem dJ33_outOfBounds_26 : decode cJ33_outOfBounds 26 = .ok (.invokevirtual 13, 3) := dk_182 0 13 (dk_at dksJ33_outOfBounds_1 4 rfl rfl)
theorem dJ33_outOfBounds_29 : decode cJ33_outOfBounds 29 = .ok (.invokevirtual 40, 3) := dk_182 0 40 (dk_at dksJ33_outOfBounds_1 7 rfl rfl)
theorem dJ33_outOfBounds_32 : decode cJ33_outOfBounds 32 = .ok (.invokevirtual 43, 3) := dk_182 0 43 (dk_at dksJ33_outOfBounds_1 10 rfl rfl)
theorem dJ33_outOfBounds_35 : decode cJ33_outOfBounds 35 = .ok (.invokespecial 47, 3) := dk_183 0 47 (dk_at dksJ33_outOfBounds_1 13 rfl rfl)
theorem dJ33_outOfBounds_38 : decode cJ33_outOfBounds 38 = .ok (.areturn, 1) := dk_176 (dk_at dksJ33_outOfBounds_1 16 rfl rfl)
abbrev cJ33_add : ByteArray := prog_52_method_2_code
def yJ33_add : MethodName := ⟨RJ33, "add", "(ILjava/lang/Object;)V"⟩
theorem dJ33_add_0 : decode cJ33_add 0 = .ok (.invokestatic 7, 3) := by decide +kernel
theorem dJ33_add_3 : decode cJ33_add 3 = .ok (.athrow, 1) := by decide +kernel
abbrev cJ33_set : ByteArray := prog_52_method_6_code
def yJ33_set : MethodName := ⟨RJ33, "set", "(ILjava/lang/Object;)Ljava/lang/Object;"⟩
theorem dJ33_set_0 : decode cJ33_set 0 = .ok (.invokestatic 7, 3) := by decide +kernel
theorem dJ33_set_3 : decode cJ33_set 3 = .ok (.athrow, 1) := by decide +kernel
abbrev cJ33_init : ByteArray := prog_52_method_1_code
def yJ33_init : MethodName := ⟨RJ33, "<init>", "()V"⟩
theorem dJ33_init_0 : decode cJ33_init 0 = .ok (.aload_n 0, 1) := by decide +kernel
theorem dJ33_init_1 : decode cJ33_init 1 = .ok (.invokespecial 1, 3) := by decide +kernel
theorem dJ33_init_4 : decode cJ33_init 4 = .ok (.return_, 1) := by decide +kernel
theorem q159 : (Jvm.Cond.initialized "java/util/ImmutableCollections$AbstractImmutableList") ∈ lw_all := lw_g (lw_at lw_m1 45 rfl) rfl
theorem q250 : (Jvm.Cond.instanceMethod ({ cls := "java/util/ImmutableCollections$AbstractImmutableList", name := "iterator", desc := "()Ljava/util/Iterator;" } : Jvm.MethodName)) ∈ lw_all := lw_g (lw_at lw_m1 136 rfl) rfl
theorem q251 : (Jvm.Cond.publicMethod ({ cls := "java/util/ImmutableCollections$AbstractImmutableList", name := "iterator", desc := "()Ljava/util/Iterator;" } : Jvm.MethodName)) ∈ lw_tbl := lw_at lw_m1 137 rfl
theorem q252 : (Jvm.Cond.code ({ cls := "java/util/ImmutableCollections$AbstractImmutableList", name := "iterator", desc := "()Ljava/util/Iterator;" } : Jvm.MethodName) prog_52_method_10_code (1 : Nat) (Option.some (Jvm.ClassFile.FieldType.object "java/util/Iterator"))) ∈ lw_all := lw_g (lw_at lw_m1 138 rfl) rfl
theorem q253 : (Jvm.Cond.classLink "java/util/ImmutableCollections$AbstractImmutableList" (61 : Nat) "java/util/ImmutableCollections$ListItr") ∈ lw_all := lw_g (lw_at lw_m1 139 rfl) rfl
theorem q255 : (Jvm.Cond.methodLink "java/util/ImmutableCollections$AbstractImmutableList" (13 : Nat) ({ cls := "java/util/ImmutableCollections$AbstractImmutableList", name := "size", desc := "()I" } : Jvm.MethodName)) ∈ lw_all := lw_g (lw_at lw_m1 141 rfl) rfl
theorem q256 : (Jvm.Cond.sameMethod "java/util/ImmutableCollections$AbstractImmutableList" "java/util/AbstractCollection" "size" "()I") ∈ lw_all := lw_g (lw_at lw_m1 142 rfl) rfl
theorem q266 : (Jvm.Cond.methodLink "java/util/ImmutableCollections$AbstractImmutableList" (63 : Nat) ({ cls := "java/util/ImmutableCollections$ListItr", name := "<init>", desc := "(Ljava/util/List;I)V" } : Jvm.MethodName)) ∈ lw_all := lw_g (lw_at lw_m1 152 rfl) rfl
theorem q415 : (Jvm.Cond.declares ({ cls := "java/util/ImmutableCollections$AbstractImmutableList", name := "outOfBounds", desc := "(I)Ljava/lang/IndexOutOfBoundsException;" } : Jvm.MethodName)) ∈ lw_tbl := lw_at lw_m2 61 rfl
theorem q417 : (Jvm.Cond.instanceMethod ({ cls := "java/util/ImmutableCollections$AbstractImmutableList", name := "outOfBounds", desc := "(I)Ljava/lang/IndexOutOfBoundsException;" } : Jvm.MethodName)) ∈ lw_all := lw_g (lw_at lw_m2 63 rfl) rfl
theorem q418 : (Jvm.Cond.code ({ cls := "java/util/ImmutableCollections$AbstractImmutableList", name := "outOfBounds", desc := "(I)Ljava/lang/IndexOutOfBoundsException;" } : Jvm.MethodName) prog_52_method_17_code (2 : Nat) (Option.some (Jvm.ClassFile.FieldType.object "java/lang/IndexOutOfBoundsException"))) ∈ lw_all := lw_g (lw_at lw_m2 64 rfl) rfl
theorem q419 : (Jvm.Cond.classLink "java/util/ImmutableCollections$AbstractImmutableList" (29 : Nat) "java/lang/IndexOutOfBoundsException") ∈ lw_all := lw_g (lw_at lw_m2 65 rfl) rfl
theorem q428 : (Jvm.Cond.classLink "java/util/ImmutableCollections$AbstractImmutableList" (31 : Nat) "java/lang/StringBuilder") ∈ lw_all := lw_g (lw_at lw_m2 74 rfl) rfl
theorem q430 : (Jvm.Cond.methodLink "java/util/ImmutableCollections$AbstractImmutableList" (33 : Nat) ({ cls := "java/lang/StringBuilder", name := "<init>", desc := "()V" } : Jvm.MethodName)) ∈ lw_all := lw_g (lw_at lw_m2 76 rfl) rfl
theorem q461 : (Jvm.Cond.stringRef "java/util/ImmutableCollections$AbstractImmutableList" (116 : Nat) "Index: ") ∈ lw_tbl := lw_at lw_m2 107 rfl
theorem q462 : (Jvm.Cond.methodLink "java/util/ImmutableCollections$AbstractImmutableList" (36 : Nat) ({ cls := "java/lang/StringBuilder", name := "append", desc := "(Ljava/lang/String;)Ljava/lang/StringBuilder;" } : Jvm.MethodName)) ∈ lw_all := lw_g (lw_at lw_m2 108 rfl) rfl
theorem q582 : (Jvm.Cond.methodLink "java/util/ImmutableCollections$AbstractImmutableList" (40 : Nat) ({ cls := "java/lang/StringBuilder", name := "append", desc := "(I)Ljava/lang/StringBuilder;" } : Jvm.MethodName)) ∈ lw_all := lw_g (lw_at lw_m2 228 rfl) rfl
theorem q607 : (Jvm.Cond.stringRef "java/util/ImmutableCollections$AbstractImmutableList" (118 : Nat) " Size: ") ∈ lw_tbl := lw_at lw_m3 13 rfl
theorem q608 : (Jvm.Cond.methodLink "java/util/ImmutableCollections$AbstractImmutableList" (43 : Nat) ({ cls := "java/lang/StringBuilder", name := "toString", desc := "()Ljava/lang/String;" } : Jvm.MethodName)) ∈ lw_all := lw_g (lw_at lw_m3 14 rfl) rfl
theorem q699 : (Jvm.Cond.methodLink "java/util/ImmutableCollections$AbstractImmutableList" (47 : Nat) ({ cls := "java/lang/IndexOutOfBoundsException", name := "<init>", desc := "(Ljava/lang/String;)V" } : Jvm.MethodName)) ∈ lw_all := lw_g (lw_at lw_m3 105 rfl) rfl
theorem q1187 : (Jvm.Cond.instanceMethod ({ cls := "java/util/ImmutableCollections$AbstractImmutableList", name := "add", desc := "(ILjava/lang/Object;)V" } : Jvm.MethodName)) ∈ lw_all := lw_g (lw_at lw_m5 113 rfl) rfl
theorem q1188 : (Jvm.Cond.publicMethod ({ cls := "java/util/ImmutableCollections$AbstractImmutableList", name := "add", desc := "(ILjava/lang/Object;)V" } : Jvm.MethodName)) ∈ lw_tbl := lw_at lw_m5 114 rfl
theorem q1189 : (Jvm.Cond.code ({ cls := "java/util/ImmutableCollections$AbstractImmutableList", name := "add", desc := "(ILjava/lang/Object;)V" } : Jvm.MethodName) prog_52_method_2_code (3 : Nat) (Option.none : Option Jvm.ClassFile.FieldType)) ∈ lw_all := lw_g (lw_at lw_m5 115 rfl) rfl
theorem q1190 : (Jvm.Cond.methodLink "java/util/ImmutableCollections$AbstractImmutableList" (7 : Nat) ({ cls := "java/util/ImmutableCollections", name := "uoe", desc := "()Ljava/lang/UnsupportedOperationException;" } : Jvm.MethodName)) ∈ lw_all := lw_g (lw_at lw_m5 116 rfl) rfl
theorem q1895 : (Jvm.Cond.instanceMethod ({ cls := "java/util/ImmutableCollections$AbstractImmutableList", name := "set", desc := "(ILjava/lang/Object;)Ljava/lang/Object;" } : Jvm.MethodName)) ∈ lw_all := lw_g (lw_at lw_m8 101 rfl) rfl
theorem q1896 : (Jvm.Cond.publicMethod ({ cls := "java/util/ImmutableCollections$AbstractImmutableList", name := "set", desc := "(ILjava/lang/Object;)Ljava/lang/Object;" } : Jvm.MethodName)) ∈ lw_tbl := lw_at lw_m8 102 rfl
theorem q1897 : (Jvm.Cond.code ({ cls := "java/util/ImmutableCollections$AbstractImmutableList", name := "set", desc := "(ILjava/lang/Object;)Ljava/lang/Object;" } : Jvm.MethodName) prog_52_method_6_code (3 : Nat) (Option.some (Jvm.ClassFile.FieldType.object "java/lang/Object"))) ∈ lw_all := lw_g (lw_at lw_m8 103 rfl) rfl
theorem q2037 : (Jvm.Cond.instanceMethod ({ cls := "java/util/ImmutableCollections$AbstractImmutableList", name := "<init>", desc := "()V" } : Jvm.MethodName)) ∈ lw_all := lw_g (lw_at lw_m9 3 rfl) rfl
theorem q2038 : (Jvm.Cond.code ({ cls := "java/util/ImmutableCollections$AbstractImmutableList", name := "<init>", desc := "()V" } : Jvm.MethodName) prog_52_method_1_code (1 : Nat) (Option.none : Option Jvm.ClassFile.FieldType)) ∈ lw_all := lw_g (lw_at lw_m9 4 rfl) rfl
theorem q2039 : (Jvm.Cond.methodLink "java/util/ImmutableCollections$AbstractImmutableList" (1 : Nat) ({ cls := "java/util/ImmutableCollections$AbstractImmutableCollection", name := "<init>", desc := "()V" } : Jvm.MethodName)) ∈ lw_all := lw_g (lw_at lw_m9 5 rfl) rfl

/-! java/util/ImmutableCollections$List12 -/
set_option maxRecDepth 100000
def RJ34 : String := "java/util/ImmutableCollections$List12"
def TJ34 : u_T := fun k => match k with
  | 0 => ("java/util/ImmutableCollections$List12", "e0", "Ljava/lang/Object;", true)
  | _ => ("java/util/ImmutableCollections$List12", "e1", "Ljava/lang/Object;", true)
def tyJ34 : Nat → FieldType := fun k => match k with
  | 0 => .object "java/lang/Object"
  | _ => .object "java/lang/Object"
abbrev wsJ340 : List Cond := u_ws RJ34 TJ34 2
theorem nmJ34 : ∀ a, a < 2 → ∀ b, b < 2 → a ≠ b → (TJ34 a).2.1 ≠ (TJ34 b).2.1 := by decide +kernel
theorem tyJ34_ok : ∀ k, k < 2 → parseFieldDescriptor (TJ34 k).2.2.1 = some (tyJ34 k) := by decide +kernel
abbrev cJ34_size : ByteArray := prog_53_method_3_code
def yJ34_size : MethodName := ⟨RJ34, "size", "()I"⟩
def dkwJ34_size_0 : List UInt8 := [42, 180, 0, 24, 178, 0, 19, 165, 0, 7, 5, 167, 0, 4, 4, 172]
abbrev dktJ34_size_0 : List UInt8 := dkwJ34_size_0 ++ []
theorem dksJ34_size_0 : cJ34_size.data.toList.drop 0 = dktJ34_size_0 := by decide +kernel
theorem dJ34_size_0 : decode cJ34_size 0 = .ok (.aload_n 0, 1) := dk_42 (dk_at dksJ34_size_0 0 rfl rfl)
theorem dJ34_size_1 : decode cJ34_size 1 = .ok (.getfield 24, 3) := dk_180 0 24 (dk_at dksJ34_size_0 1 rfl rfl)
theorem dJ34_size_4 : decode cJ34_size 4 = .ok (.getstatic 19, 3) := dk_178 0 19 (dk_at dksJ34_size_0 4 rfl rfl)
theorem dJ34_size_7 : decode cJ34_size 7 = .ok (.if_acmp .eq 7, 3) := dk_165 0 7 (dk_at dksJ34_size_0 7 rfl rfl)
theorem dJ34_size_10 : decode cJ34_size 10 = .ok (.iconst 2, 1) := dk_5 (dk_at dksJ34_size_0 10 rfl rfl)
theorem dJ34_size_11 : decode cJ34_size 11 = .ok (.goto 4, 3) := dk_167 0 4 (dk_at dksJ34_size_0 11 rfl rfl)
theorem dJ34_size_14 : decode cJ34_size 14 = .ok (.iconst 1, 1) := dk_4 (dk_at dksJ34_size_0 14 rfl rfl)
theorem dJ34_size_15 : decode cJ34_size 15 = .ok (.ireturn, 1) := dk_172 (dk_at dksJ34_size_0 15 rfl rfl)
abbrev cJ34_get : ByteArray := prog_53_method_5_code
def yJ34_get : MethodName := ⟨RJ34, "get", "(I)Ljava/lang/Object;"⟩
def dkwJ34_get_1 : List UInt8 := [42, 180, 0, 24, 176, 42, 27, 182, 0, 27, 191]
abbrev dktJ34_get_1 : List UInt8 := dkwJ34_get_1 ++ []
def dkwJ34_get_0 : List UInt8 := [27, 154, 0, 8, 42, 180, 0, 13, 176, 27, 4, 160, 0, 18, 42, 180, 0, 24, 178, 0, 19, 165, 0, 8]
abbrev dktJ34_get_0 : List UInt8 := dkwJ34_get_0 ++ dktJ34_get_1
theorem dksJ34_get_0 : cJ34_get.data.toList.drop 0 = dktJ34_get_0 := by decide +kernel
theorem dksJ34_get_1 : cJ34_get.data.toList.drop 24 = dktJ34_get_1 := dk_seg dksJ34_get_0 24 rfl rfl
theorem dJ34_get_0 : decode cJ34_get 0 = .ok (.iload_n 1, 1) := dk_27 (dk_at dksJ34_get_0 0 rfl rfl)
theorem dJ34_get_1 : decode cJ34_get 1 = .ok (.ifCond .ne 8, 3) := dk_154 0 8 (dk_at dksJ34_get_0 1 rfl rfl)
theorem dJ34_get_4 : decode cJ34_get 4 = .ok (.aload_n 0, 1) := dk_42 (dk_at dksJ34_get_0 4 rfl rfl)
theorem dJ34_get_5 : decode cJ34_get 5 = .ok (.getfield 13, 3) := dk_180 0 13 (dk_at dksJ34_get_0 5 rfl rfl)
theorem dJ34_get_8 : decode cJ34_get 8 = .ok (.areturn, 1) := dk_176 (dk_at dksJ34_get_0 8 rfl rfl)
theorem dJ34_get_9 : decode cJ34_get 9 = .ok (.iload_n 1, 1) := dk_27 (dk_at dksJ34_get_0 9 rfl rfl)
theorem dJ34_get_10 : decode cJ34_get 10 = .ok (.iconst 1, 1) := dk_4 (dk_at dksJ34_get_0 10 rfl rfl)
theorem dJ34_get_11 : decode cJ34_get 11 = .ok (.if_icmp .ne 18, 3) := dk_160 0 18 (dk_at dksJ34_get_0 11 rfl rfl)
theorem dJ34_get_14 : decode cJ34_get 14 = .ok (.aload_n 0, 1) := dk_42 (dk_at dksJ34_get_0 14 rfl rfl)
theorem dJ34_get_15 : decode cJ34_get 15 = .ok (.getfield 24, 3) := dk_180 0 24 (dk_at dksJ34_get_0 15 rfl rfl)
theorem dJ34_get_18 : decode cJ34_get 18 = .ok (.getstatic 19, 3) := dk_178 0 19 (dk_at dksJ34_get_0 18 rfl rfl)
theorem dJ34_get_21 : decode cJ34_get 21 = .ok (.if_acmp .eq 8, 3) := dk_165 0 8 (dk_at dksJ34_get_0 21 rfl rfl)
theorem dJ34_get_24 : decode cJ34_get 24 = .ok (.aload_n 0, 1) := dk_42 (dk_at dksJ34_get_1 0 rfl rfl)
theorem dJ34_get_25 : decode cJ34_get 25 = .ok (.getfield 24, 3) := dk_180 0 24 (dk_at dksJ34_get_1 1 rfl rfl)
theorem dJ34_get_28 : decode cJ34_get 28 = .ok (.areturn, 1) := dk_176 (dk_at dksJ34_get_1 4 rfl rfl)
theorem dJ34_get_29 : decode cJ34_get 29 = .ok (.aload_n 0, 1) := dk_42 (dk_at dksJ34_get_1 5 rfl rfl)
theorem dJ34_get_30 : decode cJ34_get 30 = .ok (.iload_n 1, 1) := dk_27 (dk_at dksJ34_get_1 6 rfl rfl)
theorem dJ34_get_31 : decode cJ34_get 31 = .ok (.invokevirtual 27, 3) := dk_182 0 27 (dk_at dksJ34_get_1 7 rfl rfl)
theorem dJ34_get_34 : decode cJ34_get 34 = .ok (.athrow, 1) := dk_191 (dk_at dksJ34_get_1 10 rfl rfl)
abbrev cJ34_init : ByteArray := prog_53_method_1_code
def yJ34_init : MethodName := ⟨RJ34, "<init>", "(Ljava/lang/Object;)V"⟩
def dkwJ34_init_0 : List UInt8 := [42, 183, 0, 1, 42, 43, 184, 0, 7, 181, 0, 13, 42, 178, 0, 19, 181, 0, 24, 177]
abbrev dktJ34_init_0 : List UInt8 := dkwJ34_init_0 ++ []
theorem dksJ34_init_0 : cJ34_init.data.toList.drop 0 = dktJ34_init_0 := by decide +kernel
theorem dJ34_init_0 : decode cJ34_init 0 = .ok (.aload_n 0, 1) := dk_42 (dk_at dksJ34_init_0 0 rfl rfl)
theorem dJ34_init_1 : decode cJ34_init 1 = .ok (.invokespecial 1, 3) := dk_183 0 1 (dk_at dksJ34_init_0 1 rfl rfl)
theorem dJ34_init_4 : decode cJ34_init 4 = .ok (.aload_n 0, 1) := dk_42 (dk_at dksJ34_init_0 4 rfl rfl)
theorem dJ34_init_5 : decode cJ34_init 5 = .ok (.aload_n 1, 1) := dk_43 (dk_at dksJ34_init_0 5 rfl rfl)
theorem dJ34_init_6 : decode cJ34_init 6 = .ok (.invokestatic 7, 3) := dk_184 0 7 (dk_at dksJ34_init_0 6 rfl rfl)
theorem dJ34_init_9 : decode cJ34_init 9 = .ok (.putfield 13, 3) := dk_181 0 13 (dk_at dksJ34_init_0 9 rfl rfl)
theorem dJ34_init_12 : decode cJ34_init 12 = .ok (.aload_n 0, 1) := dk_42 (dk_at dksJ34_init_0 12 rfl rfl)
theorem dJ34_init_13 : decode cJ34_init 13 = .ok (.getstatic 19, 3) := dk_178 0 19 (dk_at dksJ34_init_0 13 rfl rfl)
theorem dJ34_init_16 : decode cJ34_init 16 = .ok (.putfield 24, 3) := dk_181 0 24 (dk_at dksJ34_init_0 16 rfl rfl)
theorem dJ34_init_19 : decode cJ34_init 19 = .ok (.return_, 1) := dk_177 (dk_at dksJ34_init_0 19 rfl rfl)
abbrev cJ34_init_2 : ByteArray := prog_53_method_2_code
def yJ34_init_2 : MethodName := ⟨RJ34, "<init>", "(Ljava/lang/Object;Ljava/lang/Object;)V"⟩
def dkwJ34_init_2_0 : List UInt8 := [42, 183, 0, 1, 42, 43, 184, 0, 7, 181, 0, 13, 42, 44, 184, 0, 7, 181, 0, 24, 177]
abbrev dktJ34_init_2_0 : List UInt8 := dkwJ34_init_2_0 ++ []
theorem dksJ34_init_2_0 : cJ34_init_2.data.toList.drop 0 = dktJ34_init_2_0 := by decide +kernel
theorem dJ34_init_2_0 : decode cJ34_init_2 0 = .ok (.aload_n 0, 1) := dk_42 (dk_at dksJ34_init_2_0 0 rfl rfl)
theorem dJ34_init_2_1 : decode cJ34_init_2 1 = .ok (.invokespecial 1, 3) := dk_183 0 1 (dk_at dksJ34_init_2_0 1 rfl rfl)
theorem dJ34_init_2_4 : decode cJ34_init_2 4 = .ok (.aload_n 0, 1) := dk_42 (dk_at dksJ34_init_2_0 4 rfl rfl)
theorem dJ34_init_2_5 : decode cJ34_init_2 5 = .ok (.aload_n 1, 1) := dk_43 (dk_at dksJ34_init_2_0 5 rfl rfl)
theorem dJ34_init_2_6 : decode cJ34_init_2 6 = .ok (.invokestatic 7, 3) := dk_184 0 7 (dk_at dksJ34_init_2_0 6 rfl rfl)
theorem dJ34_init_2_9 : decode cJ34_init_2 9 = .ok (.putfield 13, 3) := dk_181 0 13 (dk_at dksJ34_init_2_0 9 rfl rfl)
theorem dJ34_init_2_12 : decode cJ34_init_2 12 = .ok (.aload_n 0, 1) := dk_42 (dk_at dksJ34_init_2_0 12 rfl rfl)
theorem dJ34_init_2_13 : decode cJ34_init_2 13 = .ok (.aload_n 2, 1) := dk_44 (dk_at dksJ34_init_2_0 13 rfl rfl)
theorem dJ34_init_2_14 : decode cJ34_init_2 14 = .ok (.invokestatic 7, 3) := dk_184 0 7 (dk_at dksJ34_init_2_0 14 rfl rfl)
theorem dJ34_init_2_17 : decode cJ34_init_2 17 = .ok (.putfield 24, 3) := dk_181 0 24 (dk_at dksJ34_init_2_0 17 rfl rfl)
theorem dJ34_init_2_20 : decode cJ34_init_2 20 = .ok (.return_, 1) := dk_177 (dk_at dksJ34_init_2_0 20 rfl rfl)
theorem q160 : (Jvm.Cond.initialized "java/util/ImmutableCollections$List12") ∈ lw_all := lw_g (lw_at lw_m1 46 rfl) rfl
theorem q247 : (Jvm.Cond.castable "java/util/ImmutableCollections$List12" "java/util/List") ∈ lw_tbl := lw_at lw_m1 133 rfl
theorem q248 : (Jvm.Cond.selects "java/util/ImmutableCollections$List12" ({ cls := "java/util/List", name := "iterator", desc := "()Ljava/util/Iterator;" } : Jvm.MethodName) ({ cls := "java/util/ImmutableCollections$AbstractImmutableList", name := "iterator", desc := "()Ljava/util/Iterator;" } : Jvm.MethodName)) ∈ lw_all := lw_g (lw_at lw_m1 134 rfl) rfl
theorem q249 : (Jvm.Cond.unhidden "java/util/ImmutableCollections$List12" "iterator" "()Ljava/util/Iterator;") ∈ lw_tbl := lw_at lw_m1 135 rfl
theorem q258 : (Jvm.Cond.selects "java/util/ImmutableCollections$List12" ({ cls := "java/util/ImmutableCollections$AbstractImmutableList", name := "size", desc := "()I" } : Jvm.MethodName) ({ cls := "java/util/ImmutableCollections$List12", name := "size", desc := "()I" } : Jvm.MethodName)) ∈ lw_all := lw_g (lw_at lw_m1 144 rfl) rfl
theorem q259 : (Jvm.Cond.instanceMethod ({ cls := "java/util/ImmutableCollections$List12", name := "size", desc := "()I" } : Jvm.MethodName)) ∈ lw_all := lw_g (lw_at lw_m1 145 rfl) rfl
theorem q260 : (Jvm.Cond.code ({ cls := "java/util/ImmutableCollections$List12", name := "size", desc := "()I" } : Jvm.MethodName) prog_53_method_3_code (1 : Nat) (Option.some Jvm.ClassFile.FieldType.int)) ∈ lw_all := lw_g (lw_at lw_m1 146 rfl) rfl
theorem q261 : (Jvm.Cond.fieldLinkNest "java/util/ImmutableCollections$List12" (19 : Nat) "java/util/ImmutableCollections" "EMPTY" "Ljava/lang/Object;" "java/util/ImmutableCollections") ∈ lw_tbl := lw_at lw_m1 147 rfl
theorem q408 : (Jvm.Cond.selects "java/util/ImmutableCollections$List12" ({ cls := "java/util/List", name := "get", desc := "(I)Ljava/lang/Object;" } : Jvm.MethodName) ({ cls := "java/util/ImmutableCollections$List12", name := "get", desc := "(I)Ljava/lang/Object;" } : Jvm.MethodName)) ∈ lw_all := lw_g (lw_at lw_m2 54 rfl) rfl
theorem q409 : (Jvm.Cond.unhidden "java/util/ImmutableCollections$List12" "get" "(I)Ljava/lang/Object;") ∈ lw_tbl := lw_at lw_m2 55 rfl
theorem q410 : (Jvm.Cond.instanceMethod ({ cls := "java/util/ImmutableCollections$List12", name := "get", desc := "(I)Ljava/lang/Object;" } : Jvm.MethodName)) ∈ lw_all := lw_g (lw_at lw_m2 56 rfl) rfl
theorem q411 : (Jvm.Cond.publicMethod ({ cls := "java/util/ImmutableCollections$List12", name := "get", desc := "(I)Ljava/lang/Object;" } : Jvm.MethodName)) ∈ lw_tbl := lw_at lw_m2 57 rfl
theorem q412 : (Jvm.Cond.code ({ cls := "java/util/ImmutableCollections$List12", name := "get", desc := "(I)Ljava/lang/Object;" } : Jvm.MethodName) prog_53_method_5_code (2 : Nat) (Option.some (Jvm.ClassFile.FieldType.object "java/lang/Object"))) ∈ lw_all := lw_g (lw_at lw_m2 58 rfl) rfl
theorem q413 : (Jvm.Cond.methodLink "java/util/ImmutableCollections$List12" (27 : Nat) ({ cls := "java/util/ImmutableCollections$List12", name := "outOfBounds", desc := "(I)Ljava/lang/IndexOutOfBoundsException;" } : Jvm.MethodName)) ∈ lw_all := lw_g (lw_at lw_m2 59 rfl) rfl
theorem q414 : (Jvm.Cond.sameMethod "java/util/ImmutableCollections$List12" "java/util/ImmutableCollections$AbstractImmutableList" "outOfBounds" "(I)Ljava/lang/IndexOutOfBoundsException;") ∈ lw_all := lw_g (lw_at lw_m2 60 rfl) rfl
theorem q416 : (Jvm.Cond.selects "java/util/ImmutableCollections$List12" ({ cls := "java/util/ImmutableCollections$List12", name := "outOfBounds", desc := "(I)Ljava/lang/IndexOutOfBoundsException;" } : Jvm.MethodName) ({ cls := "java/util/ImmutableCollections$AbstractImmutableList", name := "outOfBounds", desc := "(I)Ljava/lang/IndexOutOfBoundsException;" } : Jvm.MethodName)) ∈ lw_all := lw_g (lw_at lw_m2 62 rfl) rfl
theorem q764 : (Jvm.Cond.selects "java/util/ImmutableCollections$List12" ({ cls := "java/lang/Object", name := "getClass", desc := "()Ljava/lang/Class;" } : Jvm.MethodName) ({ cls := "java/lang/Object", name := "getClass", desc := "()Ljava/lang/Class;" } : Jvm.MethodName)) ∈ lw_all := lw_g (lw_at lw_m3 170 rfl) rfl
theorem q778 : (Jvm.Cond.selects "java/util/ImmutableCollections$List12" ({ cls := "java/util/List", name := "add", desc := "(Ljava/lang/Object;)Z" } : Jvm.MethodName) ({ cls := "java/util/ImmutableCollections$AbstractImmutableCollection", name := "add", desc := "(Ljava/lang/Object;)Z" } : Jvm.MethodName)) ∈ lw_all := lw_g (lw_at lw_m3 184 rfl) rfl
theorem q779 : (Jvm.Cond.unhidden "java/util/ImmutableCollections$List12" "add" "(Ljava/lang/Object;)Z") ∈ lw_tbl := lw_at lw_m3 185 rfl
theorem q901 : (Jvm.Cond.selects "java/util/ImmutableCollections$List12" ({ cls := "java/util/List", name := "size", desc := "()I" } : Jvm.MethodName) ({ cls := "java/util/ImmutableCollections$List12", name := "size", desc := "()I" } : Jvm.MethodName)) ∈ lw_all := lw_g (lw_at lw_m4 67 rfl) rfl
theorem q902 : (Jvm.Cond.unhidden "java/util/ImmutableCollections$List12" "size" "()I") ∈ lw_tbl := lw_at lw_m4 68 rfl
theorem q903 : (Jvm.Cond.publicMethod ({ cls := "java/util/ImmutableCollections$List12", name := "size", desc := "()I" } : Jvm.MethodName)) ∈ lw_tbl := lw_at lw_m4 69 rfl
theorem q1185 : (Jvm.Cond.selects "java/util/ImmutableCollections$List12" ({ cls := "java/util/List", name := "add", desc := "(ILjava/lang/Object;)V" } : Jvm.MethodName) ({ cls := "java/util/ImmutableCollections$AbstractImmutableList", name := "add", desc := "(ILjava/lang/Object;)V" } : Jvm.MethodName)) ∈ lw_all := lw_g (lw_at lw_m5 111 rfl) rfl
theorem q1186 : (Jvm.Cond.unhidden "java/util/ImmutableCollections$List12" "add" "(ILjava/lang/Object;)V") ∈ lw_tbl := lw_at lw_m5 112 rfl
theorem q1866 : (Jvm.Cond.selects "java/util/ImmutableCollections$List12" ({ cls := "java/util/List", name := "remove", desc := "(Ljava/lang/Object;)Z" } : Jvm.MethodName) ({ cls := "java/util/ImmutableCollections$AbstractImmutableCollection", name := "remove", desc := "(Ljava/lang/Object;)Z" } : Jvm.MethodName)) ∈ lw_all := lw_g (lw_at lw_m8 72 rfl) rfl
theorem q1867 : (Jvm.Cond.unhidden "java/util/ImmutableCollections$List12" "remove" "(Ljava/lang/Object;)Z") ∈ lw_tbl := lw_at lw_m8 73 rfl
theorem q1893 : (Jvm.Cond.selects "java/util/ImmutableCollections$List12" ({ cls := "java/util/List", name := "set", desc := "(ILjava/lang/Object;)Ljava/lang/Object;" } : Jvm.MethodName) ({ cls := "java/util/ImmutableCollections$AbstractImmutableList", name := "set", desc := "(ILjava/lang/Object;)Ljava/lang/Object;" } : Jvm.MethodName)) ∈ lw_all := lw_g (lw_at lw_m8 99 rfl) rfl
theorem q1894 : (Jvm.Cond.unhidden "java/util/ImmutableCollections$List12" "set" "(ILjava/lang/Object;)Ljava/lang/Object;") ∈ lw_tbl := lw_at lw_m8 100 rfl
theorem q2032 : (Jvm.Cond.instantiable "java/util/ImmutableCollections$List12" (2 : Nat)) ∈ lw_all := lw_g (lw_at lw_m8 238 rfl) rfl
theorem q2034 : (Jvm.Cond.instanceMethod ({ cls := "java/util/ImmutableCollections$List12", name := "<init>", desc := "(Ljava/lang/Object;)V" } : Jvm.MethodName)) ∈ lw_all := lw_g (lw_at lw_m9 0 rfl) rfl
theorem q2035 : (Jvm.Cond.code ({ cls := "java/util/ImmutableCollections$List12", name := "<init>", desc := "(Ljava/lang/Object;)V" } : Jvm.MethodName) prog_53_method_1_code (2 : Nat) (Option.none : Option Jvm.ClassFile.FieldType)) ∈ lw_all := lw_g (lw_at lw_m9 1 rfl) rfl
theorem q2036 : (Jvm.Cond.methodLink "java/util/ImmutableCollections$List12" (1 : Nat) ({ cls := "java/util/ImmutableCollections$AbstractImmutableList", name := "<init>", desc := "()V" } : Jvm.MethodName)) ∈ lw_all := lw_g (lw_at lw_m9 2 rfl) rfl
theorem q2043 : (Jvm.Cond.methodLink "java/util/ImmutableCollections$List12" (7 : Nat) ({ cls := "java/util/Objects", name := "requireNonNull", desc := "(Ljava/lang/Object;)Ljava/lang/Object;" } : Jvm.MethodName)) ∈ lw_all := lw_g (lw_at lw_m9 9 rfl) rfl
theorem q2044 : (Jvm.Cond.fieldLink "java/util/ImmutableCollections$List12" (13 : Nat) "java/util/ImmutableCollections$List12" "e0" "Ljava/lang/Object;") ∈ lw_all := lw_g (lw_at lw_m9 10 rfl) rfl
theorem q2045 : (Jvm.Cond.fieldLink "java/util/ImmutableCollections$List12" (24 : Nat) "java/util/ImmutableCollections$List12" "e1" "Ljava/lang/Object;") ∈ lw_all := lw_g (lw_at lw_m9 11 rfl) rfl
theorem q2046 : (Jvm.Cond.laysFinal "java/util/ImmutableCollections$List12" "java/util/ImmutableCollections$List12" "e0" "Ljava/lang/Object;") ∈ lw_all := lw_g (lw_at lw_m9 12 rfl) rfl
theorem q2047 : (Jvm.Cond.soleField "java/util/ImmutableCollections$List12" "e0") ∈ lw_all := lw_g (lw_at lw_m9 13 rfl) rfl
theorem q2048 : (Jvm.Cond.laysFinal "java/util/ImmutableCollections$List12" "java/util/ImmutableCollections$List12" "e1" "Ljava/lang/Object;") ∈ lw_all := lw_g (lw_at lw_m9 14 rfl) rfl
theorem q2049 : (Jvm.Cond.soleField "java/util/ImmutableCollections$List12" "e1") ∈ lw_all := lw_g (lw_at lw_m9 15 rfl) rfl
theorem q2050 : (Jvm.Cond.superclass "java/util/ImmutableCollections$List12" "java/util/ImmutableCollections$AbstractImmutableList") ∈ lw_all := lw_g (lw_at lw_m9 16 rfl) rfl
theorem q2052 : (Jvm.Cond.instanceMethod ({ cls := "java/util/ImmutableCollections$List12", name := "<init>", desc := "(Ljava/lang/Object;Ljava/lang/Object;)V" } : Jvm.MethodName)) ∈ lw_all := lw_g (lw_at lw_m9 18 rfl) rfl
theorem q2053 : (Jvm.Cond.code ({ cls := "java/util/ImmutableCollections$List12", name := "<init>", desc := "(Ljava/lang/Object;Ljava/lang/Object;)V" } : Jvm.MethodName) prog_53_method_2_code (3 : Nat) (Option.none : Option Jvm.ClassFile.FieldType)) ∈ lw_all := lw_g (lw_at lw_m9 19 rfl) rfl
theorem q3257 : (Jvm.Cond.castable "java/util/ImmutableCollections$List12" "java/lang/Object") ∈ lw_tbl := lw_at lw_m14 23 rfl
theorem in_J34 : ∀ w ∈ wsJ340, w ∈ lw_all := lw_in wsJ340 [2046, 2048] (by decide +kernel) (by decide +kernel)

/-! java/util/ImmutableCollections$ListN -/
set_option maxRecDepth 100000
def RJ35 : String := "java/util/ImmutableCollections$ListN"
def TJ35 : u_T := fun k => match k with
  | 0 => ("java/util/ImmutableCollections$ListN", "elements", "[Ljava/lang/Object;", true)
  | _ => ("java/util/ImmutableCollections$ListN", "allowNulls", "Z", true)
def tyJ35 : Nat → FieldType := fun k => match k with
  | 0 => .array (.object "java/lang/Object")
  | _ => .boolean
abbrev wsJ350 : List Cond := u_ws RJ35 TJ35 2
theorem nmJ35 : ∀ a, a < 2 → ∀ b, b < 2 → a ≠ b → (TJ35 a).2.1 ≠ (TJ35 b).2.1 := by decide +kernel
theorem tyJ35_ok : ∀ k, k < 2 → parseFieldDescriptor (TJ35 k).2.2.1 = some (tyJ35 k) := by decide +kernel
abbrev cJ35_size : ByteArray := prog_55_method_3_code
def yJ35_size : MethodName := ⟨RJ35, "size", "()I"⟩
def dkwJ35_size_0 : List UInt8 := [42, 180, 0, 7, 190, 172]
abbrev dktJ35_size_0 : List UInt8 := dkwJ35_size_0 ++ []
theorem dksJ35_size_0 : cJ35_size.data.toList.drop 0 = dktJ35_size_0 := by decide +kernel
theorem dJ35_size_0 : decode cJ35_size 0 = .ok (.aload_n 0, 1) := dk_42 (dk_at dksJ35_size_0 0 rfl rfl)
theorem dJ35_size_1 : decode cJ35_size 1 = .ok (.getfield 7, 3) := dk_180 0 7 (dk_at dksJ35_size_0 1 rfl rfl)
theorem dJ35_size_4 : decode cJ35_size 4 = .ok (.arraylength, 1) := dk_190 (dk_at dksJ35_size_0 4 rfl rfl)
theorem dJ35_size_5 : decode cJ35_size 5 = .ok (.ireturn, 1) := dk_172 (dk_at dksJ35_size_0 5 rfl rfl)
abbrev cJ35_get : ByteArray := prog_55_method_4_code
def yJ35_get : MethodName := ⟨RJ35, "get", "(I)Ljava/lang/Object;"⟩
def dkwJ35_get_0 : List UInt8 := [42, 180, 0, 7, 27, 50, 176]
abbrev dktJ35_get_0 : List UInt8 := dkwJ35_get_0 ++ []
theorem dksJ35_get_0 : cJ35_get.data.toList.drop 0 = dktJ35_get_0 := by decide +kernel
theorem dJ35_get_0 : decode cJ35_get 0 = .ok (.aload_n 0, 1) := dk_42 (dk_at dksJ35_get_0 0 rfl rfl)
theorem dJ35_get_1 : decode cJ35_get 1 = .ok (.getfield 7, 3) := dk_180 0 7 (dk_at dksJ35_get_0 1 rfl rfl)
theorem dJ35_get_4 : decode cJ35_get 4 = .ok (.iload_n 1, 1) := dk_27 (dk_at dksJ35_get_0 4 rfl rfl)
theorem dJ35_get_5 : decode cJ35_get 5 = .ok (.aaload, 1) := dk_50 (dk_at dksJ35_get_0 5 rfl rfl)
theorem dJ35_get_6 : decode cJ35_get 6 = .ok (.areturn, 1) := dk_176 (dk_at dksJ35_get_0 6 rfl rfl)
abbrev cJ35_init : ByteArray := prog_55_method_1_code
def yJ35_init : MethodName := ⟨RJ35, "<init>", "([Ljava/lang/Object;Z)V"⟩
def dkwJ35_init_0 : List UInt8 := [42, 183, 0, 1, 42, 43, 181, 0, 7, 42, 28, 181, 0, 13, 177]
abbrev dktJ35_init_0 : List UInt8 := dkwJ35_init_0 ++ []
theorem dksJ35_init_0 : cJ35_init.data.toList.drop 0 = dktJ35_init_0 := by decide +kernel
theorem dJ35_init_0 : decode cJ35_init 0 = .ok (.aload_n 0, 1) := dk_42 (dk_at dksJ35_init_0 0 rfl rfl)
theorem dJ35_init_1 : decode cJ35_init 1 = .ok (.invokespecial 1, 3) := dk_183 0 1 (dk_at dksJ35_init_0 1 rfl rfl)
theorem dJ35_init_4 : decode cJ35_init 4 = .ok (.aload_n 0, 1) := dk_42 (dk_at dksJ35_init_0 4 rfl rfl)
theorem dJ35_init_5 : decode cJ35_init 5 = .ok (.aload_n 1, 1) := dk_43 (dk_at dksJ35_init_0 5 rfl rfl)
theorem dJ35_init_6 : decode cJ35_init 6 = .ok (.putfield 7, 3) := dk_181 0 7 (dk_at dksJ35_init_0 6 rfl rfl)
theorem dJ35_init_9 : decode cJ35_init 9 = .ok (.aload_n 0, 1) := dk_42 (dk_at dksJ35_init_0 9 rfl rfl)
theorem dJ35_init_10 : decode cJ35_init 10 = .ok (.iload_n 2, 1) := dk_28 (dk_at dksJ35_init_0 10 rfl rfl)
theorem dJ35_init_11 : decode cJ35_init 11 = .ok (.putfield 13, 3) := dk_181 0 13 (dk_at dksJ35_init_0 11 rfl rfl)
theorem dJ35_init_14 : decode cJ35_init 14 = .ok (.return_, 1) := dk_177 (dk_at dksJ35_init_0 14 rfl rfl)
theorem q161 : (Jvm.Cond.initialized "java/util/ImmutableCollections$ListN") ∈ lw_all := lw_g (lw_at lw_m1 47 rfl) rfl
theorem q263 : (Jvm.Cond.selects "java/util/ImmutableCollections$ListN" ({ cls := "java/util/ImmutableCollections$AbstractImmutableList", name := "size", desc := "()I" } : Jvm.MethodName) ({ cls := "java/util/ImmutableCollections$ListN", name := "size", desc := "()I" } : Jvm.MethodName)) ∈ lw_all := lw_g (lw_at lw_m1 149 rfl) rfl
theorem q264 : (Jvm.Cond.instanceMethod ({ cls := "java/util/ImmutableCollections$ListN", name := "size", desc := "()I" } : Jvm.MethodName)) ∈ lw_all := lw_g (lw_at lw_m1 150 rfl) rfl
theorem q265 : (Jvm.Cond.code ({ cls := "java/util/ImmutableCollections$ListN", name := "size", desc := "()I" } : Jvm.MethodName) prog_55_method_3_code (1 : Nat) (Option.some Jvm.ClassFile.FieldType.int)) ∈ lw_all := lw_g (lw_at lw_m1 151 rfl) rfl
theorem q283 : (Jvm.Cond.castable "java/util/ImmutableCollections$ListN" "java/util/List") ∈ lw_tbl := lw_at lw_m1 169 rfl
theorem q284 : (Jvm.Cond.selects "java/util/ImmutableCollections$ListN" ({ cls := "java/util/List", name := "iterator", desc := "()Ljava/util/Iterator;" } : Jvm.MethodName) ({ cls := "java/util/ImmutableCollections$AbstractImmutableList", name := "iterator", desc := "()Ljava/util/Iterator;" } : Jvm.MethodName)) ∈ lw_all := lw_g (lw_at lw_m1 170 rfl) rfl
theorem q285 : (Jvm.Cond.unhidden "java/util/ImmutableCollections$ListN" "iterator" "()Ljava/util/Iterator;") ∈ lw_tbl := lw_at lw_m1 171 rfl
theorem q705 : (Jvm.Cond.selects "java/util/ImmutableCollections$ListN" ({ cls := "java/util/List", name := "get", desc := "(I)Ljava/lang/Object;" } : Jvm.MethodName) ({ cls := "java/util/ImmutableCollections$ListN", name := "get", desc := "(I)Ljava/lang/Object;" } : Jvm.MethodName)) ∈ lw_all := lw_g (lw_at lw_m3 111 rfl) rfl
theorem q706 : (Jvm.Cond.unhidden "java/util/ImmutableCollections$ListN" "get" "(I)Ljava/lang/Object;") ∈ lw_tbl := lw_at lw_m3 112 rfl
theorem q707 : (Jvm.Cond.instanceMethod ({ cls := "java/util/ImmutableCollections$ListN", name := "get", desc := "(I)Ljava/lang/Object;" } : Jvm.MethodName)) ∈ lw_all := lw_g (lw_at lw_m3 113 rfl) rfl
theorem q708 : (Jvm.Cond.publicMethod ({ cls := "java/util/ImmutableCollections$ListN", name := "get", desc := "(I)Ljava/lang/Object;" } : Jvm.MethodName)) ∈ lw_tbl := lw_at lw_m3 114 rfl
theorem q709 : (Jvm.Cond.code ({ cls := "java/util/ImmutableCollections$ListN", name := "get", desc := "(I)Ljava/lang/Object;" } : Jvm.MethodName) prog_55_method_4_code (2 : Nat) (Option.some (Jvm.ClassFile.FieldType.object "java/lang/Object"))) ∈ lw_all := lw_g (lw_at lw_m3 115 rfl) rfl
theorem q766 : (Jvm.Cond.selects "java/util/ImmutableCollections$ListN" ({ cls := "java/lang/Object", name := "getClass", desc := "()Ljava/lang/Class;" } : Jvm.MethodName) ({ cls := "java/lang/Object", name := "getClass", desc := "()Ljava/lang/Class;" } : Jvm.MethodName)) ∈ lw_all := lw_g (lw_at lw_m3 172 rfl) rfl
theorem q801 : (Jvm.Cond.selects "java/util/ImmutableCollections$ListN" ({ cls := "java/util/List", name := "add", desc := "(Ljava/lang/Object;)Z" } : Jvm.MethodName) ({ cls := "java/util/ImmutableCollections$AbstractImmutableCollection", name := "add", desc := "(Ljava/lang/Object;)Z" } : Jvm.MethodName)) ∈ lw_all := lw_g (lw_at lw_m3 207 rfl) rfl
theorem q802 : (Jvm.Cond.unhidden "java/util/ImmutableCollections$ListN" "add" "(Ljava/lang/Object;)Z") ∈ lw_tbl := lw_at lw_m3 208 rfl
theorem q904 : (Jvm.Cond.selects "java/util/ImmutableCollections$ListN" ({ cls := "java/util/List", name := "size", desc := "()I" } : Jvm.MethodName) ({ cls := "java/util/ImmutableCollections$ListN", name := "size", desc := "()I" } : Jvm.MethodName)) ∈ lw_all := lw_g (lw_at lw_m4 70 rfl) rfl
theorem q905 : (Jvm.Cond.unhidden "java/util/ImmutableCollections$ListN" "size" "()I") ∈ lw_tbl := lw_at lw_m4 71 rfl
theorem q906 : (Jvm.Cond.publicMethod ({ cls := "java/util/ImmutableCollections$ListN", name := "size", desc := "()I" } : Jvm.MethodName)) ∈ lw_tbl := lw_at lw_m4 72 rfl
theorem q1191 : (Jvm.Cond.selects "java/util/ImmutableCollections$ListN" ({ cls := "java/util/List", name := "add", desc := "(ILjava/lang/Object;)V" } : Jvm.MethodName) ({ cls := "java/util/ImmutableCollections$AbstractImmutableList", name := "add", desc := "(ILjava/lang/Object;)V" } : Jvm.MethodName)) ∈ lw_all := lw_g (lw_at lw_m5 117 rfl) rfl
theorem q1192 : (Jvm.Cond.unhidden "java/util/ImmutableCollections$ListN" "add" "(ILjava/lang/Object;)V") ∈ lw_tbl := lw_at lw_m5 118 rfl
theorem q1871 : (Jvm.Cond.selects "java/util/ImmutableCollections$ListN" ({ cls := "java/util/List", name := "remove", desc := "(Ljava/lang/Object;)Z" } : Jvm.MethodName) ({ cls := "java/util/ImmutableCollections$AbstractImmutableCollection", name := "remove", desc := "(Ljava/lang/Object;)Z" } : Jvm.MethodName)) ∈ lw_all := lw_g (lw_at lw_m8 77 rfl) rfl
theorem q1872 : (Jvm.Cond.unhidden "java/util/ImmutableCollections$ListN" "remove" "(Ljava/lang/Object;)Z") ∈ lw_tbl := lw_at lw_m8 78 rfl
theorem q1898 : (Jvm.Cond.selects "java/util/ImmutableCollections$ListN" ({ cls := "java/util/List", name := "set", desc := "(ILjava/lang/Object;)Ljava/lang/Object;" } : Jvm.MethodName) ({ cls := "java/util/ImmutableCollections$AbstractImmutableList", name := "set", desc := "(ILjava/lang/Object;)Ljava/lang/Object;" } : Jvm.MethodName)) ∈ lw_all := lw_g (lw_at lw_m8 104 rfl) rfl
theorem q1899 : (Jvm.Cond.unhidden "java/util/ImmutableCollections$ListN" "set" "(ILjava/lang/Object;)Ljava/lang/Object;") ∈ lw_tbl := lw_at lw_m8 105 rfl
theorem q2055 : (Jvm.Cond.instantiable "java/util/ImmutableCollections$ListN" (2 : Nat)) ∈ lw_all := lw_g (lw_at lw_m9 21 rfl) rfl
theorem q2057 : (Jvm.Cond.instanceMethod ({ cls := "java/util/ImmutableCollections$ListN", name := "<init>", desc := "([Ljava/lang/Object;Z)V" } : Jvm.MethodName)) ∈ lw_all := lw_g (lw_at lw_m9 23 rfl) rfl
theorem q2058 : (Jvm.Cond.code ({ cls := "java/util/ImmutableCollections$ListN", name := "<init>", desc := "([Ljava/lang/Object;Z)V" } : Jvm.MethodName) prog_55_method_1_code (3 : Nat) (Option.none : Option Jvm.ClassFile.FieldType)) ∈ lw_all := lw_g (lw_at lw_m9 24 rfl) rfl
theorem q2059 : (Jvm.Cond.methodLink "java/util/ImmutableCollections$ListN" (1 : Nat) ({ cls := "java/util/ImmutableCollections$AbstractImmutableList", name := "<init>", desc := "()V" } : Jvm.MethodName)) ∈ lw_all := lw_g (lw_at lw_m9 25 rfl) rfl
theorem q2060 : (Jvm.Cond.fieldLink "java/util/ImmutableCollections$ListN" (7 : Nat) "java/util/ImmutableCollections$ListN" "elements" "[Ljava/lang/Object;") ∈ lw_all := lw_g (lw_at lw_m9 26 rfl) rfl
theorem q2061 : (Jvm.Cond.fieldLink "java/util/ImmutableCollections$ListN" (13 : Nat) "java/util/ImmutableCollections$ListN" "allowNulls" "Z") ∈ lw_all := lw_g (lw_at lw_m9 27 rfl) rfl
theorem q2062 : (Jvm.Cond.laysFinal "java/util/ImmutableCollections$ListN" "java/util/ImmutableCollections$ListN" "elements" "[Ljava/lang/Object;") ∈ lw_all := lw_g (lw_at lw_m9 28 rfl) rfl
theorem q2063 : (Jvm.Cond.soleField "java/util/ImmutableCollections$ListN" "elements") ∈ lw_all := lw_g (lw_at lw_m9 29 rfl) rfl
theorem q2064 : (Jvm.Cond.laysFinal "java/util/ImmutableCollections$ListN" "java/util/ImmutableCollections$ListN" "allowNulls" "Z") ∈ lw_all := lw_g (lw_at lw_m9 30 rfl) rfl
theorem q2065 : (Jvm.Cond.soleField "java/util/ImmutableCollections$ListN" "allowNulls") ∈ lw_all := lw_g (lw_at lw_m9 31 rfl) rfl
theorem q2066 : (Jvm.Cond.superclass "java/util/ImmutableCollections$ListN" "java/util/ImmutableCollections$AbstractImmutableList") ∈ lw_all := lw_g (lw_at lw_m9 32 rfl) rfl
theorem q3256 : (Jvm.Cond.castable "java/util/ImmutableCollections$ListN" "java/lang/Object") ∈ lw_tbl := lw_at lw_m14 22 rfl
theorem in_J35 : ∀ w ∈ wsJ350, w ∈ lw_all := lw_in wsJ350 [2062, 2064] (by decide +kernel) (by decide +kernel)

/-! java/lang/ArithmeticException -/
set_option maxRecDepth 100000
def RJ36 : String := "java/lang/ArithmeticException"
def TJ36 : u_T := fun k => match k with
  | 0 => ("java/lang/Throwable", "backtrace", "Ljava/lang/Object;", false)
  | 1 => ("java/lang/Throwable", "detailMessage", "Ljava/lang/String;", false)
  | 2 => ("java/lang/Throwable", "cause", "Ljava/lang/Throwable;", false)
  | 3 => ("java/lang/Throwable", "stackTrace", "[Ljava/lang/StackTraceElement;", false)
  | 4 => ("java/lang/Throwable", "depth", "I", false)
  | _ => ("java/lang/Throwable", "suppressedExceptions", "Ljava/util/List;", false)
def tyJ36 : Nat → FieldType := fun k => match k with
  | 0 => .object "java/lang/Object"
  | 1 => .object "java/lang/String"
  | 2 => .object "java/lang/Throwable"
  | 3 => .array (.object "java/lang/StackTraceElement")
  | 4 => .int
  | _ => .object "java/util/List"
abbrev wsJ360 : List Cond := u_ws RJ36 TJ36 6
theorem nmJ36 : ∀ a, a < 6 → ∀ b, b < 6 → a ≠ b → (TJ36 a).2.1 ≠ (TJ36 b).2.1 := by decide +kernel
theorem tyJ36_ok : ∀ k, k < 6 → parseFieldDescriptor (TJ36 k).2.2.1 = some (tyJ36 k) := by decide +kernel
abbrev cJ36_init : ByteArray := prog_16_method_2_code
def yJ36_init : MethodName := ⟨RJ36, "<init>", "(Ljava/lang/String;)V"⟩
def dkwJ36_init_0 : List UInt8 := [42, 43, 183, 0, 7, 177]
abbrev dktJ36_init_0 : List UInt8 := dkwJ36_init_0 ++ []
theorem dksJ36_init_0 : cJ36_init.data.toList.drop 0 = dktJ36_init_0 := by decide +kernel
theorem dJ36_init_0 : decode cJ36_init 0 = .ok (.aload_n 0, 1) := dk_42 (dk_at dksJ36_init_0 0 rfl rfl)
theorem dJ36_init_1 : decode cJ36_init 1 = .ok (.aload_n 1, 1) := dk_43 (dk_at dksJ36_init_0 1 rfl rfl)
theorem dJ36_init_2 : decode cJ36_init 2 = .ok (.invokespecial 7, 3) := dk_183 0 7 (dk_at dksJ36_init_0 2 rfl rfl)
theorem dJ36_init_5 : decode cJ36_init 5 = .ok (.return_, 1) := dk_177 (dk_at dksJ36_init_0 5 rfl rfl)
abbrev cJ36_init_2 : ByteArray := prog_16_method_1_code
def yJ36_init_2 : MethodName := ⟨RJ36, "<init>", "()V"⟩
theorem dJ36_init_2_0 : decode cJ36_init_2 0 = .ok (.aload_n 0, 1) := by decide +kernel
theorem dJ36_init_2_1 : decode cJ36_init_2 1 = .ok (.invokespecial 1, 3) := by decide +kernel
theorem dJ36_init_2_4 : decode cJ36_init_2 4 = .ok (.return_, 1) := by decide +kernel
theorem q164 : (Jvm.Cond.initialized "java/lang/ArithmeticException") ∈ lw_all := lw_g (lw_at lw_m1 50 rfl) rfl
theorem q348 : (Jvm.Cond.selects "java/lang/ArithmeticException" ({ cls := "java/lang/Throwable", name := "fillInStackTrace", desc := "()Ljava/lang/Throwable;" } : Jvm.MethodName) ({ cls := "java/lang/Throwable", name := "fillInStackTrace", desc := "()Ljava/lang/Throwable;" } : Jvm.MethodName)) ∈ lw_all := lw_g (lw_at lw_m1 234 rfl) rfl
theorem q751 : (Jvm.Cond.selects "java/lang/ArithmeticException" ({ cls := "java/lang/Object", name := "getClass", desc := "()Ljava/lang/Class;" } : Jvm.MethodName) ({ cls := "java/lang/Object", name := "getClass", desc := "()Ljava/lang/Class;" } : Jvm.MethodName)) ∈ lw_all := lw_g (lw_at lw_m3 157 rfl) rfl
theorem q1842 : (Jvm.Cond.selects "java/lang/ArithmeticException" ({ cls := "java/lang/Object", name := "equals", desc := "(Ljava/lang/Object;)Z" } : Jvm.MethodName) ({ cls := "java/lang/Object", name := "equals", desc := "(Ljava/lang/Object;)Z" } : Jvm.MethodName)) ∈ lw_all := lw_g (lw_at lw_m8 48 rfl) rfl
theorem q2354 : (Jvm.Cond.instantiable "java/lang/ArithmeticException" (6 : Nat)) ∈ lw_all := lw_g (lw_at lw_m10 80 rfl) rfl
theorem q2355 : (Jvm.Cond.instanceMethod ({ cls := "java/lang/ArithmeticException", name := "<init>", desc := "(Ljava/lang/String;)V" } : Jvm.MethodName)) ∈ lw_all := lw_g (lw_at lw_m10 81 rfl) rfl
theorem q2356 : (Jvm.Cond.code ({ cls := "java/lang/ArithmeticException", name := "<init>", desc := "(Ljava/lang/String;)V" } : Jvm.MethodName) prog_16_method_2_code (2 : Nat) (Option.none : Option Jvm.ClassFile.FieldType)) ∈ lw_all := lw_g (lw_at lw_m10 82 rfl) rfl
theorem q2357 : (Jvm.Cond.methodLink "java/lang/ArithmeticException" (7 : Nat) ({ cls := "java/lang/RuntimeException", name := "<init>", desc := "(Ljava/lang/String;)V" } : Jvm.MethodName)) ∈ lw_all := lw_g (lw_at lw_m10 83 rfl) rfl
theorem q2358 : (Jvm.Cond.lays "java/lang/ArithmeticException" "java/lang/Throwable" "backtrace" "Ljava/lang/Object;") ∈ lw_all := lw_g (lw_at lw_m10 84 rfl) rfl
theorem q2359 : (Jvm.Cond.lays "java/lang/ArithmeticException" "java/lang/Throwable" "detailMessage" "Ljava/lang/String;") ∈ lw_all := lw_g (lw_at lw_m10 85 rfl) rfl
theorem q2360 : (Jvm.Cond.lays "java/lang/ArithmeticException" "java/lang/Throwable" "cause" "Ljava/lang/Throwable;") ∈ lw_all := lw_g (lw_at lw_m10 86 rfl) rfl
theorem q2361 : (Jvm.Cond.lays "java/lang/ArithmeticException" "java/lang/Throwable" "stackTrace" "[Ljava/lang/StackTraceElement;") ∈ lw_all := lw_g (lw_at lw_m10 87 rfl) rfl
theorem q2362 : (Jvm.Cond.lays "java/lang/ArithmeticException" "java/lang/Throwable" "depth" "I") ∈ lw_all := lw_g (lw_at lw_m10 88 rfl) rfl
theorem q2363 : (Jvm.Cond.lays "java/lang/ArithmeticException" "java/lang/Throwable" "suppressedExceptions" "Ljava/util/List;") ∈ lw_all := lw_g (lw_at lw_m10 89 rfl) rfl
theorem q2364 : (Jvm.Cond.superclass "java/lang/ArithmeticException" "java/lang/RuntimeException") ∈ lw_all := lw_g (lw_at lw_m10 90 rfl) rfl
theorem q2365 : (Jvm.Cond.castable "java/lang/ArithmeticException" "java/lang/ArithmeticException") ∈ lw_tbl := lw_at lw_m10 91 rfl
theorem q2366 : (Jvm.Cond.selects "java/lang/ArithmeticException" ({ cls := "java/lang/Throwable", name := "fillInStackTrace", desc := "(I)Ljava/lang/Throwable;" } : Jvm.MethodName) ({ cls := "java/lang/Throwable", name := "fillInStackTrace", desc := "(I)Ljava/lang/Throwable;" } : Jvm.MethodName)) ∈ lw_all := lw_g (lw_at lw_m10 92 rfl) rfl
theorem q2376 : (Jvm.Cond.instanceMethod ({ cls := "java/lang/ArithmeticException", name := "<init>", desc := "()V" } : Jvm.MethodName)) ∈ lw_all := lw_g (lw_at lw_m10 102 rfl) rfl
theorem q2377 : (Jvm.Cond.code ({ cls := "java/lang/ArithmeticException", name := "<init>", desc := "()V" } : Jvm.MethodName) prog_16_method_1_code (1 : Nat) (Option.none : Option Jvm.ClassFile.FieldType)) ∈ lw_all := lw_g (lw_at lw_m10 103 rfl) rfl
theorem q2378 : (Jvm.Cond.methodLink "java/lang/ArithmeticException" (1 : Nat) ({ cls := "java/lang/RuntimeException", name := "<init>", desc := "()V" } : Jvm.MethodName)) ∈ lw_all := lw_g (lw_at lw_m10 104 rfl) rfl
theorem q2458 : (Jvm.Cond.selects "java/lang/ArithmeticException" ({ cls := "java/lang/Object", name := "toString", desc := "()Ljava/lang/String;" } : Jvm.MethodName) ({ cls := "java/lang/Throwable", name := "toString", desc := "()Ljava/lang/String;" } : Jvm.MethodName)) ∈ lw_all := lw_g (lw_at lw_m10 184 rfl) rfl
theorem q2465 : (Jvm.Cond.selects "java/lang/ArithmeticException" ({ cls := "java/lang/Throwable", name := "getLocalizedMessage", desc := "()Ljava/lang/String;" } : Jvm.MethodName) ({ cls := "java/lang/Throwable", name := "getLocalizedMessage", desc := "()Ljava/lang/String;" } : Jvm.MethodName)) ∈ lw_all := lw_g (lw_at lw_m10 191 rfl) rfl
theorem q2477 : (Jvm.Cond.selects "java/lang/ArithmeticException" ({ cls := "java/lang/Throwable", name := "getMessage", desc := "()Ljava/lang/String;" } : Jvm.MethodName) ({ cls := "java/lang/Throwable", name := "getMessage", desc := "()Ljava/lang/String;" } : Jvm.MethodName)) ∈ lw_all := lw_g (lw_at lw_m10 203 rfl) rfl
theorem q3261 : (Jvm.Cond.castable "java/lang/ArithmeticException" "java/lang/Object") ∈ lw_tbl := lw_at lw_m14 27 rfl
theorem in_J36 : ∀ w ∈ wsJ360, w ∈ lw_all := lw_in wsJ360 [2358, 2359, 2360, 2361, 2362, 2363] (by decide +kernel) (by decide +kernel)

/-! java/lang/Object -/
set_option maxRecDepth 100000
def RJ37 : String := "java/lang/Object"
abbrev cJ37_init : ByteArray := object_method_1_code
def yJ37_init : MethodName := ⟨RJ37, "<init>", "()V"⟩
theorem dJ37_init_0 : decode cJ37_init 0 = .ok (.return_, 1) := by decide +kernel
abbrev cJ37_equals : ByteArray := object_method_4_code
def yJ37_equals : MethodName := ⟨RJ37, "equals", "(Ljava/lang/Object;)Z"⟩
def dkwJ37_equals_0 : List UInt8 := [42, 43, 166, 0, 7, 4, 167, 0, 4, 3, 172]
abbrev dktJ37_equals_0 : List UInt8 := dkwJ37_equals_0 ++ []
theorem dksJ37_equals_0 : cJ37_equals.data.toList.drop 0 = dktJ37_equals_0 := by decide +kernel
theorem dJ37_equals_0 : decode cJ37_equals 0 = .ok (.aload_n 0, 1) := dk_42 (dk_at dksJ37_equals_0 0 rfl rfl)
theorem dJ37_equals_1 : decode cJ37_equals 1 = .ok (.aload_n 1, 1) := dk_43 (dk_at dksJ37_equals_0 1 rfl rfl)
theorem dJ37_equals_2 : decode cJ37_equals 2 = .ok (.if_acmp .ne 7, 3) := dk_166 0 7 (dk_at dksJ37_equals_0 2 rfl rfl)
theorem dJ37_equals_5 : decode cJ37_equals 5 = .ok (.iconst 1, 1) := dk_4 (dk_at dksJ37_equals_0 5 rfl rfl)
theorem dJ37_equals_6 : decode cJ37_equals 6 = .ok (.goto 4, 3) := dk_167 0 4 (dk_at dksJ37_equals_0 6 rfl rfl)
theorem dJ37_equals_9 : decode cJ37_equals 9 = .ok (.iconst 0, 1) := dk_3 (dk_at dksJ37_equals_0 9 rfl rfl)
theorem dJ37_equals_10 : decode cJ37_equals 10 = .ok (.ireturn, 1) := dk_172 (dk_at dksJ37_equals_0 10 rfl rfl)
theorem q171 : (Jvm.Cond.instanceMethod ({ cls := "java/lang/Object", name := "<init>", desc := "()V" } : Jvm.MethodName)) ∈ lw_all := lw_g (lw_at lw_m1 57 rfl) rfl
theorem q172 : (Jvm.Cond.code ({ cls := "java/lang/Object", name := "<init>", desc := "()V" } : Jvm.MethodName) object_method_1_code (1 : Nat) (Option.none : Option Jvm.ClassFile.FieldType)) ∈ lw_all := lw_g (lw_at lw_m1 58 rfl) rfl
theorem q497 : (Jvm.Cond.native ({ cls := "java/lang/Object", name := "clone", desc := "()Ljava/lang/Object;" } : Jvm.MethodName)) ∈ lw_all := lw_g (lw_at lw_m2 143 rfl) rfl
theorem q498 : (Jvm.Cond.instanceMethod ({ cls := "java/lang/Object", name := "clone", desc := "()Ljava/lang/Object;" } : Jvm.MethodName)) ∈ lw_all := lw_g (lw_at lw_m2 144 rfl) rfl
theorem q739 : (Jvm.Cond.instanceMethod ({ cls := "java/lang/Object", name := "getClass", desc := "()Ljava/lang/Class;" } : Jvm.MethodName)) ∈ lw_all := lw_g (lw_at lw_m3 145 rfl) rfl
theorem q740 : (Jvm.Cond.sameMethod "java/lang/Object" "java/lang/Object" "getClass" "()Ljava/lang/Class;") ∈ lw_all := lw_g (lw_at lw_m3 146 rfl) rfl
theorem q769 : (Jvm.Cond.native ({ cls := "java/lang/Object", name := "getClass", desc := "()Ljava/lang/Class;" } : Jvm.MethodName)) ∈ lw_all := lw_g (lw_at lw_m3 175 rfl) rfl
theorem q1828 : (Jvm.Cond.declares ({ cls := "java/lang/Object", name := "equals", desc := "(Ljava/lang/Object;)Z" } : Jvm.MethodName)) ∈ lw_tbl := lw_at lw_m8 34 rfl
theorem q1830 : (Jvm.Cond.instanceMethod ({ cls := "java/lang/Object", name := "equals", desc := "(Ljava/lang/Object;)Z" } : Jvm.MethodName)) ∈ lw_all := lw_g (lw_at lw_m8 36 rfl) rfl
theorem q1831 : (Jvm.Cond.sameMethod "java/lang/Object" "java/lang/Object" "equals" "(Ljava/lang/Object;)Z") ∈ lw_all := lw_g (lw_at lw_m8 37 rfl) rfl
theorem q1861 : (Jvm.Cond.code ({ cls := "java/lang/Object", name := "equals", desc := "(Ljava/lang/Object;)Z" } : Jvm.MethodName) object_method_4_code (2 : Nat) (Option.some Jvm.ClassFile.FieldType.boolean)) ∈ lw_all := lw_g (lw_at lw_m8 67 rfl) rfl
theorem q2423 : (Jvm.Cond.declares ({ cls := "java/lang/Object", name := "toString", desc := "()Ljava/lang/String;" } : Jvm.MethodName)) ∈ lw_tbl := lw_at lw_m10 149 rfl
theorem q2425 : (Jvm.Cond.instanceMethod ({ cls := "java/lang/Object", name := "toString", desc := "()Ljava/lang/String;" } : Jvm.MethodName)) ∈ lw_all := lw_g (lw_at lw_m10 151 rfl) rfl
theorem q2426 : (Jvm.Cond.sameMethod "java/lang/Object" "java/lang/Object" "toString" "()Ljava/lang/String;") ∈ lw_all := lw_g (lw_at lw_m10 152 rfl) rfl
theorem q3231 : (Jvm.Cond.initialized "java/lang/Object") ∈ lw_all := lw_g (lw_at lw_m13 237 rfl) rfl
theorem q3265 : (Jvm.Cond.declares ({ cls := "java/lang/Object", name := "getClass", desc := "()Ljava/lang/Class;" } : Jvm.MethodName)) ∈ lw_tbl := lw_at lw_m14 31 rfl
theorem q3272 : (Jvm.Cond.instantiable "java/lang/Object" (0 : Nat)) ∈ lw_all := lw_g (lw_at lw_m14 38 rfl) rfl

theorem q180 : (Jvm.Cond.arrayOver (Jvm.ClassFile.FieldType.object "ScheduleAnalyzer$Schedule")) ∈ lw_tbl := lw_at lw_m1 66 rfl
set_option maxRecDepth 100000
theorem q211 : (Jvm.Cond.arrayClass Jvm.ClassFile.FieldType.int) ∈ lw_all := lw_g (lw_at lw_m1 97 rfl) rfl
theorem q460 : (Jvm.Cond.arrayClass Jvm.ClassFile.FieldType.byte) ∈ lw_all := lw_g (lw_at lw_m2 106 rfl) rfl
theorem q774 : (Jvm.Cond.arrayOver (Jvm.ClassFile.FieldType.object "java/lang/Object")) ∈ lw_tbl := lw_at lw_m3 180 rfl
theorem q3215 : (Jvm.Cond.arrayClass Jvm.ClassFile.FieldType.long) ∈ lw_all := lw_g (lw_at lw_m13 221 rfl) rfl
theorem q3216 : (Jvm.Cond.arrayClass Jvm.ClassFile.FieldType.double) ∈ lw_all := lw_g (lw_at lw_m13 222 rfl) rfl

theorem q915 : (Jvm.Cond.interfaceMethod "ScheduleAnalyzer$OperationTest" "ScheduleAnalyzer$OperationTest" "holdsFor" "(LScheduleAnalyzer$Operation;)Z") ∈ lw_tbl := lw_at lw_m4 81 rfl
set_option maxRecDepth 100000
theorem q916 : (Jvm.Cond.declares ({ cls := "ScheduleAnalyzer$OperationTest", name := "holdsFor", desc := "(LScheduleAnalyzer$Operation;)Z" } : Jvm.MethodName)) ∈ lw_tbl := lw_at lw_m4 82 rfl

theorem q964 : (Jvm.Cond.interfaceMethod "java/lang/Comparable" "java/lang/Comparable" "compareTo" "(Ljava/lang/Object;)I") ∈ lw_tbl := lw_at lw_m4 130 rfl
set_option maxRecDepth 100000
theorem q965 : (Jvm.Cond.declares ({ cls := "java/lang/Comparable", name := "compareTo", desc := "(Ljava/lang/Object;)I" } : Jvm.MethodName)) ∈ lw_tbl := lw_at lw_m4 131 rfl

theorem q152 : (Jvm.Cond.initialized "java/lang/Integer$IntegerCache") ∈ lw_all := lw_g (lw_at lw_m1 38 rfl) rfl
set_option maxRecDepth 100000
theorem q929 : (Jvm.Cond.laysStatic "java/lang/Integer$IntegerCache" "high" "I") ∈ lw_tbl := lw_at lw_m4 95 rfl
theorem q931 : (Jvm.Cond.laysStatic "java/lang/Integer$IntegerCache" "cache" "[Ljava/lang/Integer;") ∈ lw_tbl := lw_at lw_m4 97 rfl

theorem q138 : (Jvm.Cond.initialized "java/lang/System") ∈ lw_all := lw_g (lw_at lw_m1 24 rfl) rfl
set_option maxRecDepth 100000
theorem q506 : (Jvm.Cond.static ({ cls := "java/lang/System", name := "arraycopy", desc := "(Ljava/lang/Object;ILjava/lang/Object;II)V" } : Jvm.MethodName)) ∈ lw_all := lw_g (lw_at lw_m2 152 rfl) rfl
theorem q507 : (Jvm.Cond.native ({ cls := "java/lang/System", name := "arraycopy", desc := "(Ljava/lang/Object;ILjava/lang/Object;II)V" } : Jvm.MethodName)) ∈ lw_all := lw_g (lw_at lw_m2 153 rfl) rfl

theorem q288 : (Jvm.Cond.interfaceMethod "java/util/Iterator" "java/util/Iterator" "hasNext" "()Z") ∈ lw_tbl := lw_at lw_m1 174 rfl
set_option maxRecDepth 100000
theorem q289 : (Jvm.Cond.declares ({ cls := "java/util/Iterator", name := "hasNext", desc := "()Z" } : Jvm.MethodName)) ∈ lw_tbl := lw_at lw_m1 175 rfl
theorem q304 : (Jvm.Cond.interfaceMethod "java/util/Iterator" "java/util/Iterator" "next" "()Ljava/lang/Object;") ∈ lw_tbl := lw_at lw_m1 190 rfl
theorem q305 : (Jvm.Cond.declares ({ cls := "java/util/Iterator", name := "next", desc := "()Ljava/lang/Object;" } : Jvm.MethodName)) ∈ lw_tbl := lw_at lw_m1 191 rfl

theorem q154 : (Jvm.Cond.initialized "jdk/internal/misc/UnsafeConstants") ∈ lw_all := lw_g (lw_at lw_m1 40 rfl) rfl
set_option maxRecDepth 100000
theorem q1037 : (Jvm.Cond.laysStatic "jdk/internal/misc/UnsafeConstants" "BIG_ENDIAN" "Z") ∈ lw_tbl := lw_at lw_m4 203 rfl

theorem q496 : (Jvm.Cond.sameMethod "[B" "java/lang/Object" "clone" "()Ljava/lang/Object;") ∈ lw_all := lw_g (lw_at lw_m2 142 rfl) rfl
set_option maxRecDepth 100000
theorem q499 : (Jvm.Cond.selects "[B" ({ cls := "[B", name := "clone", desc := "()Ljava/lang/Object;" } : Jvm.MethodName) ({ cls := "java/lang/Object", name := "clone", desc := "()Ljava/lang/Object;" } : Jvm.MethodName)) ∈ lw_all := lw_g (lw_at lw_m2 145 rfl) rfl
theorem q500 : (Jvm.Cond.castable "[B" "java/lang/Cloneable") ∈ lw_tbl := lw_at lw_m2 146 rfl
theorem q3268 : (Jvm.Cond.castable "[B" "java/lang/Object") ∈ lw_tbl := lw_at lw_m14 34 rfl

theorem q3271 : (Jvm.Cond.castable "[D" "java/lang/Object") ∈ lw_tbl := lw_at lw_m14 37 rfl
set_option maxRecDepth 100000

theorem q1341 : (Jvm.Cond.sameMethod "[I" "java/lang/Object" "clone" "()Ljava/lang/Object;") ∈ lw_all := lw_g (lw_at lw_m6 27 rfl) rfl
set_option maxRecDepth 100000
theorem q1342 : (Jvm.Cond.selects "[I" ({ cls := "[I", name := "clone", desc := "()Ljava/lang/Object;" } : Jvm.MethodName) ({ cls := "java/lang/Object", name := "clone", desc := "()Ljava/lang/Object;" } : Jvm.MethodName)) ∈ lw_all := lw_g (lw_at lw_m6 28 rfl) rfl
theorem q1343 : (Jvm.Cond.castable "[I" "java/lang/Cloneable") ∈ lw_tbl := lw_at lw_m6 29 rfl
theorem q3267 : (Jvm.Cond.castable "[I" "java/lang/Object") ∈ lw_tbl := lw_at lw_m14 33 rfl

theorem q3270 : (Jvm.Cond.castable "[J" "java/lang/Object") ∈ lw_tbl := lw_at lw_m14 36 rfl
set_option maxRecDepth 100000

theorem q3266 : (Jvm.Cond.castable "[LScheduleAnalyzer$Schedule;" "java/lang/Object") ∈ lw_tbl := lw_at lw_m14 32 rfl
set_option maxRecDepth 100000

theorem q3263 : (Jvm.Cond.sameMethod "[Ljava/lang/Object;" "java/lang/Object" "getClass" "()Ljava/lang/Class;") ∈ lw_all := lw_g (lw_at lw_m14 29 rfl) rfl
set_option maxRecDepth 100000
theorem q3264 : (Jvm.Cond.selects "[Ljava/lang/Object;" ({ cls := "java/lang/Object", name := "getClass", desc := "()Ljava/lang/Class;" } : Jvm.MethodName) ({ cls := "java/lang/Object", name := "getClass", desc := "()Ljava/lang/Class;" } : Jvm.MethodName)) ∈ lw_all := lw_g (lw_at lw_m14 30 rfl) rfl
theorem q3269 : (Jvm.Cond.castable "[Ljava/lang/Object;" "java/lang/Object") ∈ lw_tbl := lw_at lw_m14 35 rfl

