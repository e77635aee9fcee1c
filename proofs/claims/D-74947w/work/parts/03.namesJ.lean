/-! java/util/AbstractCollection -/
set_option maxRecDepth 100000
def RJ0 : String := "java/util/AbstractCollection"
abbrev cJ0_init : ByteArray := prog_41_method_1_code
def yJ0_init : MethodName := ⟨RJ0, "<init>", "()V"⟩
theorem dJ0_init_0 : decode cJ0_init 0 = .ok (.aload_n 0, 1) := by decide +kernel
theorem dJ0_init_1 : decode cJ0_init 1 = .ok (.invokespecial 1, 3) := by decide +kernel
theorem dJ0_init_4 : decode cJ0_init 4 = .ok (.return_, 1) := by decide +kernel
theorem q98 : (Jvm.Cond.initialized "java/util/AbstractCollection") ∈ lw_all := lw_g (lw_at lw_m1 3 rfl) rfl
theorem q175 : (Jvm.Cond.instanceMethod ({ cls := "java/util/AbstractCollection", name := "<init>", desc := "()V" } : Jvm.MethodName)) ∈ lw_all := lw_g (lw_at lw_m1 80 rfl) rfl
theorem q176 : (Jvm.Cond.code ({ cls := "java/util/AbstractCollection", name := "<init>", desc := "()V" } : Jvm.MethodName) prog_41_method_1_code (1 : Nat) (Option.none : Option Jvm.ClassFile.FieldType)) ∈ lw_all := lw_g (lw_at lw_m1 81 rfl) rfl
theorem q177 : (Jvm.Cond.methodLink "java/util/AbstractCollection" (1 : Nat) ({ cls := "java/lang/Object", name := "<init>", desc := "()V" } : Jvm.MethodName)) ∈ lw_all := lw_g (lw_at lw_m1 82 rfl) rfl
theorem q998 : (Jvm.Cond.declares ({ cls := "java/util/AbstractCollection", name := "size", desc := "()I" } : Jvm.MethodName)) ∈ lw_tbl := lw_at lw_m4 183 rfl

/-! java/util/AbstractList -/
set_option maxRecDepth 100000
def RJ1 : String := "java/util/AbstractList"
abbrev cJ1_init : ByteArray := prog_42_method_1_code
def yJ1_init : MethodName := ⟨RJ1, "<init>", "()V"⟩
def dkwJ1_init_0 : List UInt8 := [42, 183, 0, 1, 42, 3, 181, 0, 7, 177]
abbrev dktJ1_init_0 : List UInt8 := dkwJ1_init_0 ++ []
theorem dksJ1_init_0 : cJ1_init.data.toList.drop 0 = dktJ1_init_0 := by decide +kernel
theorem dJ1_init_0 : decode cJ1_init 0 = .ok (.aload_n 0, 1) := dk_42 (dk_at dksJ1_init_0 0 rfl rfl)
theorem dJ1_init_1 : decode cJ1_init 1 = .ok (.invokespecial 1, 3) := dk_183 0 1 (dk_at dksJ1_init_0 1 rfl rfl)
theorem dJ1_init_4 : decode cJ1_init 4 = .ok (.aload_n 0, 1) := dk_42 (dk_at dksJ1_init_0 4 rfl rfl)
theorem dJ1_init_5 : decode cJ1_init 5 = .ok (.iconst 0, 1) := dk_3 (dk_at dksJ1_init_0 5 rfl rfl)
theorem dJ1_init_6 : decode cJ1_init 6 = .ok (.putfield 7, 3) := dk_181 0 7 (dk_at dksJ1_init_0 6 rfl rfl)
theorem dJ1_init_9 : decode cJ1_init 9 = .ok (.return_, 1) := dk_177 (dk_at dksJ1_init_0 9 rfl rfl)
abbrev cJ1_listIterator : ByteArray := prog_42_method_12_code
def yJ1_listIterator : MethodName := ⟨RJ1, "listIterator", "()Ljava/util/ListIterator;"⟩
def dkwJ1_listIterator_0 : List UInt8 := [42, 3, 182, 0, 47, 176]
abbrev dktJ1_listIterator_0 : List UInt8 := dkwJ1_listIterator_0 ++ []
theorem dksJ1_listIterator_0 : cJ1_listIterator.data.toList.drop 0 = dktJ1_listIterator_0 := by decide +kernel
theorem dJ1_listIterator_0 : decode cJ1_listIterator 0 = .ok (.aload_n 0, 1) := dk_42 (dk_at dksJ1_listIterator_0 0 rfl rfl)
theorem dJ1_listIterator_1 : decode cJ1_listIterator 1 = .ok (.iconst 0, 1) := dk_3 (dk_at dksJ1_listIterator_0 1 rfl rfl)
theorem dJ1_listIterator_2 : decode cJ1_listIterator 2 = .ok (.invokevirtual 47, 3) := dk_182 0 47 (dk_at dksJ1_listIterator_0 2 rfl rfl)
theorem dJ1_listIterator_5 : decode cJ1_listIterator 5 = .ok (.areturn, 1) := dk_176 (dk_at dksJ1_listIterator_0 5 rfl rfl)
theorem q99 : (Jvm.Cond.initialized "java/util/AbstractList") ∈ lw_all := lw_g (lw_at lw_m1 4 rfl) rfl
theorem q172 : (Jvm.Cond.instanceMethod ({ cls := "java/util/AbstractList", name := "<init>", desc := "()V" } : Jvm.MethodName)) ∈ lw_all := lw_g (lw_at lw_m1 77 rfl) rfl
theorem q173 : (Jvm.Cond.code ({ cls := "java/util/AbstractList", name := "<init>", desc := "()V" } : Jvm.MethodName) prog_42_method_1_code (1 : Nat) (Option.none : Option Jvm.ClassFile.FieldType)) ∈ lw_all := lw_g (lw_at lw_m1 78 rfl) rfl
theorem q174 : (Jvm.Cond.methodLink "java/util/AbstractList" (1 : Nat) ({ cls := "java/util/AbstractCollection", name := "<init>", desc := "()V" } : Jvm.MethodName)) ∈ lw_all := lw_g (lw_at lw_m1 79 rfl) rfl
theorem q186 : (Jvm.Cond.fieldLink "java/util/AbstractList" (7 : Nat) "java/util/AbstractList" "modCount" "I") ∈ lw_all := lw_g (lw_at lw_m1 91 rfl) rfl
theorem q199 : (Jvm.Cond.soleField "java/util/AbstractList" "modCount") ∈ lw_all := lw_g (lw_at lw_m1 104 rfl) rfl
theorem q1515 : (Jvm.Cond.declares ({ cls := "java/util/AbstractList", name := "listIterator", desc := "()Ljava/util/ListIterator;" } : Jvm.MethodName)) ∈ lw_tbl := lw_at lw_m6 220 rfl
theorem q1517 : (Jvm.Cond.instanceMethod ({ cls := "java/util/AbstractList", name := "listIterator", desc := "()Ljava/util/ListIterator;" } : Jvm.MethodName)) ∈ lw_all := lw_g (lw_at lw_m6 222 rfl) rfl
theorem q1518 : (Jvm.Cond.code ({ cls := "java/util/AbstractList", name := "listIterator", desc := "()Ljava/util/ListIterator;" } : Jvm.MethodName) prog_42_method_12_code (1 : Nat) (Option.some (Jvm.ClassFile.FieldType.object "java/util/ListIterator"))) ∈ lw_all := lw_g (lw_at lw_m6 223 rfl) rfl
theorem q1519 : (Jvm.Cond.methodLink "java/util/AbstractList" (47 : Nat) ({ cls := "java/util/AbstractList", name := "listIterator", desc := "(I)Ljava/util/ListIterator;" } : Jvm.MethodName)) ∈ lw_all := lw_g (lw_at lw_m6 224 rfl) rfl
theorem q1520 : (Jvm.Cond.instanceMethod ({ cls := "java/util/AbstractList", name := "listIterator", desc := "(I)Ljava/util/ListIterator;" } : Jvm.MethodName)) ∈ lw_all := lw_g (lw_at lw_m6 225 rfl) rfl
theorem q1521 : (Jvm.Cond.sameMethod "java/util/AbstractList" "java/util/AbstractList" "listIterator" "(I)Ljava/util/ListIterator;") ∈ lw_all := lw_g (lw_at lw_m6 226 rfl) rfl
theorem q1603 : (Jvm.Cond.declares ({ cls := "java/util/AbstractList", name := "listIterator", desc := "(I)Ljava/util/ListIterator;" } : Jvm.MethodName)) ∈ lw_tbl := lw_at lw_m7 68 rfl
theorem q1615 : (Jvm.Cond.sameMethod "java/util/AbstractList" "java/util/AbstractCollection" "size" "()I") ∈ lw_all := lw_g (lw_at lw_m7 80 rfl) rfl
theorem q1651 : (Jvm.Cond.declares ({ cls := "java/util/AbstractList", name := "get", desc := "(I)Ljava/lang/Object;" } : Jvm.MethodName)) ∈ lw_tbl := lw_at lw_m7 116 rfl
theorem q1652 : (Jvm.Cond.sameMethod "java/util/AbstractList" "java/util/AbstractList" "get" "(I)Ljava/lang/Object;") ∈ lw_all := lw_g (lw_at lw_m7 117 rfl) rfl
theorem q1955 : (Jvm.Cond.instanceMethod ({ cls := "java/util/AbstractList", name := "remove", desc := "(I)Ljava/lang/Object;" } : Jvm.MethodName)) ∈ lw_all := lw_g (lw_at lw_m8 180 rfl) rfl
theorem q1956 : (Jvm.Cond.sameMethod "java/util/AbstractList" "java/util/AbstractList" "remove" "(I)Ljava/lang/Object;") ∈ lw_all := lw_g (lw_at lw_m8 181 rfl) rfl
theorem q1965 : (Jvm.Cond.declares ({ cls := "java/util/AbstractList", name := "remove", desc := "(I)Ljava/lang/Object;" } : Jvm.MethodName)) ∈ lw_tbl := lw_at lw_m8 190 rfl

/-! java/util/ArrayList -/
set_option maxRecDepth 100000
def RJ2 : String := "java/util/ArrayList"
def TJ2 : u_T := fun k => match k with
  | 0 => ("java/util/AbstractList", "modCount", "I", false)
  | 1 => ("java/util/ArrayList", "elementData", "[Ljava/lang/Object;", false)
  | _ => ("java/util/ArrayList", "size", "I", false)
def tyJ2 : Nat → FieldType := fun k => match k with
  | 0 => .int
  | 1 => .array (.object "java/lang/Object")
  | _ => .int
abbrev wsJ20 : List Cond := u_ws RJ2 TJ2 3
theorem nmJ2 : ∀ a, a < 3 → ∀ b, b < 3 → a ≠ b → (TJ2 a).2.1 ≠ (TJ2 b).2.1 := by decide +kernel
theorem tyJ2_ok : ∀ k, k < 3 → parseFieldDescriptor (TJ2 k).2.2.1 = some (tyJ2 k) := by decide +kernel
abbrev cJ2_init : ByteArray := prog_48_method_1_code
def yJ2_init : MethodName := ⟨RJ2, "<init>", "(I)V"⟩
def dkwJ2_init_2 : List UInt8 := [182, 0, 25, 27, 182, 0, 29, 182, 0, 32, 183, 0, 36, 191, 177]
abbrev dktJ2_init_2 : List UInt8 := dkwJ2_init_2 ++ []
def dkwJ2_init_1 : List UInt8 := [178, 0, 15, 181, 0, 9, 167, 0, 30, 187, 0, 18, 89, 187, 0, 20, 89, 183, 0, 22, 18, 23]
abbrev dktJ2_init_1 : List UInt8 := dkwJ2_init_1 ++ dktJ2_init_2
def dkwJ2_init_0 : List UInt8 := [42, 183, 0, 1, 27, 158, 0, 14, 42, 27, 189, 0, 7, 181, 0, 9, 167, 0, 44, 27, 154, 0, 13, 42]
abbrev dktJ2_init_0 : List UInt8 := dkwJ2_init_0 ++ dktJ2_init_1
theorem dksJ2_init_0 : cJ2_init.data.toList.drop 0 = dktJ2_init_0 := by decide +kernel
theorem dksJ2_init_1 : cJ2_init.data.toList.drop 24 = dktJ2_init_1 := dk_seg dksJ2_init_0 24 rfl rfl
theorem dksJ2_init_2 : cJ2_init.data.toList.drop 46 = dktJ2_init_2 := dk_seg dksJ2_init_1 22 rfl rfl
theorem dJ2_init_0 : decode cJ2_init 0 = .ok (.aload_n 0, 1) := dk_42 (dk_at dksJ2_init_0 0 rfl rfl)
theorem dJ2_init_1 : decode cJ2_init 1 = .ok (.invokespecial 1, 3) := dk_183 0 1 (dk_at dksJ2_init_0 1 rfl rfl)
theorem dJ2_init_4 : decode cJ2_init 4 = .ok (.iload_n 1, 1) := dk_27 (dk_at dksJ2_init_0 4 rfl rfl)
theorem dJ2_init_5 : decode cJ2_init 5 = .ok (.ifCond .le 14, 3) := dk_158 0 14 (dk_at dksJ2_init_0 5 rfl rfl)
theorem dJ2_init_8 : decode cJ2_init 8 = .ok (.aload_n 0, 1) := dk_42 (dk_at dksJ2_init_0 8 rfl rfl)
theorem dJ2_init_9 : decode cJ2_init 9 = .ok (.iload_n 1, 1) := dk_27 (dk_at dksJ2_init_0 9 rfl rfl)
theorem dJ2_init_10 : decode cJ2_init 10 = .ok (.anewarray 7, 3) := dk_189 0 7 (dk_at dksJ2_init_0 10 rfl rfl)
theorem dJ2_init_13 : decode cJ2_init 13 = .ok (.putfield 9, 3) := dk_181 0 9 (dk_at dksJ2_init_0 13 rfl rfl)
theorem dJ2_init_16 : decode cJ2_init 16 = .ok (.goto 44, 3) := dk_167 0 44 (dk_at dksJ2_init_0 16 rfl rfl)
theorem dJ2_init_19 : decode cJ2_init 19 = .ok (.iload_n 1, 1) := dk_27 (dk_at dksJ2_init_0 19 rfl rfl)
theorem dJ2_init_20 : decode cJ2_init 20 = .ok (.ifCond .ne 13, 3) := dk_154 0 13 (dk_at dksJ2_init_0 20 rfl rfl)
theorem dJ2_init_23 : decode cJ2_init 23 = .ok (.aload_n 0, 1) := dk_42 (dk_at dksJ2_init_0 23 rfl rfl)
theorem dJ2_init_24 : decode cJ2_init 24 = .ok (.getstatic 15, 3) := dk_178 0 15 (dk_at dksJ2_init_1 0 rfl rfl)
theorem dJ2_init_27 : decode cJ2_init 27 = .ok (.putfield 9, 3) := dk_181 0 9 (dk_at dksJ2_init_1 3 rfl rfl)
theorem dJ2_init_30 : decode cJ2_init 30 = .ok (.goto 30, 3) := dk_167 0 30 (dk_at dksJ2_init_1 6 rfl rfl)
theorem dJ2_init_33 : decode cJ2_init 33 = .ok (.new 18, 3) := dk_187 0 18 (dk_at dksJ2_init_1 9 rfl rfl)
theorem dJ2_init_36 : decode cJ2_init 36 = .ok (.dup, 1) := dk_89 (dk_at dksJ2_init_1 12 rfl rfl)
theorem dJ2_init_37 : decode cJ2_init 37 = .ok (.new 20, 3) := dk_187 0 20 (dk_at dksJ2_init_1 13 rfl rfl)
theorem dJ2_init_40 : decode cJ2_init 40 = .ok (.dup, 1) := dk_89 (dk_at dksJ2_init_1 16 rfl rfl)
theorem dJ2_init_41 : decode cJ2_init 41 = .ok (.invokespecial 22, 3) := dk_183 0 22 (dk_at dksJ2_init_1 17 rfl rfl)
theorem dJ2_init_44 : decode cJ2_init 44 = .ok (.ldc 23, 2) := dk_18 23 (dk_at dksJ2_init_1 20 rfl rfl)
theorem dJ2_init_46 : decode cJ2_init 46 = .ok (.invokevirtual 25, 3) := dk_182 0 25 (dk_at dksJ2_init_2 0 rfl rfl)
theorem dJ2_init_49 : decode cJ2_init 49 = .ok (.iload_n 1, 1) := dk_27 (dk_at dksJ2_init_2 3 rfl rfl)
theorem dJ2_init_50 : decode cJ2_init 50 = .ok (.invokevirtual 29, 3) := dk_182 0 29 (dk_at dksJ2_init_2 4 rfl rfl)
theorem dJ2_init_53 : decode cJ2_init 53 = .ok (.invokevirtual 32, 3) := dk_182 0 32 (dk_at dksJ2_init_2 7 rfl rfl)
theorem dJ2_init_56 : decode cJ2_init 56 = .ok (.invokespecial 36, 3) := dk_183 0 36 (dk_at dksJ2_init_2 10 rfl rfl)
theorem dJ2_init_59 : decode cJ2_init 59 = .ok (.athrow, 1) := dk_191 (dk_at dksJ2_init_2 13 rfl rfl)
theorem dJ2_init_60 : decode cJ2_init 60 = .ok (.return_, 1) := dk_177 (dk_at dksJ2_init_2 14 rfl rfl)
abbrev cJ2_size : ByteArray := prog_48_method_8_code
def yJ2_size : MethodName := ⟨RJ2, "size", "()I"⟩
theorem dJ2_size_0 : decode cJ2_size 0 = .ok (.aload_n 0, 1) := by decide +kernel
theorem dJ2_size_1 : decode cJ2_size 1 = .ok (.getfield 48, 3) := by decide +kernel
theorem dJ2_size_4 : decode cJ2_size 4 = .ok (.ireturn, 1) := by decide +kernel
abbrev cJ2_get : ByteArray := prog_48_method_20_code
def yJ2_get : MethodName := ⟨RJ2, "get", "(I)Ljava/lang/Object;"⟩
def dkwJ2_get_0 : List UInt8 := [27, 42, 180, 0, 48, 184, 0, 118, 87, 42, 27, 182, 0, 123, 176]
abbrev dktJ2_get_0 : List UInt8 := dkwJ2_get_0 ++ []
theorem dksJ2_get_0 : cJ2_get.data.toList.drop 0 = dktJ2_get_0 := by decide +kernel
theorem dJ2_get_0 : decode cJ2_get 0 = .ok (.iload_n 1, 1) := dk_27 (dk_at dksJ2_get_0 0 rfl rfl)
theorem dJ2_get_1 : decode cJ2_get 1 = .ok (.aload_n 0, 1) := dk_42 (dk_at dksJ2_get_0 1 rfl rfl)
theorem dJ2_get_2 : decode cJ2_get 2 = .ok (.getfield 48, 3) := dk_180 0 48 (dk_at dksJ2_get_0 2 rfl rfl)
theorem dJ2_get_5 : decode cJ2_get 5 = .ok (.invokestatic 118, 3) := dk_184 0 118 (dk_at dksJ2_get_0 5 rfl rfl)
theorem dJ2_get_8 : decode cJ2_get 8 = .ok (.pop, 1) := dk_87 (dk_at dksJ2_get_0 8 rfl rfl)
theorem dJ2_get_9 : decode cJ2_get 9 = .ok (.aload_n 0, 1) := dk_42 (dk_at dksJ2_get_0 9 rfl rfl)
theorem dJ2_get_10 : decode cJ2_get 10 = .ok (.iload_n 1, 1) := dk_27 (dk_at dksJ2_get_0 10 rfl rfl)
theorem dJ2_get_11 : decode cJ2_get 11 = .ok (.invokevirtual 123, 3) := dk_182 0 123 (dk_at dksJ2_get_0 11 rfl rfl)
theorem dJ2_get_14 : decode cJ2_get 14 = .ok (.areturn, 1) := dk_176 (dk_at dksJ2_get_0 14 rfl rfl)
abbrev cJ2_elementData : ByteArray := prog_48_method_18_code
def yJ2_elementData : MethodName := ⟨RJ2, "elementData", "(I)Ljava/lang/Object;"⟩
def dkwJ2_elementData_0 : List UInt8 := [42, 180, 0, 9, 27, 50, 176]
abbrev dktJ2_elementData_0 : List UInt8 := dkwJ2_elementData_0 ++ []
theorem dksJ2_elementData_0 : cJ2_elementData.data.toList.drop 0 = dktJ2_elementData_0 := by decide +kernel
theorem dJ2_elementData_0 : decode cJ2_elementData 0 = .ok (.aload_n 0, 1) := dk_42 (dk_at dksJ2_elementData_0 0 rfl rfl)
theorem dJ2_elementData_1 : decode cJ2_elementData 1 = .ok (.getfield 9, 3) := dk_180 0 9 (dk_at dksJ2_elementData_0 1 rfl rfl)
theorem dJ2_elementData_4 : decode cJ2_elementData 4 = .ok (.iload_n 1, 1) := dk_27 (dk_at dksJ2_elementData_0 4 rfl rfl)
theorem dJ2_elementData_5 : decode cJ2_elementData 5 = .ok (.aaload, 1) := dk_50 (dk_at dksJ2_elementData_0 5 rfl rfl)
theorem dJ2_elementData_6 : decode cJ2_elementData 6 = .ok (.areturn, 1) := dk_176 (dk_at dksJ2_elementData_0 6 rfl rfl)
abbrev cJ2_add : ByteArray := prog_48_method_25_code
def yJ2_add : MethodName := ⟨RJ2, "add", "(Ljava/lang/Object;)Z"⟩
def dkwJ2_add_1 : List UInt8 := [172]
abbrev dktJ2_add_1 : List UInt8 := dkwJ2_add_1 ++ []
def dkwJ2_add_0 : List UInt8 := [42, 89, 180, 0, 63, 4, 96, 181, 0, 63, 42, 43, 42, 180, 0, 9, 42, 180, 0, 48, 182, 0, 131, 4]
abbrev dktJ2_add_0 : List UInt8 := dkwJ2_add_0 ++ dktJ2_add_1
theorem dksJ2_add_0 : cJ2_add.data.toList.drop 0 = dktJ2_add_0 := by decide +kernel
theorem dksJ2_add_1 : cJ2_add.data.toList.drop 24 = dktJ2_add_1 := dk_seg dksJ2_add_0 24 rfl rfl
theorem dJ2_add_0 : decode cJ2_add 0 = .ok (.aload_n 0, 1) := dk_42 (dk_at dksJ2_add_0 0 rfl rfl)
theorem dJ2_add_1 : decode cJ2_add 1 = .ok (.dup, 1) := dk_89 (dk_at dksJ2_add_0 1 rfl rfl)
theorem dJ2_add_2 : decode cJ2_add 2 = .ok (.getfield 63, 3) := dk_180 0 63 (dk_at dksJ2_add_0 2 rfl rfl)
theorem dJ2_add_5 : decode cJ2_add 5 = .ok (.iconst 1, 1) := dk_4 (dk_at dksJ2_add_0 5 rfl rfl)
theorem dJ2_add_6 : decode cJ2_add 6 = .ok (.iadd, 1) := dk_96 (dk_at dksJ2_add_0 6 rfl rfl)
theorem dJ2_add_7 : decode cJ2_add 7 = .ok (.putfield 63, 3) := dk_181 0 63 (dk_at dksJ2_add_0 7 rfl rfl)
theorem dJ2_add_10 : decode cJ2_add 10 = .ok (.aload_n 0, 1) := dk_42 (dk_at dksJ2_add_0 10 rfl rfl)
theorem dJ2_add_11 : decode cJ2_add 11 = .ok (.aload_n 1, 1) := dk_43 (dk_at dksJ2_add_0 11 rfl rfl)
theorem dJ2_add_12 : decode cJ2_add 12 = .ok (.aload_n 0, 1) := dk_42 (dk_at dksJ2_add_0 12 rfl rfl)
theorem dJ2_add_13 : decode cJ2_add 13 = .ok (.getfield 9, 3) := dk_180 0 9 (dk_at dksJ2_add_0 13 rfl rfl)
theorem dJ2_add_16 : decode cJ2_add 16 = .ok (.aload_n 0, 1) := dk_42 (dk_at dksJ2_add_0 16 rfl rfl)
theorem dJ2_add_17 : decode cJ2_add 17 = .ok (.getfield 48, 3) := dk_180 0 48 (dk_at dksJ2_add_0 17 rfl rfl)
theorem dJ2_add_20 : decode cJ2_add 20 = .ok (.invokevirtual 131, 3) := dk_182 0 131 (dk_at dksJ2_add_0 20 rfl rfl)
theorem dJ2_add_23 : decode cJ2_add 23 = .ok (.iconst 1, 1) := dk_4 (dk_at dksJ2_add_0 23 rfl rfl)
theorem dJ2_add_24 : decode cJ2_add 24 = .ok (.ireturn, 1) := dk_172 (dk_at dksJ2_add_1 0 rfl rfl)
abbrev cJ2_add_2 : ByteArray := prog_48_method_24_code
def yJ2_add_2 : MethodName := ⟨RJ2, "add", "(Ljava/lang/Object;[Ljava/lang/Object;I)V"⟩
def dkwJ2_add_2_0 : List UInt8 := [29, 44, 190, 160, 0, 8, 42, 182, 0, 129, 77, 44, 29, 43, 83, 42, 29, 4, 96, 181, 0, 48, 177]
abbrev dktJ2_add_2_0 : List UInt8 := dkwJ2_add_2_0 ++ []
theorem dksJ2_add_2_0 : cJ2_add_2.data.toList.drop 0 = dktJ2_add_2_0 := by decide +kernel
theorem dJ2_add_2_0 : decode cJ2_add_2 0 = .ok (.iload_n 3, 1) := dk_29 (dk_at dksJ2_add_2_0 0 rfl rfl)
theorem dJ2_add_2_1 : decode cJ2_add_2 1 = .ok (.aload_n 2, 1) := dk_44 (dk_at dksJ2_add_2_0 1 rfl rfl)
theorem dJ2_add_2_2 : decode cJ2_add_2 2 = .ok (.arraylength, 1) := dk_190 (dk_at dksJ2_add_2_0 2 rfl rfl)
theorem dJ2_add_2_3 : decode cJ2_add_2 3 = .ok (.if_icmp .ne 8, 3) := dk_160 0 8 (dk_at dksJ2_add_2_0 3 rfl rfl)
theorem dJ2_add_2_6 : decode cJ2_add_2 6 = .ok (.aload_n 0, 1) := dk_42 (dk_at dksJ2_add_2_0 6 rfl rfl)
theorem dJ2_add_2_7 : decode cJ2_add_2 7 = .ok (.invokevirtual 129, 3) := dk_182 0 129 (dk_at dksJ2_add_2_0 7 rfl rfl)
theorem dJ2_add_2_10 : decode cJ2_add_2 10 = .ok (.astore_n 2, 1) := dk_77 (dk_at dksJ2_add_2_0 10 rfl rfl)
theorem dJ2_add_2_11 : decode cJ2_add_2 11 = .ok (.aload_n 2, 1) := dk_44 (dk_at dksJ2_add_2_0 11 rfl rfl)
theorem dJ2_add_2_12 : decode cJ2_add_2 12 = .ok (.iload_n 3, 1) := dk_29 (dk_at dksJ2_add_2_0 12 rfl rfl)
theorem dJ2_add_2_13 : decode cJ2_add_2 13 = .ok (.aload_n 1, 1) := dk_43 (dk_at dksJ2_add_2_0 13 rfl rfl)
theorem dJ2_add_2_14 : decode cJ2_add_2 14 = .ok (.aastore, 1) := dk_83 (dk_at dksJ2_add_2_0 14 rfl rfl)
theorem dJ2_add_2_15 : decode cJ2_add_2 15 = .ok (.aload_n 0, 1) := dk_42 (dk_at dksJ2_add_2_0 15 rfl rfl)
theorem dJ2_add_2_16 : decode cJ2_add_2 16 = .ok (.iload_n 3, 1) := dk_29 (dk_at dksJ2_add_2_0 16 rfl rfl)
theorem dJ2_add_2_17 : decode cJ2_add_2 17 = .ok (.iconst 1, 1) := dk_4 (dk_at dksJ2_add_2_0 17 rfl rfl)
theorem dJ2_add_2_18 : decode cJ2_add_2 18 = .ok (.iadd, 1) := dk_96 (dk_at dksJ2_add_2_0 18 rfl rfl)
theorem dJ2_add_2_19 : decode cJ2_add_2 19 = .ok (.putfield 48, 3) := dk_181 0 48 (dk_at dksJ2_add_2_0 19 rfl rfl)
theorem dJ2_add_2_22 : decode cJ2_add_2 22 = .ok (.return_, 1) := dk_177 (dk_at dksJ2_add_2_0 22 rfl rfl)
abbrev cJ2_grow : ByteArray := prog_48_method_7_code
def yJ2_grow : MethodName := ⟨RJ2, "grow", "()[Ljava/lang/Object;"⟩
def dkwJ2_grow_0 : List UInt8 := [42, 42, 180, 0, 48, 4, 96, 182, 0, 69, 176]
abbrev dktJ2_grow_0 : List UInt8 := dkwJ2_grow_0 ++ []
theorem dksJ2_grow_0 : cJ2_grow.data.toList.drop 0 = dktJ2_grow_0 := by decide +kernel
theorem dJ2_grow_0 : decode cJ2_grow 0 = .ok (.aload_n 0, 1) := dk_42 (dk_at dksJ2_grow_0 0 rfl rfl)
theorem dJ2_grow_1 : decode cJ2_grow 1 = .ok (.aload_n 0, 1) := dk_42 (dk_at dksJ2_grow_0 1 rfl rfl)
theorem dJ2_grow_2 : decode cJ2_grow 2 = .ok (.getfield 48, 3) := dk_180 0 48 (dk_at dksJ2_grow_0 2 rfl rfl)
theorem dJ2_grow_5 : decode cJ2_grow 5 = .ok (.iconst 1, 1) := dk_4 (dk_at dksJ2_grow_0 5 rfl rfl)
theorem dJ2_grow_6 : decode cJ2_grow 6 = .ok (.iadd, 1) := dk_96 (dk_at dksJ2_grow_0 6 rfl rfl)
theorem dJ2_grow_7 : decode cJ2_grow 7 = .ok (.invokevirtual 69, 3) := dk_182 0 69 (dk_at dksJ2_grow_0 7 rfl rfl)
theorem dJ2_grow_10 : decode cJ2_grow 10 = .ok (.areturn, 1) := dk_176 (dk_at dksJ2_grow_0 10 rfl rfl)
abbrev cJ2_grow_2 : ByteArray := prog_48_method_6_code
def yJ2_grow_2 : MethodName := ⟨RJ2, "grow", "(I)[Ljava/lang/Object;"⟩
def dkwJ2_grow_2_2 : List UInt8 := [27, 184, 0, 79, 189, 0, 7, 90, 181, 0, 9, 176]
abbrev dktJ2_grow_2_2 : List UInt8 := dkwJ2_grow_2_2 ++ []
def dkwJ2_grow_2_1 : List UInt8 := [28, 4, 122, 184, 0, 73, 62, 42, 42, 180, 0, 9, 29, 184, 0, 66, 90, 181, 0, 9, 176, 42, 16, 10]
abbrev dktJ2_grow_2_1 : List UInt8 := dkwJ2_grow_2_1 ++ dktJ2_grow_2_2
def dkwJ2_grow_2_0 : List UInt8 := [42, 180, 0, 9, 190, 61, 28, 157, 0, 13, 42, 180, 0, 9, 178, 0, 39, 165, 0, 28, 28, 27, 28, 100]
abbrev dktJ2_grow_2_0 : List UInt8 := dkwJ2_grow_2_0 ++ dktJ2_grow_2_1
theorem dksJ2_grow_2_0 : cJ2_grow_2.data.toList.drop 0 = dktJ2_grow_2_0 := by decide +kernel
theorem dksJ2_grow_2_1 : cJ2_grow_2.data.toList.drop 24 = dktJ2_grow_2_1 := dk_seg dksJ2_grow_2_0 24 rfl rfl
theorem dksJ2_grow_2_2 : cJ2_grow_2.data.toList.drop 48 = dktJ2_grow_2_2 := dk_seg dksJ2_grow_2_1 24 rfl rfl
theorem dJ2_grow_2_0 : decode cJ2_grow_2 0 = .ok (.aload_n 0, 1) := dk_42 (dk_at dksJ2_grow_2_0 0 rfl rfl)
theorem dJ2_grow_2_1 : decode cJ2_grow_2 1 = .ok (.getfield 9, 3) := dk_180 0 9 (dk_at dksJ2_grow_2_0 1 rfl rfl)
theorem dJ2_grow_2_4 : decode cJ2_grow_2 4 = .ok (.arraylength, 1) := dk_190 (dk_at dksJ2_grow_2_0 4 rfl rfl)
theorem dJ2_grow_2_5 : decode cJ2_grow_2 5 = .ok (.istore_n 2, 1) := dk_61 (dk_at dksJ2_grow_2_0 5 rfl rfl)
theorem dJ2_grow_2_6 : decode cJ2_grow_2 6 = .ok (.iload_n 2, 1) := dk_28 (dk_at dksJ2_grow_2_0 6 rfl rfl)
theorem dJ2_grow_2_7 : decode cJ2_grow_2 7 = .ok (.ifCond .gt 13, 3) := dk_157 0 13 (dk_at dksJ2_grow_2_0 7 rfl rfl)
theorem dJ2_grow_2_10 : decode cJ2_grow_2 10 = .ok (.aload_n 0, 1) := dk_42 (dk_at dksJ2_grow_2_0 10 rfl rfl)
theorem dJ2_grow_2_11 : decode cJ2_grow_2 11 = .ok (.getfield 9, 3) := dk_180 0 9 (dk_at dksJ2_grow_2_0 11 rfl rfl)
theorem dJ2_grow_2_14 : decode cJ2_grow_2 14 = .ok (.getstatic 39, 3) := dk_178 0 39 (dk_at dksJ2_grow_2_0 14 rfl rfl)
theorem dJ2_grow_2_17 : decode cJ2_grow_2 17 = .ok (.if_acmp .eq 28, 3) := dk_165 0 28 (dk_at dksJ2_grow_2_0 17 rfl rfl)
theorem dJ2_grow_2_20 : decode cJ2_grow_2 20 = .ok (.iload_n 2, 1) := dk_28 (dk_at dksJ2_grow_2_0 20 rfl rfl)
theorem dJ2_grow_2_21 : decode cJ2_grow_2 21 = .ok (.iload_n 1, 1) := dk_27 (dk_at dksJ2_grow_2_0 21 rfl rfl)
theorem dJ2_grow_2_22 : decode cJ2_grow_2 22 = .ok (.iload_n 2, 1) := dk_28 (dk_at dksJ2_grow_2_0 22 rfl rfl)
theorem dJ2_grow_2_23 : decode cJ2_grow_2 23 = .ok (.isub, 1) := dk_100 (dk_at dksJ2_grow_2_0 23 rfl rfl)
theorem dJ2_grow_2_24 : decode cJ2_grow_2 24 = .ok (.iload_n 2, 1) := dk_28 (dk_at dksJ2_grow_2_1 0 rfl rfl)
theorem dJ2_grow_2_25 : decode cJ2_grow_2 25 = .ok (.iconst 1, 1) := dk_4 (dk_at dksJ2_grow_2_1 1 rfl rfl)
theorem dJ2_grow_2_26 : decode cJ2_grow_2 26 = .ok (.ishr, 1) := dk_122 (dk_at dksJ2_grow_2_1 2 rfl rfl)
theorem dJ2_grow_2_27 : decode cJ2_grow_2 27 = .ok (.invokestatic 73, 3) := dk_184 0 73 (dk_at dksJ2_grow_2_1 3 rfl rfl)
theorem dJ2_grow_2_30 : decode cJ2_grow_2 30 = .ok (.istore_n 3, 1) := dk_62 (dk_at dksJ2_grow_2_1 6 rfl rfl)
theorem dJ2_grow_2_31 : decode cJ2_grow_2 31 = .ok (.aload_n 0, 1) := dk_42 (dk_at dksJ2_grow_2_1 7 rfl rfl)
theorem dJ2_grow_2_32 : decode cJ2_grow_2 32 = .ok (.aload_n 0, 1) := dk_42 (dk_at dksJ2_grow_2_1 8 rfl rfl)
theorem dJ2_grow_2_33 : decode cJ2_grow_2 33 = .ok (.getfield 9, 3) := dk_180 0 9 (dk_at dksJ2_grow_2_1 9 rfl rfl)
theorem dJ2_grow_2_36 : decode cJ2_grow_2 36 = .ok (.iload_n 3, 1) := dk_29 (dk_at dksJ2_grow_2_1 12 rfl rfl)
theorem dJ2_grow_2_37 : decode cJ2_grow_2 37 = .ok (.invokestatic 66, 3) := dk_184 0 66 (dk_at dksJ2_grow_2_1 13 rfl rfl)
theorem dJ2_grow_2_40 : decode cJ2_grow_2 40 = .ok (.dup_x1, 1) := dk_90 (dk_at dksJ2_grow_2_1 16 rfl rfl)
theorem dJ2_grow_2_41 : decode cJ2_grow_2 41 = .ok (.putfield 9, 3) := dk_181 0 9 (dk_at dksJ2_grow_2_1 17 rfl rfl)
theorem dJ2_grow_2_44 : decode cJ2_grow_2 44 = .ok (.areturn, 1) := dk_176 (dk_at dksJ2_grow_2_1 20 rfl rfl)
theorem dJ2_grow_2_45 : decode cJ2_grow_2 45 = .ok (.aload_n 0, 1) := dk_42 (dk_at dksJ2_grow_2_1 21 rfl rfl)
theorem dJ2_grow_2_46 : decode cJ2_grow_2 46 = .ok (.bipush 10, 2) := dk_16 10 (dk_at dksJ2_grow_2_1 22 rfl rfl)
theorem dJ2_grow_2_48 : decode cJ2_grow_2 48 = .ok (.iload_n 1, 1) := dk_27 (dk_at dksJ2_grow_2_2 0 rfl rfl)
theorem dJ2_grow_2_49 : decode cJ2_grow_2 49 = .ok (.invokestatic 79, 3) := dk_184 0 79 (dk_at dksJ2_grow_2_2 1 rfl rfl)
theorem dJ2_grow_2_52 : decode cJ2_grow_2 52 = .ok (.anewarray 7, 3) := dk_189 0 7 (dk_at dksJ2_grow_2_2 4 rfl rfl)
theorem dJ2_grow_2_55 : decode cJ2_grow_2 55 = .ok (.dup_x1, 1) := dk_90 (dk_at dksJ2_grow_2_2 7 rfl rfl)
theorem dJ2_grow_2_56 : decode cJ2_grow_2 56 = .ok (.putfield 9, 3) := dk_181 0 9 (dk_at dksJ2_grow_2_2 8 rfl rfl)
theorem dJ2_grow_2_59 : decode cJ2_grow_2 59 = .ok (.areturn, 1) := dk_176 (dk_at dksJ2_grow_2_2 11 rfl rfl)
abbrev cJ2_clear : ByteArray := prog_48_method_40_code
def yJ2_clear : MethodName := ⟨RJ2, "clear", "()V"⟩
def dkwJ2_clear_1 : List UInt8 := [181, 0, 48, 62, 29, 28, 162, 0, 13, 43, 29, 1, 83, 132, 3, 1, 167, 255, 244, 177]
abbrev dktJ2_clear_1 : List UInt8 := dkwJ2_clear_1 ++ []
def dkwJ2_clear_0 : List UInt8 := [42, 89, 180, 0, 63, 4, 96, 181, 0, 63, 42, 180, 0, 9, 76, 42, 180, 0, 48, 61, 42, 3, 90]
abbrev dktJ2_clear_0 : List UInt8 := dkwJ2_clear_0 ++ dktJ2_clear_1
theorem dksJ2_clear_0 : cJ2_clear.data.toList.drop 0 = dktJ2_clear_0 := by decide +kernel
theorem dksJ2_clear_1 : cJ2_clear.data.toList.drop 23 = dktJ2_clear_1 := dk_seg dksJ2_clear_0 23 rfl rfl
theorem dJ2_clear_0 : decode cJ2_clear 0 = .ok (.aload_n 0, 1) := dk_42 (dk_at dksJ2_clear_0 0 rfl rfl)
theorem dJ2_clear_1 : decode cJ2_clear 1 = .ok (.dup, 1) := dk_89 (dk_at dksJ2_clear_0 1 rfl rfl)
theorem dJ2_clear_2 : decode cJ2_clear 2 = .ok (.getfield 63, 3) := dk_180 0 63 (dk_at dksJ2_clear_0 2 rfl rfl)
theorem dJ2_clear_5 : decode cJ2_clear 5 = .ok (.iconst 1, 1) := dk_4 (dk_at dksJ2_clear_0 5 rfl rfl)
theorem dJ2_clear_6 : decode cJ2_clear 6 = .ok (.iadd, 1) := dk_96 (dk_at dksJ2_clear_0 6 rfl rfl)
theorem dJ2_clear_7 : decode cJ2_clear 7 = .ok (.putfield 63, 3) := dk_181 0 63 (dk_at dksJ2_clear_0 7 rfl rfl)
theorem dJ2_clear_10 : decode cJ2_clear 10 = .ok (.aload_n 0, 1) := dk_42 (dk_at dksJ2_clear_0 10 rfl rfl)
theorem dJ2_clear_11 : decode cJ2_clear 11 = .ok (.getfield 9, 3) := dk_180 0 9 (dk_at dksJ2_clear_0 11 rfl rfl)
theorem dJ2_clear_14 : decode cJ2_clear 14 = .ok (.astore_n 1, 1) := dk_76 (dk_at dksJ2_clear_0 14 rfl rfl)
theorem dJ2_clear_15 : decode cJ2_clear 15 = .ok (.aload_n 0, 1) := dk_42 (dk_at dksJ2_clear_0 15 rfl rfl)
theorem dJ2_clear_16 : decode cJ2_clear 16 = .ok (.getfield 48, 3) := dk_180 0 48 (dk_at dksJ2_clear_0 16 rfl rfl)
theorem dJ2_clear_19 : decode cJ2_clear 19 = .ok (.istore_n 2, 1) := dk_61 (dk_at dksJ2_clear_0 19 rfl rfl)
theorem dJ2_clear_20 : decode cJ2_clear 20 = .ok (.aload_n 0, 1) := dk_42 (dk_at dksJ2_clear_0 20 rfl rfl)
theorem dJ2_clear_21 : decode cJ2_clear 21 = .ok (.iconst 0, 1) := dk_3 (dk_at dksJ2_clear_0 21 rfl rfl)
theorem dJ2_clear_22 : decode cJ2_clear 22 = .ok (.dup_x1, 1) := dk_90 (dk_at dksJ2_clear_0 22 rfl rfl)
theorem dJ2_clear_23 : decode cJ2_clear 23 = .ok (.putfield 48, 3) := dk_181 0 48 (dk_at dksJ2_clear_1 0 rfl rfl)
theorem dJ2_clear_26 : decode cJ2_clear 26 = .ok (.istore_n 3, 1) := dk_62 (dk_at dksJ2_clear_1 3 rfl rfl)
theorem dJ2_clear_27 : decode cJ2_clear 27 = .ok (.iload_n 3, 1) := dk_29 (dk_at dksJ2_clear_1 4 rfl rfl)
theorem dJ2_clear_28 : decode cJ2_clear 28 = .ok (.iload_n 2, 1) := dk_28 (dk_at dksJ2_clear_1 5 rfl rfl)
theorem dJ2_clear_29 : decode cJ2_clear 29 = .ok (.if_icmp .ge 13, 3) := dk_162 0 13 (dk_at dksJ2_clear_1 6 rfl rfl)
theorem dJ2_clear_32 : decode cJ2_clear 32 = .ok (.aload_n 1, 1) := dk_43 (dk_at dksJ2_clear_1 9 rfl rfl)
theorem dJ2_clear_33 : decode cJ2_clear 33 = .ok (.iload_n 3, 1) := dk_29 (dk_at dksJ2_clear_1 10 rfl rfl)
theorem dJ2_clear_34 : decode cJ2_clear 34 = .ok (.aconst_null, 1) := dk_1 (dk_at dksJ2_clear_1 11 rfl rfl)
theorem dJ2_clear_35 : decode cJ2_clear 35 = .ok (.aastore, 1) := dk_83 (dk_at dksJ2_clear_1 12 rfl rfl)
theorem dJ2_clear_36 : decode cJ2_clear 36 = .ok (.iinc 3 1, 3) := dk_132 3 1 (dk_at dksJ2_clear_1 13 rfl rfl)
theorem dJ2_clear_39 : decode cJ2_clear 39 = .ok (.goto (-12), 3) := dk_167 255 244 (dk_at dksJ2_clear_1 16 rfl rfl)
theorem dJ2_clear_42 : decode cJ2_clear 42 = .ok (.return_, 1) := dk_177 (dk_at dksJ2_clear_1 19 rfl rfl)
abbrev cJ2_remove : ByteArray := prog_48_method_29_code
def yJ2_remove : MethodName := ⟨RJ2, "remove", "(I)Ljava/lang/Object;"⟩
def dkwJ2_remove_1 : List UInt8 := [45, 176]
abbrev dktJ2_remove_1 : List UInt8 := dkwJ2_remove_1 ++ []
def dkwJ2_remove_0 : List UInt8 := [27, 42, 180, 0, 48, 184, 0, 118, 87, 42, 180, 0, 9, 77, 44, 27, 50, 78, 42, 44, 27, 182, 0, 144]
abbrev dktJ2_remove_0 : List UInt8 := dkwJ2_remove_0 ++ dktJ2_remove_1
theorem dksJ2_remove_0 : cJ2_remove.data.toList.drop 0 = dktJ2_remove_0 := by decide +kernel
theorem dksJ2_remove_1 : cJ2_remove.data.toList.drop 24 = dktJ2_remove_1 := dk_seg dksJ2_remove_0 24 rfl rfl
theorem dJ2_remove_0 : decode cJ2_remove 0 = .ok (.iload_n 1, 1) := dk_27 (dk_at dksJ2_remove_0 0 rfl rfl)
theorem dJ2_remove_1 : decode cJ2_remove 1 = .ok (.aload_n 0, 1) := dk_42 (dk_at dksJ2_remove_0 1 rfl rfl)
theorem dJ2_remove_2 : decode cJ2_remove 2 = .ok (.getfield 48, 3) := dk_180 0 48 (dk_at dksJ2_remove_0 2 rfl rfl)
theorem dJ2_remove_5 : decode cJ2_remove 5 = .ok (.invokestatic 118, 3) := dk_184 0 118 (dk_at dksJ2_remove_0 5 rfl rfl)
theorem dJ2_remove_8 : decode cJ2_remove 8 = .ok (.pop, 1) := dk_87 (dk_at dksJ2_remove_0 8 rfl rfl)
theorem dJ2_remove_9 : decode cJ2_remove 9 = .ok (.aload_n 0, 1) := dk_42 (dk_at dksJ2_remove_0 9 rfl rfl)
theorem dJ2_remove_10 : decode cJ2_remove 10 = .ok (.getfield 9, 3) := dk_180 0 9 (dk_at dksJ2_remove_0 10 rfl rfl)
theorem dJ2_remove_13 : decode cJ2_remove 13 = .ok (.astore_n 2, 1) := dk_77 (dk_at dksJ2_remove_0 13 rfl rfl)
theorem dJ2_remove_14 : decode cJ2_remove 14 = .ok (.aload_n 2, 1) := dk_44 (dk_at dksJ2_remove_0 14 rfl rfl)
theorem dJ2_remove_15 : decode cJ2_remove 15 = .ok (.iload_n 1, 1) := dk_27 (dk_at dksJ2_remove_0 15 rfl rfl)
theorem dJ2_remove_16 : decode cJ2_remove 16 = .ok (.aaload, 1) := dk_50 (dk_at dksJ2_remove_0 16 rfl rfl)
theorem dJ2_remove_17 : decode cJ2_remove 17 = .ok (.astore_n 3, 1) := dk_78 (dk_at dksJ2_remove_0 17 rfl rfl)
theorem dJ2_remove_18 : decode cJ2_remove 18 = .ok (.aload_n 0, 1) := dk_42 (dk_at dksJ2_remove_0 18 rfl rfl)
theorem dJ2_remove_19 : decode cJ2_remove 19 = .ok (.aload_n 2, 1) := dk_44 (dk_at dksJ2_remove_0 19 rfl rfl)
theorem dJ2_remove_20 : decode cJ2_remove 20 = .ok (.iload_n 1, 1) := dk_27 (dk_at dksJ2_remove_0 20 rfl rfl)
theorem dJ2_remove_21 : decode cJ2_remove 21 = .ok (.invokevirtual 144, 3) := dk_182 0 144 (dk_at dksJ2_remove_0 21 rfl rfl)
theorem dJ2_remove_24 : decode cJ2_remove 24 = .ok (.aload_n 3, 1) := dk_45 (dk_at dksJ2_remove_1 0 rfl rfl)
theorem dJ2_remove_25 : decode cJ2_remove 25 = .ok (.areturn, 1) := dk_176 (dk_at dksJ2_remove_1 1 rfl rfl)
abbrev cJ2_fastRemove : ByteArray := prog_48_method_39_code
def yJ2_fastRemove : MethodName := ⟨RJ2, "fastRemove", "([Ljava/lang/Object;I)V"⟩
def dkwJ2_fastRemove_1 : List UInt8 := [4, 96, 43, 28, 29, 28, 100, 184, 0, 112, 43, 42, 29, 90, 181, 0, 48, 1, 83, 177]
abbrev dktJ2_fastRemove_1 : List UInt8 := dkwJ2_fastRemove_1 ++ []
def dkwJ2_fastRemove_0 : List UInt8 := [42, 89, 180, 0, 63, 4, 96, 181, 0, 63, 42, 180, 0, 48, 4, 100, 89, 62, 28, 164, 0, 15, 43, 28]
abbrev dktJ2_fastRemove_0 : List UInt8 := dkwJ2_fastRemove_0 ++ dktJ2_fastRemove_1
theorem dksJ2_fastRemove_0 : cJ2_fastRemove.data.toList.drop 0 = dktJ2_fastRemove_0 := by decide +kernel
theorem dksJ2_fastRemove_1 : cJ2_fastRemove.data.toList.drop 24 = dktJ2_fastRemove_1 := dk_seg dksJ2_fastRemove_0 24 rfl rfl
theorem dJ2_fastRemove_0 : decode cJ2_fastRemove 0 = .ok (.aload_n 0, 1) := dk_42 (dk_at dksJ2_fastRemove_0 0 rfl rfl)
theorem dJ2_fastRemove_1 : decode cJ2_fastRemove 1 = .ok (.dup, 1) := dk_89 (dk_at dksJ2_fastRemove_0 1 rfl rfl)
theorem dJ2_fastRemove_2 : decode cJ2_fastRemove 2 = .ok (.getfield 63, 3) := dk_180 0 63 (dk_at dksJ2_fastRemove_0 2 rfl rfl)
theorem dJ2_fastRemove_5 : decode cJ2_fastRemove 5 = .ok (.iconst 1, 1) := dk_4 (dk_at dksJ2_fastRemove_0 5 rfl rfl)
theorem dJ2_fastRemove_6 : decode cJ2_fastRemove 6 = .ok (.iadd, 1) := dk_96 (dk_at dksJ2_fastRemove_0 6 rfl rfl)
theorem dJ2_fastRemove_7 : decode cJ2_fastRemove 7 = .ok (.putfield 63, 3) := dk_181 0 63 (dk_at dksJ2_fastRemove_0 7 rfl rfl)
theorem dJ2_fastRemove_10 : decode cJ2_fastRemove 10 = .ok (.aload_n 0, 1) := dk_42 (dk_at dksJ2_fastRemove_0 10 rfl rfl)
theorem dJ2_fastRemove_11 : decode cJ2_fastRemove 11 = .ok (.getfield 48, 3) := dk_180 0 48 (dk_at dksJ2_fastRemove_0 11 rfl rfl)
theorem dJ2_fastRemove_14 : decode cJ2_fastRemove 14 = .ok (.iconst 1, 1) := dk_4 (dk_at dksJ2_fastRemove_0 14 rfl rfl)
theorem dJ2_fastRemove_15 : decode cJ2_fastRemove 15 = .ok (.isub, 1) := dk_100 (dk_at dksJ2_fastRemove_0 15 rfl rfl)
theorem dJ2_fastRemove_16 : decode cJ2_fastRemove 16 = .ok (.dup, 1) := dk_89 (dk_at dksJ2_fastRemove_0 16 rfl rfl)
theorem dJ2_fastRemove_17 : decode cJ2_fastRemove 17 = .ok (.istore_n 3, 1) := dk_62 (dk_at dksJ2_fastRemove_0 17 rfl rfl)
theorem dJ2_fastRemove_18 : decode cJ2_fastRemove 18 = .ok (.iload_n 2, 1) := dk_28 (dk_at dksJ2_fastRemove_0 18 rfl rfl)
theorem dJ2_fastRemove_19 : decode cJ2_fastRemove 19 = .ok (.if_icmp .le 15, 3) := dk_164 0 15 (dk_at dksJ2_fastRemove_0 19 rfl rfl)
theorem dJ2_fastRemove_22 : decode cJ2_fastRemove 22 = .ok (.aload_n 1, 1) := dk_43 (dk_at dksJ2_fastRemove_0 22 rfl rfl)
theorem dJ2_fastRemove_23 : decode cJ2_fastRemove 23 = .ok (.iload_n 2, 1) := dk_28 (dk_at dksJ2_fastRemove_0 23 rfl rfl)
theorem dJ2_fastRemove_24 : decode cJ2_fastRemove 24 = .ok (.iconst 1, 1) := dk_4 (dk_at dksJ2_fastRemove_1 0 rfl rfl)
theorem dJ2_fastRemove_25 : decode cJ2_fastRemove 25 = .ok (.iadd, 1) := dk_96 (dk_at dksJ2_fastRemove_1 1 rfl rfl)
theorem dJ2_fastRemove_26 : decode cJ2_fastRemove 26 = .ok (.aload_n 1, 1) := dk_43 (dk_at dksJ2_fastRemove_1 2 rfl rfl)
theorem dJ2_fastRemove_27 : decode cJ2_fastRemove 27 = .ok (.iload_n 2, 1) := dk_28 (dk_at dksJ2_fastRemove_1 3 rfl rfl)
theorem dJ2_fastRemove_28 : decode cJ2_fastRemove 28 = .ok (.iload_n 3, 1) := dk_29 (dk_at dksJ2_fastRemove_1 4 rfl rfl)
theorem dJ2_fastRemove_29 : decode cJ2_fastRemove 29 = .ok (.iload_n 2, 1) := dk_28 (dk_at dksJ2_fastRemove_1 5 rfl rfl)
theorem dJ2_fastRemove_30 : decode cJ2_fastRemove 30 = .ok (.isub, 1) := dk_100 (dk_at dksJ2_fastRemove_1 6 rfl rfl)
theorem dJ2_fastRemove_31 : decode cJ2_fastRemove 31 = .ok (.invokestatic 112, 3) := dk_184 0 112 (dk_at dksJ2_fastRemove_1 7 rfl rfl)
theorem dJ2_fastRemove_34 : decode cJ2_fastRemove 34 = .ok (.aload_n 1, 1) := dk_43 (dk_at dksJ2_fastRemove_1 10 rfl rfl)
theorem dJ2_fastRemove_35 : decode cJ2_fastRemove 35 = .ok (.aload_n 0, 1) := dk_42 (dk_at dksJ2_fastRemove_1 11 rfl rfl)
theorem dJ2_fastRemove_36 : decode cJ2_fastRemove 36 = .ok (.iload_n 3, 1) := dk_29 (dk_at dksJ2_fastRemove_1 12 rfl rfl)
theorem dJ2_fastRemove_37 : decode cJ2_fastRemove 37 = .ok (.dup_x1, 1) := dk_90 (dk_at dksJ2_fastRemove_1 13 rfl rfl)
theorem dJ2_fastRemove_38 : decode cJ2_fastRemove 38 = .ok (.putfield 48, 3) := dk_181 0 48 (dk_at dksJ2_fastRemove_1 14 rfl rfl)
theorem dJ2_fastRemove_41 : decode cJ2_fastRemove 41 = .ok (.aconst_null, 1) := dk_1 (dk_at dksJ2_fastRemove_1 17 rfl rfl)
theorem dJ2_fastRemove_42 : decode cJ2_fastRemove 42 = .ok (.aastore, 1) := dk_83 (dk_at dksJ2_fastRemove_1 18 rfl rfl)
theorem dJ2_fastRemove_43 : decode cJ2_fastRemove 43 = .ok (.return_, 1) := dk_177 (dk_at dksJ2_fastRemove_1 19 rfl rfl)
abbrev cJ2_listIterator : ByteArray := prog_48_method_53_code
def yJ2_listIterator : MethodName := ⟨RJ2, "listIterator", "(I)Ljava/util/ListIterator;"⟩
def dkwJ2_listIterator_0 : List UInt8 := [42, 27, 182, 0, 135, 187, 1, 6, 89, 42, 27, 183, 1, 8, 176]
abbrev dktJ2_listIterator_0 : List UInt8 := dkwJ2_listIterator_0 ++ []
theorem dksJ2_listIterator_0 : cJ2_listIterator.data.toList.drop 0 = dktJ2_listIterator_0 := by decide +kernel
theorem dJ2_listIterator_0 : decode cJ2_listIterator 0 = .ok (.aload_n 0, 1) := dk_42 (dk_at dksJ2_listIterator_0 0 rfl rfl)
theorem dJ2_listIterator_1 : decode cJ2_listIterator 1 = .ok (.iload_n 1, 1) := dk_27 (dk_at dksJ2_listIterator_0 1 rfl rfl)
theorem dJ2_listIterator_2 : decode cJ2_listIterator 2 = .ok (.invokevirtual 135, 3) := dk_182 0 135 (dk_at dksJ2_listIterator_0 2 rfl rfl)
theorem dJ2_listIterator_5 : decode cJ2_listIterator 5 = .ok (.new 262, 3) := dk_187 1 6 (dk_at dksJ2_listIterator_0 5 rfl rfl)
theorem dJ2_listIterator_8 : decode cJ2_listIterator 8 = .ok (.dup, 1) := dk_89 (dk_at dksJ2_listIterator_0 8 rfl rfl)
theorem dJ2_listIterator_9 : decode cJ2_listIterator 9 = .ok (.aload_n 0, 1) := dk_42 (dk_at dksJ2_listIterator_0 9 rfl rfl)
theorem dJ2_listIterator_10 : decode cJ2_listIterator 10 = .ok (.iload_n 1, 1) := dk_27 (dk_at dksJ2_listIterator_0 10 rfl rfl)
theorem dJ2_listIterator_11 : decode cJ2_listIterator 11 = .ok (.invokespecial 264, 3) := dk_183 1 8 (dk_at dksJ2_listIterator_0 11 rfl rfl)
theorem dJ2_listIterator_14 : decode cJ2_listIterator 14 = .ok (.areturn, 1) := dk_176 (dk_at dksJ2_listIterator_0 14 rfl rfl)
abbrev cJ2_rangeCheckForAdd : ByteArray := prog_48_method_45_code
def yJ2_rangeCheckForAdd : MethodName := ⟨RJ2, "rangeCheckForAdd", "(I)V"⟩
def dkwJ2_rangeCheckForAdd_1 : List UInt8 := [191, 177]
abbrev dktJ2_rangeCheckForAdd_1 : List UInt8 := dkwJ2_rangeCheckForAdd_1 ++ []
def dkwJ2_rangeCheckForAdd_0 : List UInt8 := [27, 42, 180, 0, 48, 163, 0, 7, 27, 156, 0, 16, 187, 0, 187, 89, 42, 27, 182, 0, 198, 183, 0, 193]
abbrev dktJ2_rangeCheckForAdd_0 : List UInt8 := dkwJ2_rangeCheckForAdd_0 ++ dktJ2_rangeCheckForAdd_1
theorem dksJ2_rangeCheckForAdd_0 : cJ2_rangeCheckForAdd.data.toList.drop 0 = dktJ2_rangeCheckForAdd_0 := by decide +kernel
theorem dksJ2_rangeCheckForAdd_1 : cJ2_rangeCheckForAdd.data.toList.drop 24 = dktJ2_rangeCheckForAdd_1 := dk_seg dksJ2_rangeCheckForAdd_0 24 rfl rfl
theorem dJ2_rangeCheckForAdd_0 : decode cJ2_rangeCheckForAdd 0 = .ok (.iload_n 1, 1) := dk_27 (dk_at dksJ2_rangeCheckForAdd_0 0 rfl rfl)
theorem dJ2_rangeCheckForAdd_1 : decode cJ2_rangeCheckForAdd 1 = .ok (.aload_n 0, 1) := dk_42 (dk_at dksJ2_rangeCheckForAdd_0 1 rfl rfl)
theorem dJ2_rangeCheckForAdd_2 : decode cJ2_rangeCheckForAdd 2 = .ok (.getfield 48, 3) := dk_180 0 48 (dk_at dksJ2_rangeCheckForAdd_0 2 rfl rfl)
theorem dJ2_rangeCheckForAdd_5 : decode cJ2_rangeCheckForAdd 5 = .ok (.if_icmp .gt 7, 3) := dk_163 0 7 (dk_at dksJ2_rangeCheckForAdd_0 5 rfl rfl)
theorem dJ2_rangeCheckForAdd_8 : decode cJ2_rangeCheckForAdd 8 = .ok (.iload_n 1, 1) := dk_27 (dk_at dksJ2_rangeCheckForAdd_0 8 rfl rfl)
theorem dJ2_rangeCheckForAdd_9 : decode cJ2_rangeCheckForAdd 9 = .ok (.ifCond .ge 16, 3) := dk_156 0 16 (dk_at dksJ2_rangeCheckForAdd_0 9 rfl rfl)
theorem dJ2_rangeCheckForAdd_12 : decode cJ2_rangeCheckForAdd 12 = .ok (.new 187, 3) := dk_187 0 187 (dk_at dksJ2_rangeCheckForAdd_0 12 rfl rfl)
theorem dJ2_rangeCheckForAdd_15 : decode cJ2_rangeCheckForAdd 15 = .ok (.dup, 1) := dk_89 (dk_at dksJ2_rangeCheckForAdd_0 15 rfl rfl)
theorem dJ2_rangeCheckForAdd_16 : decode cJ2_rangeCheckForAdd 16 = .ok (.aload_n 0, 1) := dk_42 (dk_at dksJ2_rangeCheckForAdd_0 16 rfl rfl)
theorem dJ2_rangeCheckForAdd_17 : decode cJ2_rangeCheckForAdd 17 = .ok (.iload_n 1, 1) := dk_27 (dk_at dksJ2_rangeCheckForAdd_0 17 rfl rfl)
theorem dJ2_rangeCheckForAdd_18 : decode cJ2_rangeCheckForAdd 18 = .ok (.invokevirtual 198, 3) := dk_182 0 198 (dk_at dksJ2_rangeCheckForAdd_0 18 rfl rfl)
theorem dJ2_rangeCheckForAdd_21 : decode cJ2_rangeCheckForAdd 21 = .ok (.invokespecial 193, 3) := dk_183 0 193 (dk_at dksJ2_rangeCheckForAdd_0 21 rfl rfl)
theorem dJ2_rangeCheckForAdd_24 : decode cJ2_rangeCheckForAdd 24 = .ok (.athrow, 1) := dk_191 (dk_at dksJ2_rangeCheckForAdd_1 0 rfl rfl)
theorem dJ2_rangeCheckForAdd_25 : decode cJ2_rangeCheckForAdd 25 = .ok (.return_, 1) := dk_177 (dk_at dksJ2_rangeCheckForAdd_1 1 rfl rfl)
abbrev cJ2_outOfBoundsMsg : ByteArray := prog_48_method_46_code
def yJ2_outOfBoundsMsg : MethodName := ⟨RJ2, "outOfBoundsMsg", "(I)Ljava/lang/String;"⟩
def dkwJ2_outOfBoundsMsg_1 : List UInt8 := [180, 0, 48, 182, 0, 29, 182, 0, 32, 176]
abbrev dktJ2_outOfBoundsMsg_1 : List UInt8 := dkwJ2_outOfBoundsMsg_1 ++ []
def dkwJ2_outOfBoundsMsg_0 : List UInt8 := [187, 0, 20, 89, 183, 0, 22, 18, 201, 182, 0, 25, 27, 182, 0, 29, 18, 203, 182, 0, 25, 42]
abbrev dktJ2_outOfBoundsMsg_0 : List UInt8 := dkwJ2_outOfBoundsMsg_0 ++ dktJ2_outOfBoundsMsg_1
theorem dksJ2_outOfBoundsMsg_0 : cJ2_outOfBoundsMsg.data.toList.drop 0 = dktJ2_outOfBoundsMsg_0 := by decide +kernel
theorem dksJ2_outOfBoundsMsg_1 : cJ2_outOfBoundsMsg.data.toList.drop 22 = dktJ2_outOfBoundsMsg_1 := dk_seg dksJ2_outOfBoundsMsg_0 22 rfl rfl
theorem dJ2_outOfBoundsMsg_0 : decode cJ2_outOfBoundsMsg 0 = .ok (.new 20, 3) := dk_187 0 20 (dk_at dksJ2_outOfBoundsMsg_0 0 rfl rfl)
theorem dJ2_outOfBoundsMsg_3 : decode cJ2_outOfBoundsMsg 3 = .ok (.dup, 1) := dk_89 (dk_at dksJ2_outOfBoundsMsg_0 3 rfl rfl)
theorem dJ2_outOfBoundsMsg_4 : decode cJ2_outOfBoundsMsg 4 = .ok (.invokespecial 22, 3) := dk_183 0 22 (dk_at dksJ2_outOfBoundsMsg_0 4 rfl rfl)
theorem dJ2_outOfBoundsMsg_7 : decode cJ2_outOfBoundsMsg 7 = .ok (.ldc 201, 2) := dk_18 201 (dk_at dksJ2_outOfBoundsMsg_0 7 rfl rfl)
theorem dJ2_outOfBoundsMsg_9 : decode cJ2_outOfBoundsMsg 9 = .ok (.invokevirtual 25, 3) := dk_182 0 25 (dk_at dksJ2_outOfBoundsMsg_0 9 rfl rfl)
theorem dJ2_outOfBoundsMsg_12 : decode cJ2_outOfBoundsMsg 12 = .ok (.iload_n 1, 1) := dk_27 (dk_at dksJ2_outOfBoundsMsg_0 12 rfl rfl)
theorem dJ2_outOfBoundsMsg_13 : decode cJ2_outOfBoundsMsg 13 = .ok (.invokevirtual 29, 3) := dk_182 0 29 (dk_at dksJ2_outOfBoundsMsg_0 13 rfl rfl)
theorem dJ2_outOfBoundsMsg_16 : decode cJ2_outOfBoundsMsg 16 = .ok (.ldc 203, 2) := dk_18 203 (dk_at dksJ2_outOfBoundsMsg_0 16 rfl rfl)
theorem dJ2_outOfBoundsMsg_18 : decode cJ2_outOfBoundsMsg 18 = .ok (.invokevirtual 25, 3) := dk_182 0 25 (dk_at dksJ2_outOfBoundsMsg_0 18 rfl rfl)
theorem dJ2_outOfBoundsMsg_21 : decode cJ2_outOfBoundsMsg 21 = .ok (.aload_n 0, 1) := dk_42 (dk_at dksJ2_outOfBoundsMsg_0 21 rfl rfl)
theorem dJ2_outOfBoundsMsg_22 : decode cJ2_outOfBoundsMsg 22 = .ok (.getfield 48, 3) := dk_180 0 48 (dk_at dksJ2_outOfBoundsMsg_1 0 rfl rfl)
theorem dJ2_outOfBoundsMsg_25 : decode cJ2_outOfBoundsMsg 25 = .ok (.invokevirtual 29, 3) := dk_182 0 29 (dk_at dksJ2_outOfBoundsMsg_1 3 rfl rfl)
theorem dJ2_outOfBoundsMsg_28 : decode cJ2_outOfBoundsMsg 28 = .ok (.invokevirtual 32, 3) := dk_182 0 32 (dk_at dksJ2_outOfBoundsMsg_1 6 rfl rfl)
theorem dJ2_outOfBoundsMsg_31 : decode cJ2_outOfBoundsMsg 31 = .ok (.areturn, 1) := dk_176 (dk_at dksJ2_outOfBoundsMsg_1 9 rfl rfl)
abbrev cJ2_isEmpty : ByteArray := prog_48_method_9_code
def yJ2_isEmpty : MethodName := ⟨RJ2, "isEmpty", "()Z"⟩
def dkwJ2_isEmpty_0 : List UInt8 := [42, 180, 0, 48, 154, 0, 7, 4, 167, 0, 4, 3, 172]
abbrev dktJ2_isEmpty_0 : List UInt8 := dkwJ2_isEmpty_0 ++ []
theorem dksJ2_isEmpty_0 : cJ2_isEmpty.data.toList.drop 0 = dktJ2_isEmpty_0 := by decide +kernel
theorem dJ2_isEmpty_0 : decode cJ2_isEmpty 0 = .ok (.aload_n 0, 1) := dk_42 (dk_at dksJ2_isEmpty_0 0 rfl rfl)
theorem dJ2_isEmpty_1 : decode cJ2_isEmpty 1 = .ok (.getfield 48, 3) := dk_180 0 48 (dk_at dksJ2_isEmpty_0 1 rfl rfl)
theorem dJ2_isEmpty_4 : decode cJ2_isEmpty 4 = .ok (.ifCond .ne 7, 3) := dk_154 0 7 (dk_at dksJ2_isEmpty_0 4 rfl rfl)
theorem dJ2_isEmpty_7 : decode cJ2_isEmpty 7 = .ok (.iconst 1, 1) := dk_4 (dk_at dksJ2_isEmpty_0 7 rfl rfl)
theorem dJ2_isEmpty_8 : decode cJ2_isEmpty 8 = .ok (.goto 4, 3) := dk_167 0 4 (dk_at dksJ2_isEmpty_0 8 rfl rfl)
theorem dJ2_isEmpty_11 : decode cJ2_isEmpty 11 = .ok (.iconst 0, 1) := dk_3 (dk_at dksJ2_isEmpty_0 11 rfl rfl)
theorem dJ2_isEmpty_12 : decode cJ2_isEmpty 12 = .ok (.ireturn, 1) := dk_172 (dk_at dksJ2_isEmpty_0 12 rfl rfl)
theorem q100 : (Jvm.Cond.initialized "java/util/ArrayList") ∈ lw_all := lw_g (lw_at lw_m1 5 rfl) rfl
theorem q167 : (Jvm.Cond.instantiable "java/util/ArrayList" (3 : Nat)) ∈ lw_all := lw_g (lw_at lw_m1 72 rfl) rfl
theorem q169 : (Jvm.Cond.instanceMethod ({ cls := "java/util/ArrayList", name := "<init>", desc := "(I)V" } : Jvm.MethodName)) ∈ lw_all := lw_g (lw_at lw_m1 74 rfl) rfl
theorem q170 : (Jvm.Cond.code ({ cls := "java/util/ArrayList", name := "<init>", desc := "(I)V" } : Jvm.MethodName) prog_48_method_1_code (2 : Nat) (Option.none : Option Jvm.ClassFile.FieldType)) ∈ lw_all := lw_g (lw_at lw_m1 75 rfl) rfl
theorem q171 : (Jvm.Cond.methodLink "java/util/ArrayList" (1 : Nat) ({ cls := "java/util/AbstractList", name := "<init>", desc := "()V" } : Jvm.MethodName)) ∈ lw_all := lw_g (lw_at lw_m1 76 rfl) rfl
theorem q178 : (Jvm.Cond.classLink "java/util/ArrayList" (7 : Nat) "java/lang/Object") ∈ lw_all := lw_g (lw_at lw_m1 83 rfl) rfl
theorem q180 : (Jvm.Cond.fieldLink "java/util/ArrayList" (15 : Nat) "java/util/ArrayList" "EMPTY_ELEMENTDATA" "[Ljava/lang/Object;") ∈ lw_all := lw_g (lw_at lw_m1 85 rfl) rfl
theorem q181 : (Jvm.Cond.laysStatic "java/util/ArrayList" "EMPTY_ELEMENTDATA" "[Ljava/lang/Object;") ∈ lw_tbl := lw_at lw_m1 86 rfl
theorem q182 : (Jvm.Cond.fieldLink "java/util/ArrayList" (9 : Nat) "java/util/ArrayList" "elementData" "[Ljava/lang/Object;") ∈ lw_all := lw_g (lw_at lw_m1 87 rfl) rfl
theorem q185 : (Jvm.Cond.fieldLink "java/util/ArrayList" (48 : Nat) "java/util/ArrayList" "size" "I") ∈ lw_all := lw_g (lw_at lw_m1 90 rfl) rfl
theorem q190 : (Jvm.Cond.sameField "java/util/ArrayList" "java/util/AbstractList" "modCount" "I") ∈ lw_all := lw_g (lw_at lw_m1 95 rfl) rfl
theorem q193 : (Jvm.Cond.fieldLink "java/util/ArrayList" (63 : Nat) "java/util/ArrayList" "modCount" "I") ∈ lw_all := lw_g (lw_at lw_m1 98 rfl) rfl
theorem q194 : (Jvm.Cond.lays "java/util/ArrayList" "java/util/ArrayList" "elementData" "[Ljava/lang/Object;") ∈ lw_all := lw_g (lw_at lw_m1 99 rfl) rfl
theorem q195 : (Jvm.Cond.soleField "java/util/ArrayList" "elementData") ∈ lw_all := lw_g (lw_at lw_m1 100 rfl) rfl
theorem q196 : (Jvm.Cond.lays "java/util/ArrayList" "java/util/ArrayList" "size" "I") ∈ lw_all := lw_g (lw_at lw_m1 101 rfl) rfl
theorem q197 : (Jvm.Cond.soleField "java/util/ArrayList" "size") ∈ lw_all := lw_g (lw_at lw_m1 102 rfl) rfl
theorem q198 : (Jvm.Cond.lays "java/util/ArrayList" "java/util/AbstractList" "modCount" "I") ∈ lw_all := lw_g (lw_at lw_m1 103 rfl) rfl
theorem q200 : (Jvm.Cond.superclass "java/util/ArrayList" "java/util/AbstractList") ∈ lw_all := lw_g (lw_at lw_m1 105 rfl) rfl
theorem q470 : (Jvm.Cond.selects "java/util/ArrayList" ({ cls := "java/lang/Object", name := "getClass", desc := "()Ljava/lang/Class;" } : Jvm.MethodName) ({ cls := "java/lang/Object", name := "getClass", desc := "()Ljava/lang/Class;" } : Jvm.MethodName)) ∈ lw_all := lw_g (lw_at lw_m2 135 rfl) rfl
theorem q856 : (Jvm.Cond.castable "java/util/ArrayList" "java/util/List") ∈ lw_tbl := lw_at lw_m4 41 rfl
theorem q857 : (Jvm.Cond.selects "java/util/ArrayList" ({ cls := "java/util/List", name := "size", desc := "()I" } : Jvm.MethodName) ({ cls := "java/util/ArrayList", name := "size", desc := "()I" } : Jvm.MethodName)) ∈ lw_all := lw_g (lw_at lw_m4 42 rfl) rfl
theorem q858 : (Jvm.Cond.unhidden "java/util/ArrayList" "size" "()I") ∈ lw_tbl := lw_at lw_m4 43 rfl
theorem q859 : (Jvm.Cond.instanceMethod ({ cls := "java/util/ArrayList", name := "size", desc := "()I" } : Jvm.MethodName)) ∈ lw_all := lw_g (lw_at lw_m4 44 rfl) rfl
theorem q860 : (Jvm.Cond.publicMethod ({ cls := "java/util/ArrayList", name := "size", desc := "()I" } : Jvm.MethodName)) ∈ lw_tbl := lw_at lw_m4 45 rfl
theorem q861 : (Jvm.Cond.code ({ cls := "java/util/ArrayList", name := "size", desc := "()I" } : Jvm.MethodName) prog_48_method_8_code (1 : Nat) (Option.some Jvm.ClassFile.FieldType.int)) ∈ lw_all := lw_g (lw_at lw_m4 46 rfl) rfl
theorem q884 : (Jvm.Cond.selects "java/util/ArrayList" ({ cls := "java/util/List", name := "get", desc := "(I)Ljava/lang/Object;" } : Jvm.MethodName) ({ cls := "java/util/ArrayList", name := "get", desc := "(I)Ljava/lang/Object;" } : Jvm.MethodName)) ∈ lw_all := lw_g (lw_at lw_m4 69 rfl) rfl
theorem q885 : (Jvm.Cond.unhidden "java/util/ArrayList" "get" "(I)Ljava/lang/Object;") ∈ lw_tbl := lw_at lw_m4 70 rfl
theorem q886 : (Jvm.Cond.instanceMethod ({ cls := "java/util/ArrayList", name := "get", desc := "(I)Ljava/lang/Object;" } : Jvm.MethodName)) ∈ lw_all := lw_g (lw_at lw_m4 71 rfl) rfl
theorem q887 : (Jvm.Cond.publicMethod ({ cls := "java/util/ArrayList", name := "get", desc := "(I)Ljava/lang/Object;" } : Jvm.MethodName)) ∈ lw_tbl := lw_at lw_m4 72 rfl
theorem q888 : (Jvm.Cond.code ({ cls := "java/util/ArrayList", name := "get", desc := "(I)Ljava/lang/Object;" } : Jvm.MethodName) prog_48_method_20_code (2 : Nat) (Option.some (Jvm.ClassFile.FieldType.object "java/lang/Object"))) ∈ lw_all := lw_g (lw_at lw_m4 73 rfl) rfl
theorem q889 : (Jvm.Cond.methodLink "java/util/ArrayList" (118 : Nat) ({ cls := "java/util/Objects", name := "checkIndex", desc := "(II)I" } : Jvm.MethodName)) ∈ lw_all := lw_g (lw_at lw_m4 74 rfl) rfl
theorem q893 : (Jvm.Cond.methodLink "java/util/ArrayList" (123 : Nat) ({ cls := "java/util/ArrayList", name := "elementData", desc := "(I)Ljava/lang/Object;" } : Jvm.MethodName)) ∈ lw_all := lw_g (lw_at lw_m4 78 rfl) rfl
theorem q894 : (Jvm.Cond.instanceMethod ({ cls := "java/util/ArrayList", name := "elementData", desc := "(I)Ljava/lang/Object;" } : Jvm.MethodName)) ∈ lw_all := lw_g (lw_at lw_m4 79 rfl) rfl
theorem q895 : (Jvm.Cond.selects "java/util/ArrayList" ({ cls := "java/util/ArrayList", name := "elementData", desc := "(I)Ljava/lang/Object;" } : Jvm.MethodName) ({ cls := "java/util/ArrayList", name := "elementData", desc := "(I)Ljava/lang/Object;" } : Jvm.MethodName)) ∈ lw_all := lw_g (lw_at lw_m4 80 rfl) rfl
theorem q896 : (Jvm.Cond.code ({ cls := "java/util/ArrayList", name := "elementData", desc := "(I)Ljava/lang/Object;" } : Jvm.MethodName) prog_48_method_18_code (2 : Nat) (Option.some (Jvm.ClassFile.FieldType.object "java/lang/Object"))) ∈ lw_all := lw_g (lw_at lw_m4 81 rfl) rfl
theorem q1093 : (Jvm.Cond.instanceMethod ({ cls := "java/util/ArrayList", name := "add", desc := "(Ljava/lang/Object;)Z" } : Jvm.MethodName)) ∈ lw_all := lw_g (lw_at lw_m5 38 rfl) rfl
theorem q1094 : (Jvm.Cond.selects "java/util/ArrayList" ({ cls := "java/util/ArrayList", name := "add", desc := "(Ljava/lang/Object;)Z" } : Jvm.MethodName) ({ cls := "java/util/ArrayList", name := "add", desc := "(Ljava/lang/Object;)Z" } : Jvm.MethodName)) ∈ lw_all := lw_g (lw_at lw_m5 39 rfl) rfl
theorem q1095 : (Jvm.Cond.code ({ cls := "java/util/ArrayList", name := "add", desc := "(Ljava/lang/Object;)Z" } : Jvm.MethodName) prog_48_method_25_code (2 : Nat) (Option.some Jvm.ClassFile.FieldType.boolean)) ∈ lw_all := lw_g (lw_at lw_m5 40 rfl) rfl
theorem q1096 : (Jvm.Cond.methodLink "java/util/ArrayList" (131 : Nat) ({ cls := "java/util/ArrayList", name := "add", desc := "(Ljava/lang/Object;[Ljava/lang/Object;I)V" } : Jvm.MethodName)) ∈ lw_all := lw_g (lw_at lw_m5 41 rfl) rfl
theorem q1097 : (Jvm.Cond.privateMethod ({ cls := "java/util/ArrayList", name := "add", desc := "(Ljava/lang/Object;[Ljava/lang/Object;I)V" } : Jvm.MethodName)) ∈ lw_tbl := lw_at lw_m5 42 rfl
theorem q1098 : (Jvm.Cond.instanceMethod ({ cls := "java/util/ArrayList", name := "add", desc := "(Ljava/lang/Object;[Ljava/lang/Object;I)V" } : Jvm.MethodName)) ∈ lw_all := lw_g (lw_at lw_m5 43 rfl) rfl
theorem q1099 : (Jvm.Cond.code ({ cls := "java/util/ArrayList", name := "add", desc := "(Ljava/lang/Object;[Ljava/lang/Object;I)V" } : Jvm.MethodName) prog_48_method_24_code (4 : Nat) (Option.none : Option Jvm.ClassFile.FieldType)) ∈ lw_all := lw_g (lw_at lw_m5 44 rfl) rfl
theorem q1100 : (Jvm.Cond.methodLink "java/util/ArrayList" (129 : Nat) ({ cls := "java/util/ArrayList", name := "grow", desc := "()[Ljava/lang/Object;" } : Jvm.MethodName)) ∈ lw_all := lw_g (lw_at lw_m5 45 rfl) rfl
theorem q1101 : (Jvm.Cond.privateMethod ({ cls := "java/util/ArrayList", name := "grow", desc := "()[Ljava/lang/Object;" } : Jvm.MethodName)) ∈ lw_tbl := lw_at lw_m5 46 rfl
theorem q1102 : (Jvm.Cond.instanceMethod ({ cls := "java/util/ArrayList", name := "grow", desc := "()[Ljava/lang/Object;" } : Jvm.MethodName)) ∈ lw_all := lw_g (lw_at lw_m5 47 rfl) rfl
theorem q1103 : (Jvm.Cond.code ({ cls := "java/util/ArrayList", name := "grow", desc := "()[Ljava/lang/Object;" } : Jvm.MethodName) prog_48_method_7_code (1 : Nat) (Option.some (Jvm.ClassFile.FieldType.array (Jvm.ClassFile.FieldType.object "java/lang/Object")))) ∈ lw_all := lw_g (lw_at lw_m5 48 rfl) rfl
theorem q1104 : (Jvm.Cond.methodLink "java/util/ArrayList" (69 : Nat) ({ cls := "java/util/ArrayList", name := "grow", desc := "(I)[Ljava/lang/Object;" } : Jvm.MethodName)) ∈ lw_all := lw_g (lw_at lw_m5 49 rfl) rfl
theorem q1105 : (Jvm.Cond.privateMethod ({ cls := "java/util/ArrayList", name := "grow", desc := "(I)[Ljava/lang/Object;" } : Jvm.MethodName)) ∈ lw_tbl := lw_at lw_m5 50 rfl
theorem q1106 : (Jvm.Cond.instanceMethod ({ cls := "java/util/ArrayList", name := "grow", desc := "(I)[Ljava/lang/Object;" } : Jvm.MethodName)) ∈ lw_all := lw_g (lw_at lw_m5 51 rfl) rfl
theorem q1107 : (Jvm.Cond.code ({ cls := "java/util/ArrayList", name := "grow", desc := "(I)[Ljava/lang/Object;" } : Jvm.MethodName) prog_48_method_6_code (4 : Nat) (Option.some (Jvm.ClassFile.FieldType.array (Jvm.ClassFile.FieldType.object "java/lang/Object")))) ∈ lw_all := lw_g (lw_at lw_m5 52 rfl) rfl
theorem q1108 : (Jvm.Cond.fieldLink "java/util/ArrayList" (39 : Nat) "java/util/ArrayList" "DEFAULTCAPACITY_EMPTY_ELEMENTDATA" "[Ljava/lang/Object;") ∈ lw_all := lw_g (lw_at lw_m5 53 rfl) rfl
theorem q1109 : (Jvm.Cond.laysStatic "java/util/ArrayList" "DEFAULTCAPACITY_EMPTY_ELEMENTDATA" "[Ljava/lang/Object;") ∈ lw_tbl := lw_at lw_m5 54 rfl
theorem q1110 : (Jvm.Cond.methodLink "java/util/ArrayList" (73 : Nat) ({ cls := "jdk/internal/util/ArraysSupport", name := "newLength", desc := "(III)I" } : Jvm.MethodName)) ∈ lw_all := lw_g (lw_at lw_m5 55 rfl) rfl
theorem q1111 : (Jvm.Cond.methodLink "java/util/ArrayList" (66 : Nat) ({ cls := "java/util/Arrays", name := "copyOf", desc := "([Ljava/lang/Object;I)[Ljava/lang/Object;" } : Jvm.MethodName)) ∈ lw_all := lw_g (lw_at lw_m5 56 rfl) rfl
theorem q1120 : (Jvm.Cond.methodLink "java/util/ArrayList" (79 : Nat) ({ cls := "java/lang/Math", name := "max", desc := "(II)I" } : Jvm.MethodName)) ∈ lw_all := lw_g (lw_at lw_m5 65 rfl) rfl
theorem q1277 : (Jvm.Cond.instanceMethod ({ cls := "java/util/ArrayList", name := "clear", desc := "()V" } : Jvm.MethodName)) ∈ lw_all := lw_g (lw_at lw_m5 222 rfl) rfl
theorem q1278 : (Jvm.Cond.selects "java/util/ArrayList" ({ cls := "java/util/ArrayList", name := "clear", desc := "()V" } : Jvm.MethodName) ({ cls := "java/util/ArrayList", name := "clear", desc := "()V" } : Jvm.MethodName)) ∈ lw_all := lw_g (lw_at lw_m5 223 rfl) rfl
theorem q1279 : (Jvm.Cond.code ({ cls := "java/util/ArrayList", name := "clear", desc := "()V" } : Jvm.MethodName) prog_48_method_40_code (4 : Nat) (Option.none : Option Jvm.ClassFile.FieldType)) ∈ lw_all := lw_g (lw_at lw_m5 224 rfl) rfl
theorem q1492 : (Jvm.Cond.instanceMethod ({ cls := "java/util/ArrayList", name := "remove", desc := "(I)Ljava/lang/Object;" } : Jvm.MethodName)) ∈ lw_all := lw_g (lw_at lw_m6 197 rfl) rfl
theorem q1493 : (Jvm.Cond.selects "java/util/ArrayList" ({ cls := "java/util/ArrayList", name := "remove", desc := "(I)Ljava/lang/Object;" } : Jvm.MethodName) ({ cls := "java/util/ArrayList", name := "remove", desc := "(I)Ljava/lang/Object;" } : Jvm.MethodName)) ∈ lw_all := lw_g (lw_at lw_m6 198 rfl) rfl
theorem q1494 : (Jvm.Cond.code ({ cls := "java/util/ArrayList", name := "remove", desc := "(I)Ljava/lang/Object;" } : Jvm.MethodName) prog_48_method_29_code (4 : Nat) (Option.some (Jvm.ClassFile.FieldType.object "java/lang/Object"))) ∈ lw_all := lw_g (lw_at lw_m6 199 rfl) rfl
theorem q1495 : (Jvm.Cond.methodLink "java/util/ArrayList" (144 : Nat) ({ cls := "java/util/ArrayList", name := "fastRemove", desc := "([Ljava/lang/Object;I)V" } : Jvm.MethodName)) ∈ lw_all := lw_g (lw_at lw_m6 200 rfl) rfl
theorem q1496 : (Jvm.Cond.privateMethod ({ cls := "java/util/ArrayList", name := "fastRemove", desc := "([Ljava/lang/Object;I)V" } : Jvm.MethodName)) ∈ lw_tbl := lw_at lw_m6 201 rfl
theorem q1497 : (Jvm.Cond.instanceMethod ({ cls := "java/util/ArrayList", name := "fastRemove", desc := "([Ljava/lang/Object;I)V" } : Jvm.MethodName)) ∈ lw_all := lw_g (lw_at lw_m6 202 rfl) rfl
theorem q1498 : (Jvm.Cond.code ({ cls := "java/util/ArrayList", name := "fastRemove", desc := "([Ljava/lang/Object;I)V" } : Jvm.MethodName) prog_48_method_39_code (4 : Nat) (Option.none : Option Jvm.ClassFile.FieldType)) ∈ lw_all := lw_g (lw_at lw_m6 203 rfl) rfl
theorem q1499 : (Jvm.Cond.methodLink "java/util/ArrayList" (112 : Nat) ({ cls := "java/lang/System", name := "arraycopy", desc := "(Ljava/lang/Object;ILjava/lang/Object;II)V" } : Jvm.MethodName)) ∈ lw_all := lw_g (lw_at lw_m6 204 rfl) rfl
theorem q1522 : (Jvm.Cond.selects "java/util/ArrayList" ({ cls := "java/util/AbstractList", name := "listIterator", desc := "(I)Ljava/util/ListIterator;" } : Jvm.MethodName) ({ cls := "java/util/ArrayList", name := "listIterator", desc := "(I)Ljava/util/ListIterator;" } : Jvm.MethodName)) ∈ lw_all := lw_g (lw_at lw_m6 227 rfl) rfl
theorem q1523 : (Jvm.Cond.instanceMethod ({ cls := "java/util/ArrayList", name := "listIterator", desc := "(I)Ljava/util/ListIterator;" } : Jvm.MethodName)) ∈ lw_all := lw_g (lw_at lw_m6 228 rfl) rfl
theorem q1524 : (Jvm.Cond.code ({ cls := "java/util/ArrayList", name := "listIterator", desc := "(I)Ljava/util/ListIterator;" } : Jvm.MethodName) prog_48_method_53_code (2 : Nat) (Option.some (Jvm.ClassFile.FieldType.object "java/util/ListIterator"))) ∈ lw_all := lw_g (lw_at lw_m6 229 rfl) rfl
theorem q1525 : (Jvm.Cond.methodLink "java/util/ArrayList" (135 : Nat) ({ cls := "java/util/ArrayList", name := "rangeCheckForAdd", desc := "(I)V" } : Jvm.MethodName)) ∈ lw_all := lw_g (lw_at lw_m6 230 rfl) rfl
theorem q1526 : (Jvm.Cond.privateMethod ({ cls := "java/util/ArrayList", name := "rangeCheckForAdd", desc := "(I)V" } : Jvm.MethodName)) ∈ lw_tbl := lw_at lw_m6 231 rfl
theorem q1527 : (Jvm.Cond.instanceMethod ({ cls := "java/util/ArrayList", name := "rangeCheckForAdd", desc := "(I)V" } : Jvm.MethodName)) ∈ lw_all := lw_g (lw_at lw_m6 232 rfl) rfl
theorem q1528 : (Jvm.Cond.code ({ cls := "java/util/ArrayList", name := "rangeCheckForAdd", desc := "(I)V" } : Jvm.MethodName) prog_48_method_45_code (2 : Nat) (Option.none : Option Jvm.ClassFile.FieldType)) ∈ lw_all := lw_g (lw_at lw_m6 233 rfl) rfl
theorem q1529 : (Jvm.Cond.classLink "java/util/ArrayList" (187 : Nat) "java/lang/IndexOutOfBoundsException") ∈ lw_all := lw_g (lw_at lw_m6 234 rfl) rfl
theorem q1530 : (Jvm.Cond.methodLink "java/util/ArrayList" (198 : Nat) ({ cls := "java/util/ArrayList", name := "outOfBoundsMsg", desc := "(I)Ljava/lang/String;" } : Jvm.MethodName)) ∈ lw_all := lw_g (lw_at lw_m6 235 rfl) rfl
theorem q1531 : (Jvm.Cond.privateMethod ({ cls := "java/util/ArrayList", name := "outOfBoundsMsg", desc := "(I)Ljava/lang/String;" } : Jvm.MethodName)) ∈ lw_tbl := lw_at lw_m6 236 rfl
theorem q1532 : (Jvm.Cond.instanceMethod ({ cls := "java/util/ArrayList", name := "outOfBoundsMsg", desc := "(I)Ljava/lang/String;" } : Jvm.MethodName)) ∈ lw_all := lw_g (lw_at lw_m6 237 rfl) rfl
theorem q1533 : (Jvm.Cond.code ({ cls := "java/util/ArrayList", name := "outOfBoundsMsg", desc := "(I)Ljava/lang/String;" } : Jvm.MethodName) prog_48_method_46_code (2 : Nat) (Option.some (Jvm.ClassFile.FieldType.object "java/lang/String"))) ∈ lw_all := lw_g (lw_at lw_m6 238 rfl) rfl
theorem q1534 : (Jvm.Cond.classLink "java/util/ArrayList" (20 : Nat) "java/lang/StringBuilder") ∈ lw_all := lw_g (lw_at lw_m6 239 rfl) rfl
theorem q1535 : (Jvm.Cond.methodLink "java/util/ArrayList" (22 : Nat) ({ cls := "java/lang/StringBuilder", name := "<init>", desc := "()V" } : Jvm.MethodName)) ∈ lw_all := lw_g (lw_at lw_m7 0 rfl) rfl
theorem q1536 : (Jvm.Cond.stringRef "java/util/ArrayList" (201 : Nat) "Index: ") ∈ lw_tbl := lw_at lw_m7 1 rfl
theorem q1537 : (Jvm.Cond.methodLink "java/util/ArrayList" (25 : Nat) ({ cls := "java/lang/StringBuilder", name := "append", desc := "(Ljava/lang/String;)Ljava/lang/StringBuilder;" } : Jvm.MethodName)) ∈ lw_all := lw_g (lw_at lw_m7 2 rfl) rfl
theorem q1538 : (Jvm.Cond.methodLink "java/util/ArrayList" (29 : Nat) ({ cls := "java/lang/StringBuilder", name := "append", desc := "(I)Ljava/lang/StringBuilder;" } : Jvm.MethodName)) ∈ lw_all := lw_g (lw_at lw_m7 3 rfl) rfl
theorem q1539 : (Jvm.Cond.stringRef "java/util/ArrayList" (203 : Nat) ", Size: ") ∈ lw_tbl := lw_at lw_m7 4 rfl
theorem q1540 : (Jvm.Cond.methodLink "java/util/ArrayList" (32 : Nat) ({ cls := "java/lang/StringBuilder", name := "toString", desc := "()Ljava/lang/String;" } : Jvm.MethodName)) ∈ lw_all := lw_g (lw_at lw_m7 5 rfl) rfl
theorem q1541 : (Jvm.Cond.methodLink "java/util/ArrayList" (193 : Nat) ({ cls := "java/lang/IndexOutOfBoundsException", name := "<init>", desc := "(Ljava/lang/String;)V" } : Jvm.MethodName)) ∈ lw_all := lw_g (lw_at lw_m7 6 rfl) rfl
theorem q1542 : (Jvm.Cond.classLink "java/util/ArrayList" (262 : Nat) "java/util/ArrayList$ListItr") ∈ lw_all := lw_g (lw_at lw_m7 7 rfl) rfl
theorem q1544 : (Jvm.Cond.methodLink "java/util/ArrayList" (264 : Nat) ({ cls := "java/util/ArrayList$ListItr", name := "<init>", desc := "(Ljava/util/ArrayList;I)V" } : Jvm.MethodName)) ∈ lw_all := lw_g (lw_at lw_m7 9 rfl) rfl
theorem q1616 : (Jvm.Cond.selects "java/util/ArrayList" ({ cls := "java/util/AbstractList", name := "size", desc := "()I" } : Jvm.MethodName) ({ cls := "java/util/ArrayList", name := "size", desc := "()I" } : Jvm.MethodName)) ∈ lw_all := lw_g (lw_at lw_m7 81 rfl) rfl
theorem q1653 : (Jvm.Cond.selects "java/util/ArrayList" ({ cls := "java/util/AbstractList", name := "get", desc := "(I)Ljava/lang/Object;" } : Jvm.MethodName) ({ cls := "java/util/ArrayList", name := "get", desc := "(I)Ljava/lang/Object;" } : Jvm.MethodName)) ∈ lw_all := lw_g (lw_at lw_m7 118 rfl) rfl
theorem q1957 : (Jvm.Cond.selects "java/util/ArrayList" ({ cls := "java/util/AbstractList", name := "remove", desc := "(I)Ljava/lang/Object;" } : Jvm.MethodName) ({ cls := "java/util/ArrayList", name := "remove", desc := "(I)Ljava/lang/Object;" } : Jvm.MethodName)) ∈ lw_all := lw_g (lw_at lw_m8 182 rfl) rfl
theorem q2075 : (Jvm.Cond.instanceMethod ({ cls := "java/util/ArrayList", name := "isEmpty", desc := "()Z" } : Jvm.MethodName)) ∈ lw_all := lw_g (lw_at lw_m9 60 rfl) rfl
theorem q2076 : (Jvm.Cond.selects "java/util/ArrayList" ({ cls := "java/util/ArrayList", name := "isEmpty", desc := "()Z" } : Jvm.MethodName) ({ cls := "java/util/ArrayList", name := "isEmpty", desc := "()Z" } : Jvm.MethodName)) ∈ lw_all := lw_g (lw_at lw_m9 61 rfl) rfl
theorem q2077 : (Jvm.Cond.code ({ cls := "java/util/ArrayList", name := "isEmpty", desc := "()Z" } : Jvm.MethodName) prog_48_method_9_code (1 : Nat) (Option.some Jvm.ClassFile.FieldType.boolean)) ∈ lw_all := lw_g (lw_at lw_m9 62 rfl) rfl
theorem q2692 : (Jvm.Cond.selects "java/util/ArrayList" ({ cls := "java/util/ArrayList", name := "size", desc := "()I" } : Jvm.MethodName) ({ cls := "java/util/ArrayList", name := "size", desc := "()I" } : Jvm.MethodName)) ∈ lw_all := lw_g (lw_at lw_m11 197 rfl) rfl
theorem q2693 : (Jvm.Cond.selects "java/util/ArrayList" ({ cls := "java/util/ArrayList", name := "get", desc := "(I)Ljava/lang/Object;" } : Jvm.MethodName) ({ cls := "java/util/ArrayList", name := "get", desc := "(I)Ljava/lang/Object;" } : Jvm.MethodName)) ∈ lw_all := lw_g (lw_at lw_m11 198 rfl) rfl
theorem q2702 : (Jvm.Cond.castable "java/util/ArrayList" "java/lang/Object") ∈ lw_tbl := lw_at lw_m11 207 rfl
theorem in_J2 : ∀ w ∈ wsJ20, w ∈ lw_all := lw_in wsJ20 [198, 194, 196] (by decide +kernel) (by decide +kernel)

/-! java/util/AbstractSequentialList -/
set_option maxRecDepth 100000
def RJ3 : String := "java/util/AbstractSequentialList"
abbrev cJ3_init : ByteArray := prog_45_method_1_code
def yJ3_init : MethodName := ⟨RJ3, "<init>", "()V"⟩
theorem dJ3_init_0 : decode cJ3_init 0 = .ok (.aload_n 0, 1) := by decide +kernel
theorem dJ3_init_1 : decode cJ3_init 1 = .ok (.invokespecial 1, 3) := by decide +kernel
theorem dJ3_init_4 : decode cJ3_init 4 = .ok (.return_, 1) := by decide +kernel
abbrev cJ3_iterator : ByteArray := prog_45_method_7_code
def yJ3_iterator : MethodName := ⟨RJ3, "iterator", "()Ljava/util/Iterator;"⟩
theorem dJ3_iterator_0 : decode cJ3_iterator 0 = .ok (.aload_n 0, 1) := by decide +kernel
theorem dJ3_iterator_1 : decode cJ3_iterator 1 = .ok (.invokevirtual 65, 3) := by decide +kernel
theorem dJ3_iterator_4 : decode cJ3_iterator 4 = .ok (.areturn, 1) := by decide +kernel
theorem q102 : (Jvm.Cond.initialized "java/util/AbstractSequentialList") ∈ lw_all := lw_g (lw_at lw_m1 7 rfl) rfl
theorem q254 : (Jvm.Cond.instanceMethod ({ cls := "java/util/AbstractSequentialList", name := "<init>", desc := "()V" } : Jvm.MethodName)) ∈ lw_all := lw_g (lw_at lw_m1 159 rfl) rfl
theorem q255 : (Jvm.Cond.code ({ cls := "java/util/AbstractSequentialList", name := "<init>", desc := "()V" } : Jvm.MethodName) prog_45_method_1_code (1 : Nat) (Option.none : Option Jvm.ClassFile.FieldType)) ∈ lw_all := lw_g (lw_at lw_m1 160 rfl) rfl
theorem q256 : (Jvm.Cond.methodLink "java/util/AbstractSequentialList" (1 : Nat) ({ cls := "java/util/AbstractList", name := "<init>", desc := "()V" } : Jvm.MethodName)) ∈ lw_all := lw_g (lw_at lw_m1 161 rfl) rfl
theorem q1509 : (Jvm.Cond.declares ({ cls := "java/util/AbstractSequentialList", name := "iterator", desc := "()Ljava/util/Iterator;" } : Jvm.MethodName)) ∈ lw_tbl := lw_at lw_m6 214 rfl
theorem q1511 : (Jvm.Cond.instanceMethod ({ cls := "java/util/AbstractSequentialList", name := "iterator", desc := "()Ljava/util/Iterator;" } : Jvm.MethodName)) ∈ lw_all := lw_g (lw_at lw_m6 216 rfl) rfl
theorem q1512 : (Jvm.Cond.code ({ cls := "java/util/AbstractSequentialList", name := "iterator", desc := "()Ljava/util/Iterator;" } : Jvm.MethodName) prog_45_method_7_code (1 : Nat) (Option.some (Jvm.ClassFile.FieldType.object "java/util/Iterator"))) ∈ lw_all := lw_g (lw_at lw_m6 217 rfl) rfl
theorem q1513 : (Jvm.Cond.methodLink "java/util/AbstractSequentialList" (65 : Nat) ({ cls := "java/util/AbstractSequentialList", name := "listIterator", desc := "()Ljava/util/ListIterator;" } : Jvm.MethodName)) ∈ lw_all := lw_g (lw_at lw_m6 218 rfl) rfl
theorem q1514 : (Jvm.Cond.sameMethod "java/util/AbstractSequentialList" "java/util/AbstractList" "listIterator" "()Ljava/util/ListIterator;") ∈ lw_all := lw_g (lw_at lw_m6 219 rfl) rfl

/-! java/util/LinkedList -/
set_option maxRecDepth 100000
def RJ4 : String := "java/util/LinkedList"
def TJ4 : u_T := fun k => match k with
  | 0 => ("java/util/AbstractList", "modCount", "I", false)
  | 1 => ("java/util/LinkedList", "size", "I", false)
  | 2 => ("java/util/LinkedList", "first", "Ljava/util/LinkedList$Node;", false)
  | _ => ("java/util/LinkedList", "last", "Ljava/util/LinkedList$Node;", false)
def tyJ4 : Nat → FieldType := fun k => match k with
  | 0 => .int
  | 1 => .int
  | 2 => .object "java/util/LinkedList$Node"
  | _ => .object "java/util/LinkedList$Node"
abbrev wsJ40 : List Cond := u_ws RJ4 TJ4 4
theorem nmJ4 : ∀ a, a < 4 → ∀ b, b < 4 → a ≠ b → (TJ4 a).2.1 ≠ (TJ4 b).2.1 := by decide +kernel
theorem tyJ4_ok : ∀ k, k < 4 → parseFieldDescriptor (TJ4 k).2.2.1 = some (tyJ4 k) := by decide +kernel
abbrev cJ4_init : ByteArray := prog_62_method_1_code
def yJ4_init : MethodName := ⟨RJ4, "<init>", "()V"⟩
def dkwJ4_init_0 : List UInt8 := [42, 183, 0, 1, 42, 3, 181, 0, 7, 177]
abbrev dktJ4_init_0 : List UInt8 := dkwJ4_init_0 ++ []
theorem dksJ4_init_0 : cJ4_init.data.toList.drop 0 = dktJ4_init_0 := by decide +kernel
theorem dJ4_init_0 : decode cJ4_init 0 = .ok (.aload_n 0, 1) := dk_42 (dk_at dksJ4_init_0 0 rfl rfl)
theorem dJ4_init_1 : decode cJ4_init 1 = .ok (.invokespecial 1, 3) := dk_183 0 1 (dk_at dksJ4_init_0 1 rfl rfl)
theorem dJ4_init_4 : decode cJ4_init 4 = .ok (.aload_n 0, 1) := dk_42 (dk_at dksJ4_init_0 4 rfl rfl)
theorem dJ4_init_5 : decode cJ4_init 5 = .ok (.iconst 0, 1) := dk_3 (dk_at dksJ4_init_0 5 rfl rfl)
theorem dJ4_init_6 : decode cJ4_init 6 = .ok (.putfield 7, 3) := dk_181 0 7 (dk_at dksJ4_init_0 6 rfl rfl)
theorem dJ4_init_9 : decode cJ4_init 9 = .ok (.return_, 1) := dk_177 (dk_at dksJ4_init_0 9 rfl rfl)
abbrev cJ4_size : ByteArray := prog_62_method_16_code
def yJ4_size : MethodName := ⟨RJ4, "size", "()I"⟩
theorem dJ4_size_0 : decode cJ4_size 0 = .ok (.aload_n 0, 1) := by decide +kernel
theorem dJ4_size_1 : decode cJ4_size 1 = .ok (.getfield 7, 3) := by decide +kernel
theorem dJ4_size_4 : decode cJ4_size 4 = .ok (.ireturn, 1) := by decide +kernel
abbrev cJ4_get : ByteArray := prog_62_method_22_code
def yJ4_get : MethodName := ⟨RJ4, "get", "(I)Ljava/lang/Object;"⟩
def dkwJ4_get_0 : List UInt8 := [42, 27, 182, 0, 90, 42, 27, 182, 0, 86, 180, 0, 39, 176]
abbrev dktJ4_get_0 : List UInt8 := dkwJ4_get_0 ++ []
theorem dksJ4_get_0 : cJ4_get.data.toList.drop 0 = dktJ4_get_0 := by decide +kernel
theorem dJ4_get_0 : decode cJ4_get 0 = .ok (.aload_n 0, 1) := dk_42 (dk_at dksJ4_get_0 0 rfl rfl)
theorem dJ4_get_1 : decode cJ4_get 1 = .ok (.iload_n 1, 1) := dk_27 (dk_at dksJ4_get_0 1 rfl rfl)
theorem dJ4_get_2 : decode cJ4_get 2 = .ok (.invokevirtual 90, 3) := dk_182 0 90 (dk_at dksJ4_get_0 2 rfl rfl)
theorem dJ4_get_5 : decode cJ4_get 5 = .ok (.aload_n 0, 1) := dk_42 (dk_at dksJ4_get_0 5 rfl rfl)
theorem dJ4_get_6 : decode cJ4_get 6 = .ok (.iload_n 1, 1) := dk_27 (dk_at dksJ4_get_0 6 rfl rfl)
theorem dJ4_get_7 : decode cJ4_get 7 = .ok (.invokevirtual 86, 3) := dk_182 0 86 (dk_at dksJ4_get_0 7 rfl rfl)
theorem dJ4_get_10 : decode cJ4_get 10 = .ok (.getfield 39, 3) := dk_180 0 39 (dk_at dksJ4_get_0 10 rfl rfl)
theorem dJ4_get_13 : decode cJ4_get 13 = .ok (.areturn, 1) := dk_176 (dk_at dksJ4_get_0 13 rfl rfl)
abbrev cJ4_checkElementIndex : ByteArray := prog_62_method_29_code
def yJ4_checkElementIndex : MethodName := ⟨RJ4, "checkElementIndex", "(I)V"⟩
def dkwJ4_checkElementIndex_0 : List UInt8 := [42, 27, 182, 0, 115, 154, 0, 16, 187, 0, 119, 89, 42, 27, 182, 0, 121, 183, 0, 125, 191, 177]
abbrev dktJ4_checkElementIndex_0 : List UInt8 := dkwJ4_checkElementIndex_0 ++ []
theorem dksJ4_checkElementIndex_0 : cJ4_checkElementIndex.data.toList.drop 0 = dktJ4_checkElementIndex_0 := by decide +kernel
theorem dJ4_checkElementIndex_0 : decode cJ4_checkElementIndex 0 = .ok (.aload_n 0, 1) := dk_42 (dk_at dksJ4_checkElementIndex_0 0 rfl rfl)
theorem dJ4_checkElementIndex_1 : decode cJ4_checkElementIndex 1 = .ok (.iload_n 1, 1) := dk_27 (dk_at dksJ4_checkElementIndex_0 1 rfl rfl)
theorem dJ4_checkElementIndex_2 : decode cJ4_checkElementIndex 2 = .ok (.invokevirtual 115, 3) := dk_182 0 115 (dk_at dksJ4_checkElementIndex_0 2 rfl rfl)
theorem dJ4_checkElementIndex_5 : decode cJ4_checkElementIndex 5 = .ok (.ifCond .ne 16, 3) := dk_154 0 16 (dk_at dksJ4_checkElementIndex_0 5 rfl rfl)
theorem dJ4_checkElementIndex_8 : decode cJ4_checkElementIndex 8 = .ok (.new 119, 3) := dk_187 0 119 (dk_at dksJ4_checkElementIndex_0 8 rfl rfl)
theorem dJ4_checkElementIndex_11 : decode cJ4_checkElementIndex 11 = .ok (.dup, 1) := dk_89 (dk_at dksJ4_checkElementIndex_0 11 rfl rfl)
theorem dJ4_checkElementIndex_12 : decode cJ4_checkElementIndex 12 = .ok (.aload_n 0, 1) := dk_42 (dk_at dksJ4_checkElementIndex_0 12 rfl rfl)
theorem dJ4_checkElementIndex_13 : decode cJ4_checkElementIndex 13 = .ok (.iload_n 1, 1) := dk_27 (dk_at dksJ4_checkElementIndex_0 13 rfl rfl)
theorem dJ4_checkElementIndex_14 : decode cJ4_checkElementIndex 14 = .ok (.invokevirtual 121, 3) := dk_182 0 121 (dk_at dksJ4_checkElementIndex_0 14 rfl rfl)
theorem dJ4_checkElementIndex_17 : decode cJ4_checkElementIndex 17 = .ok (.invokespecial 125, 3) := dk_183 0 125 (dk_at dksJ4_checkElementIndex_0 17 rfl rfl)
theorem dJ4_checkElementIndex_20 : decode cJ4_checkElementIndex 20 = .ok (.athrow, 1) := dk_191 (dk_at dksJ4_checkElementIndex_0 20 rfl rfl)
theorem dJ4_checkElementIndex_21 : decode cJ4_checkElementIndex 21 = .ok (.return_, 1) := dk_177 (dk_at dksJ4_checkElementIndex_0 21 rfl rfl)
abbrev cJ4_isElementIndex : ByteArray := prog_62_method_26_code
def yJ4_isElementIndex : MethodName := ⟨RJ4, "isElementIndex", "(I)Z"⟩
def dkwJ4_isElementIndex_0 : List UInt8 := [27, 155, 0, 15, 27, 42, 180, 0, 7, 162, 0, 7, 4, 167, 0, 4, 3, 172]
abbrev dktJ4_isElementIndex_0 : List UInt8 := dkwJ4_isElementIndex_0 ++ []
theorem dksJ4_isElementIndex_0 : cJ4_isElementIndex.data.toList.drop 0 = dktJ4_isElementIndex_0 := by decide +kernel
theorem dJ4_isElementIndex_0 : decode cJ4_isElementIndex 0 = .ok (.iload_n 1, 1) := dk_27 (dk_at dksJ4_isElementIndex_0 0 rfl rfl)
theorem dJ4_isElementIndex_1 : decode cJ4_isElementIndex 1 = .ok (.ifCond .lt 15, 3) := dk_155 0 15 (dk_at dksJ4_isElementIndex_0 1 rfl rfl)
theorem dJ4_isElementIndex_4 : decode cJ4_isElementIndex 4 = .ok (.iload_n 1, 1) := dk_27 (dk_at dksJ4_isElementIndex_0 4 rfl rfl)
theorem dJ4_isElementIndex_5 : decode cJ4_isElementIndex 5 = .ok (.aload_n 0, 1) := dk_42 (dk_at dksJ4_isElementIndex_0 5 rfl rfl)
theorem dJ4_isElementIndex_6 : decode cJ4_isElementIndex 6 = .ok (.getfield 7, 3) := dk_180 0 7 (dk_at dksJ4_isElementIndex_0 6 rfl rfl)
theorem dJ4_isElementIndex_9 : decode cJ4_isElementIndex 9 = .ok (.if_icmp .ge 7, 3) := dk_162 0 7 (dk_at dksJ4_isElementIndex_0 9 rfl rfl)
theorem dJ4_isElementIndex_12 : decode cJ4_isElementIndex 12 = .ok (.iconst 1, 1) := dk_4 (dk_at dksJ4_isElementIndex_0 12 rfl rfl)
theorem dJ4_isElementIndex_13 : decode cJ4_isElementIndex 13 = .ok (.goto 4, 3) := dk_167 0 4 (dk_at dksJ4_isElementIndex_0 13 rfl rfl)
theorem dJ4_isElementIndex_16 : decode cJ4_isElementIndex 16 = .ok (.iconst 0, 1) := dk_3 (dk_at dksJ4_isElementIndex_0 16 rfl rfl)
theorem dJ4_isElementIndex_17 : decode cJ4_isElementIndex 17 = .ok (.ireturn, 1) := dk_172 (dk_at dksJ4_isElementIndex_0 17 rfl rfl)
abbrev cJ4_outOfBoundsMsg : ByteArray := prog_62_method_28_code
def yJ4_outOfBoundsMsg : MethodName := ⟨RJ4, "outOfBoundsMsg", "(I)Ljava/lang/String;"⟩
def dkwJ4_outOfBoundsMsg_1 : List UInt8 := [180, 0, 7, 182, 0, 106, 182, 0, 111, 176]
abbrev dktJ4_outOfBoundsMsg_1 : List UInt8 := dkwJ4_outOfBoundsMsg_1 ++ []
def dkwJ4_outOfBoundsMsg_0 : List UInt8 := [187, 0, 97, 89, 183, 0, 99, 18, 100, 182, 0, 102, 27, 182, 0, 106, 18, 109, 182, 0, 102, 42]
abbrev dktJ4_outOfBoundsMsg_0 : List UInt8 := dkwJ4_outOfBoundsMsg_0 ++ dktJ4_outOfBoundsMsg_1
theorem dksJ4_outOfBoundsMsg_0 : cJ4_outOfBoundsMsg.data.toList.drop 0 = dktJ4_outOfBoundsMsg_0 := by decide +kernel
theorem dksJ4_outOfBoundsMsg_1 : cJ4_outOfBoundsMsg.data.toList.drop 22 = dktJ4_outOfBoundsMsg_1 := dk_seg dksJ4_outOfBoundsMsg_0 22 rfl rfl
theorem dJ4_outOfBoundsMsg_0 : decode cJ4_outOfBoundsMsg 0 = .ok (.new 97, 3) := dk_187 0 97 (dk_at dksJ4_outOfBoundsMsg_0 0 rfl rfl)
theorem dJ4_outOfBoundsMsg_3 : decode cJ4_outOfBoundsMsg 3 = .ok (.dup, 1) := dk_89 (dk_at dksJ4_outOfBoundsMsg_0 3 rfl rfl)
theorem dJ4_outOfBoundsMsg_4 : decode cJ4_outOfBoundsMsg 4 = .ok (.invokespecial 99, 3) := dk_183 0 99 (dk_at dksJ4_outOfBoundsMsg_0 4 rfl rfl)
theorem dJ4_outOfBoundsMsg_7 : decode cJ4_outOfBoundsMsg 7 = .ok (.ldc 100, 2) := dk_18 100 (dk_at dksJ4_outOfBoundsMsg_0 7 rfl rfl)
theorem dJ4_outOfBoundsMsg_9 : decode cJ4_outOfBoundsMsg 9 = .ok (.invokevirtual 102, 3) := dk_182 0 102 (dk_at dksJ4_outOfBoundsMsg_0 9 rfl rfl)
theorem dJ4_outOfBoundsMsg_12 : decode cJ4_outOfBoundsMsg 12 = .ok (.iload_n 1, 1) := dk_27 (dk_at dksJ4_outOfBoundsMsg_0 12 rfl rfl)
theorem dJ4_outOfBoundsMsg_13 : decode cJ4_outOfBoundsMsg 13 = .ok (.invokevirtual 106, 3) := dk_182 0 106 (dk_at dksJ4_outOfBoundsMsg_0 13 rfl rfl)
theorem dJ4_outOfBoundsMsg_16 : decode cJ4_outOfBoundsMsg 16 = .ok (.ldc 109, 2) := dk_18 109 (dk_at dksJ4_outOfBoundsMsg_0 16 rfl rfl)
theorem dJ4_outOfBoundsMsg_18 : decode cJ4_outOfBoundsMsg 18 = .ok (.invokevirtual 102, 3) := dk_182 0 102 (dk_at dksJ4_outOfBoundsMsg_0 18 rfl rfl)
theorem dJ4_outOfBoundsMsg_21 : decode cJ4_outOfBoundsMsg 21 = .ok (.aload_n 0, 1) := dk_42 (dk_at dksJ4_outOfBoundsMsg_0 21 rfl rfl)
theorem dJ4_outOfBoundsMsg_22 : decode cJ4_outOfBoundsMsg 22 = .ok (.getfield 7, 3) := dk_180 0 7 (dk_at dksJ4_outOfBoundsMsg_1 0 rfl rfl)
theorem dJ4_outOfBoundsMsg_25 : decode cJ4_outOfBoundsMsg 25 = .ok (.invokevirtual 106, 3) := dk_182 0 106 (dk_at dksJ4_outOfBoundsMsg_1 3 rfl rfl)
theorem dJ4_outOfBoundsMsg_28 : decode cJ4_outOfBoundsMsg 28 = .ok (.invokevirtual 111, 3) := dk_182 0 111 (dk_at dksJ4_outOfBoundsMsg_1 6 rfl rfl)
theorem dJ4_outOfBoundsMsg_31 : decode cJ4_outOfBoundsMsg 31 = .ok (.areturn, 1) := dk_176 (dk_at dksJ4_outOfBoundsMsg_1 9 rfl rfl)
abbrev cJ4_node : ByteArray := prog_62_method_31_code
def yJ4_node : MethodName := ⟨RJ4, "node", "(I)Ljava/util/LinkedList$Node;"⟩
def dkwJ4_node_2 : List UInt8 := [29, 27, 164, 0, 14, 44, 180, 0, 30, 77, 132, 3, 255, 167, 255, 243, 44, 176]
abbrev dktJ4_node_2 : List UInt8 := dkwJ4_node_2 ++ []
def dkwJ4_node_1 : List UInt8 := [180, 0, 36, 77, 132, 3, 1, 167, 255, 243, 44, 176, 42, 180, 0, 27, 77, 42, 180, 0, 7, 4, 100, 62]
abbrev dktJ4_node_1 : List UInt8 := dkwJ4_node_1 ++ dktJ4_node_2
def dkwJ4_node_0 : List UInt8 := [27, 42, 180, 0, 7, 4, 122, 162, 0, 28, 42, 180, 0, 18, 77, 3, 62, 29, 27, 162, 0, 14, 44]
abbrev dktJ4_node_0 : List UInt8 := dkwJ4_node_0 ++ dktJ4_node_1
theorem dksJ4_node_0 : cJ4_node.data.toList.drop 0 = dktJ4_node_0 := by decide +kernel
theorem dksJ4_node_1 : cJ4_node.data.toList.drop 23 = dktJ4_node_1 := dk_seg dksJ4_node_0 23 rfl rfl
theorem dksJ4_node_2 : cJ4_node.data.toList.drop 47 = dktJ4_node_2 := dk_seg dksJ4_node_1 24 rfl rfl
theorem dJ4_node_0 : decode cJ4_node 0 = .ok (.iload_n 1, 1) := dk_27 (dk_at dksJ4_node_0 0 rfl rfl)
theorem dJ4_node_1 : decode cJ4_node 1 = .ok (.aload_n 0, 1) := dk_42 (dk_at dksJ4_node_0 1 rfl rfl)
theorem dJ4_node_2 : decode cJ4_node 2 = .ok (.getfield 7, 3) := dk_180 0 7 (dk_at dksJ4_node_0 2 rfl rfl)
theorem dJ4_node_5 : decode cJ4_node 5 = .ok (.iconst 1, 1) := dk_4 (dk_at dksJ4_node_0 5 rfl rfl)
theorem dJ4_node_6 : decode cJ4_node 6 = .ok (.ishr, 1) := dk_122 (dk_at dksJ4_node_0 6 rfl rfl)
theorem dJ4_node_7 : decode cJ4_node 7 = .ok (.if_icmp .ge 28, 3) := dk_162 0 28 (dk_at dksJ4_node_0 7 rfl rfl)
theorem dJ4_node_10 : decode cJ4_node 10 = .ok (.aload_n 0, 1) := dk_42 (dk_at dksJ4_node_0 10 rfl rfl)
theorem dJ4_node_11 : decode cJ4_node 11 = .ok (.getfield 18, 3) := dk_180 0 18 (dk_at dksJ4_node_0 11 rfl rfl)
theorem dJ4_node_14 : decode cJ4_node 14 = .ok (.astore_n 2, 1) := dk_77 (dk_at dksJ4_node_0 14 rfl rfl)
theorem dJ4_node_15 : decode cJ4_node 15 = .ok (.iconst 0, 1) := dk_3 (dk_at dksJ4_node_0 15 rfl rfl)
theorem dJ4_node_16 : decode cJ4_node 16 = .ok (.istore_n 3, 1) := dk_62 (dk_at dksJ4_node_0 16 rfl rfl)
theorem dJ4_node_17 : decode cJ4_node 17 = .ok (.iload_n 3, 1) := dk_29 (dk_at dksJ4_node_0 17 rfl rfl)
theorem dJ4_node_18 : decode cJ4_node 18 = .ok (.iload_n 1, 1) := dk_27 (dk_at dksJ4_node_0 18 rfl rfl)
theorem dJ4_node_19 : decode cJ4_node 19 = .ok (.if_icmp .ge 14, 3) := dk_162 0 14 (dk_at dksJ4_node_0 19 rfl rfl)
theorem dJ4_node_22 : decode cJ4_node 22 = .ok (.aload_n 2, 1) := dk_44 (dk_at dksJ4_node_0 22 rfl rfl)
theorem dJ4_node_23 : decode cJ4_node 23 = .ok (.getfield 36, 3) := dk_180 0 36 (dk_at dksJ4_node_1 0 rfl rfl)
theorem dJ4_node_26 : decode cJ4_node 26 = .ok (.astore_n 2, 1) := dk_77 (dk_at dksJ4_node_1 3 rfl rfl)
theorem dJ4_node_27 : decode cJ4_node 27 = .ok (.iinc 3 1, 3) := dk_132 3 1 (dk_at dksJ4_node_1 4 rfl rfl)
theorem dJ4_node_30 : decode cJ4_node 30 = .ok (.goto (-13), 3) := dk_167 255 243 (dk_at dksJ4_node_1 7 rfl rfl)
theorem dJ4_node_33 : decode cJ4_node 33 = .ok (.aload_n 2, 1) := dk_44 (dk_at dksJ4_node_1 10 rfl rfl)
theorem dJ4_node_34 : decode cJ4_node 34 = .ok (.areturn, 1) := dk_176 (dk_at dksJ4_node_1 11 rfl rfl)
theorem dJ4_node_35 : decode cJ4_node 35 = .ok (.aload_n 0, 1) := dk_42 (dk_at dksJ4_node_1 12 rfl rfl)
theorem dJ4_node_36 : decode cJ4_node 36 = .ok (.getfield 27, 3) := dk_180 0 27 (dk_at dksJ4_node_1 13 rfl rfl)
theorem dJ4_node_39 : decode cJ4_node 39 = .ok (.astore_n 2, 1) := dk_77 (dk_at dksJ4_node_1 16 rfl rfl)
theorem dJ4_node_40 : decode cJ4_node 40 = .ok (.aload_n 0, 1) := dk_42 (dk_at dksJ4_node_1 17 rfl rfl)
theorem dJ4_node_41 : decode cJ4_node 41 = .ok (.getfield 7, 3) := dk_180 0 7 (dk_at dksJ4_node_1 18 rfl rfl)
theorem dJ4_node_44 : decode cJ4_node 44 = .ok (.iconst 1, 1) := dk_4 (dk_at dksJ4_node_1 21 rfl rfl)
theorem dJ4_node_45 : decode cJ4_node 45 = .ok (.isub, 1) := dk_100 (dk_at dksJ4_node_1 22 rfl rfl)
theorem dJ4_node_46 : decode cJ4_node 46 = .ok (.istore_n 3, 1) := dk_62 (dk_at dksJ4_node_1 23 rfl rfl)
theorem dJ4_node_47 : decode cJ4_node 47 = .ok (.iload_n 3, 1) := dk_29 (dk_at dksJ4_node_2 0 rfl rfl)
theorem dJ4_node_48 : decode cJ4_node 48 = .ok (.iload_n 1, 1) := dk_27 (dk_at dksJ4_node_2 1 rfl rfl)
theorem dJ4_node_49 : decode cJ4_node 49 = .ok (.if_icmp .le 14, 3) := dk_164 0 14 (dk_at dksJ4_node_2 2 rfl rfl)
theorem dJ4_node_52 : decode cJ4_node 52 = .ok (.aload_n 2, 1) := dk_44 (dk_at dksJ4_node_2 5 rfl rfl)
theorem dJ4_node_53 : decode cJ4_node 53 = .ok (.getfield 30, 3) := dk_180 0 30 (dk_at dksJ4_node_2 6 rfl rfl)
theorem dJ4_node_56 : decode cJ4_node 56 = .ok (.astore_n 2, 1) := dk_77 (dk_at dksJ4_node_2 9 rfl rfl)
theorem dJ4_node_57 : decode cJ4_node 57 = .ok (.iinc 3 (-1), 3) := dk_132 3 255 (dk_at dksJ4_node_2 10 rfl rfl)
theorem dJ4_node_60 : decode cJ4_node 60 = .ok (.goto (-13), 3) := dk_167 255 243 (dk_at dksJ4_node_2 13 rfl rfl)
theorem dJ4_node_63 : decode cJ4_node 63 = .ok (.aload_n 2, 1) := dk_44 (dk_at dksJ4_node_2 16 rfl rfl)
theorem dJ4_node_64 : decode cJ4_node 64 = .ok (.areturn, 1) := dk_176 (dk_at dksJ4_node_2 17 rfl rfl)
abbrev cJ4_listIterator : ByteArray := prog_62_method_49_code
def yJ4_listIterator : MethodName := ⟨RJ4, "listIterator", "(I)Ljava/util/ListIterator;"⟩
def dkwJ4_listIterator_0 : List UInt8 := [42, 27, 182, 0, 76, 187, 0, 150, 89, 42, 27, 183, 0, 152, 176]
abbrev dktJ4_listIterator_0 : List UInt8 := dkwJ4_listIterator_0 ++ []
theorem dksJ4_listIterator_0 : cJ4_listIterator.data.toList.drop 0 = dktJ4_listIterator_0 := by decide +kernel
theorem dJ4_listIterator_0 : decode cJ4_listIterator 0 = .ok (.aload_n 0, 1) := dk_42 (dk_at dksJ4_listIterator_0 0 rfl rfl)
theorem dJ4_listIterator_1 : decode cJ4_listIterator 1 = .ok (.iload_n 1, 1) := dk_27 (dk_at dksJ4_listIterator_0 1 rfl rfl)
theorem dJ4_listIterator_2 : decode cJ4_listIterator 2 = .ok (.invokevirtual 76, 3) := dk_182 0 76 (dk_at dksJ4_listIterator_0 2 rfl rfl)
theorem dJ4_listIterator_5 : decode cJ4_listIterator 5 = .ok (.new 150, 3) := dk_187 0 150 (dk_at dksJ4_listIterator_0 5 rfl rfl)
theorem dJ4_listIterator_8 : decode cJ4_listIterator 8 = .ok (.dup, 1) := dk_89 (dk_at dksJ4_listIterator_0 8 rfl rfl)
theorem dJ4_listIterator_9 : decode cJ4_listIterator 9 = .ok (.aload_n 0, 1) := dk_42 (dk_at dksJ4_listIterator_0 9 rfl rfl)
theorem dJ4_listIterator_10 : decode cJ4_listIterator 10 = .ok (.iload_n 1, 1) := dk_27 (dk_at dksJ4_listIterator_0 10 rfl rfl)
theorem dJ4_listIterator_11 : decode cJ4_listIterator 11 = .ok (.invokespecial 152, 3) := dk_183 0 152 (dk_at dksJ4_listIterator_0 11 rfl rfl)
theorem dJ4_listIterator_14 : decode cJ4_listIterator 14 = .ok (.areturn, 1) := dk_176 (dk_at dksJ4_listIterator_0 14 rfl rfl)
abbrev cJ4_checkPositionIndex : ByteArray := prog_62_method_30_code
def yJ4_checkPositionIndex : MethodName := ⟨RJ4, "checkPositionIndex", "(I)V"⟩
def dkwJ4_checkPositionIndex_0 : List UInt8 := [42, 27, 182, 0, 128, 154, 0, 16, 187, 0, 119, 89, 42, 27, 182, 0, 121, 183, 0, 125, 191, 177]
abbrev dktJ4_checkPositionIndex_0 : List UInt8 := dkwJ4_checkPositionIndex_0 ++ []
theorem dksJ4_checkPositionIndex_0 : cJ4_checkPositionIndex.data.toList.drop 0 = dktJ4_checkPositionIndex_0 := by decide +kernel
theorem dJ4_checkPositionIndex_0 : decode cJ4_checkPositionIndex 0 = .ok (.aload_n 0, 1) := dk_42 (dk_at dksJ4_checkPositionIndex_0 0 rfl rfl)
theorem dJ4_checkPositionIndex_1 : decode cJ4_checkPositionIndex 1 = .ok (.iload_n 1, 1) := dk_27 (dk_at dksJ4_checkPositionIndex_0 1 rfl rfl)
theorem dJ4_checkPositionIndex_2 : decode cJ4_checkPositionIndex 2 = .ok (.invokevirtual 128, 3) := dk_182 0 128 (dk_at dksJ4_checkPositionIndex_0 2 rfl rfl)
theorem dJ4_checkPositionIndex_5 : decode cJ4_checkPositionIndex 5 = .ok (.ifCond .ne 16, 3) := dk_154 0 16 (dk_at dksJ4_checkPositionIndex_0 5 rfl rfl)
theorem dJ4_checkPositionIndex_8 : decode cJ4_checkPositionIndex 8 = .ok (.new 119, 3) := dk_187 0 119 (dk_at dksJ4_checkPositionIndex_0 8 rfl rfl)
theorem dJ4_checkPositionIndex_11 : decode cJ4_checkPositionIndex 11 = .ok (.dup, 1) := dk_89 (dk_at dksJ4_checkPositionIndex_0 11 rfl rfl)
theorem dJ4_checkPositionIndex_12 : decode cJ4_checkPositionIndex 12 = .ok (.aload_n 0, 1) := dk_42 (dk_at dksJ4_checkPositionIndex_0 12 rfl rfl)
theorem dJ4_checkPositionIndex_13 : decode cJ4_checkPositionIndex 13 = .ok (.iload_n 1, 1) := dk_27 (dk_at dksJ4_checkPositionIndex_0 13 rfl rfl)
theorem dJ4_checkPositionIndex_14 : decode cJ4_checkPositionIndex 14 = .ok (.invokevirtual 121, 3) := dk_182 0 121 (dk_at dksJ4_checkPositionIndex_0 14 rfl rfl)
theorem dJ4_checkPositionIndex_17 : decode cJ4_checkPositionIndex 17 = .ok (.invokespecial 125, 3) := dk_183 0 125 (dk_at dksJ4_checkPositionIndex_0 17 rfl rfl)
theorem dJ4_checkPositionIndex_20 : decode cJ4_checkPositionIndex 20 = .ok (.athrow, 1) := dk_191 (dk_at dksJ4_checkPositionIndex_0 20 rfl rfl)
theorem dJ4_checkPositionIndex_21 : decode cJ4_checkPositionIndex 21 = .ok (.return_, 1) := dk_177 (dk_at dksJ4_checkPositionIndex_0 21 rfl rfl)
abbrev cJ4_isPositionIndex : ByteArray := prog_62_method_27_code
def yJ4_isPositionIndex : MethodName := ⟨RJ4, "isPositionIndex", "(I)Z"⟩
def dkwJ4_isPositionIndex_0 : List UInt8 := [27, 155, 0, 15, 27, 42, 180, 0, 7, 163, 0, 7, 4, 167, 0, 4, 3, 172]
abbrev dktJ4_isPositionIndex_0 : List UInt8 := dkwJ4_isPositionIndex_0 ++ []
theorem dksJ4_isPositionIndex_0 : cJ4_isPositionIndex.data.toList.drop 0 = dktJ4_isPositionIndex_0 := by decide +kernel
theorem dJ4_isPositionIndex_0 : decode cJ4_isPositionIndex 0 = .ok (.iload_n 1, 1) := dk_27 (dk_at dksJ4_isPositionIndex_0 0 rfl rfl)
theorem dJ4_isPositionIndex_1 : decode cJ4_isPositionIndex 1 = .ok (.ifCond .lt 15, 3) := dk_155 0 15 (dk_at dksJ4_isPositionIndex_0 1 rfl rfl)
theorem dJ4_isPositionIndex_4 : decode cJ4_isPositionIndex 4 = .ok (.iload_n 1, 1) := dk_27 (dk_at dksJ4_isPositionIndex_0 4 rfl rfl)
theorem dJ4_isPositionIndex_5 : decode cJ4_isPositionIndex 5 = .ok (.aload_n 0, 1) := dk_42 (dk_at dksJ4_isPositionIndex_0 5 rfl rfl)
theorem dJ4_isPositionIndex_6 : decode cJ4_isPositionIndex 6 = .ok (.getfield 7, 3) := dk_180 0 7 (dk_at dksJ4_isPositionIndex_0 6 rfl rfl)
theorem dJ4_isPositionIndex_9 : decode cJ4_isPositionIndex 9 = .ok (.if_icmp .gt 7, 3) := dk_163 0 7 (dk_at dksJ4_isPositionIndex_0 9 rfl rfl)
theorem dJ4_isPositionIndex_12 : decode cJ4_isPositionIndex 12 = .ok (.iconst 1, 1) := dk_4 (dk_at dksJ4_isPositionIndex_0 12 rfl rfl)
theorem dJ4_isPositionIndex_13 : decode cJ4_isPositionIndex 13 = .ok (.goto 4, 3) := dk_167 0 4 (dk_at dksJ4_isPositionIndex_0 13 rfl rfl)
theorem dJ4_isPositionIndex_16 : decode cJ4_isPositionIndex 16 = .ok (.iconst 0, 1) := dk_3 (dk_at dksJ4_isPositionIndex_0 16 rfl rfl)
theorem dJ4_isPositionIndex_17 : decode cJ4_isPositionIndex 17 = .ok (.ireturn, 1) := dk_172 (dk_at dksJ4_isPositionIndex_0 17 rfl rfl)
abbrev cJ4_add : ByteArray := prog_62_method_17_code
def yJ4_add : MethodName := ⟨RJ4, "add", "(Ljava/lang/Object;)Z"⟩
def dkwJ4_add_0 : List UInt8 := [42, 43, 182, 0, 57, 4, 172]
abbrev dktJ4_add_0 : List UInt8 := dkwJ4_add_0 ++ []
theorem dksJ4_add_0 : cJ4_add.data.toList.drop 0 = dktJ4_add_0 := by decide +kernel
theorem dJ4_add_0 : decode cJ4_add 0 = .ok (.aload_n 0, 1) := dk_42 (dk_at dksJ4_add_0 0 rfl rfl)
theorem dJ4_add_1 : decode cJ4_add 1 = .ok (.aload_n 1, 1) := dk_43 (dk_at dksJ4_add_0 1 rfl rfl)
theorem dJ4_add_2 : decode cJ4_add 2 = .ok (.invokevirtual 57, 3) := dk_182 0 57 (dk_at dksJ4_add_0 2 rfl rfl)
theorem dJ4_add_5 : decode cJ4_add 5 = .ok (.iconst 1, 1) := dk_4 (dk_at dksJ4_add_0 5 rfl rfl)
theorem dJ4_add_6 : decode cJ4_add 6 = .ok (.ireturn, 1) := dk_172 (dk_at dksJ4_add_0 6 rfl rfl)
abbrev cJ4_linkLast : ByteArray := prog_62_method_4_code
def yJ4_linkLast : MethodName := ⟨RJ4, "linkLast", "(Ljava/lang/Object;)V"⟩
def dkwJ4_linkLast_2 : List UInt8 := [181, 0, 7, 42, 89, 180, 0, 33, 4, 96, 181, 0, 33, 177]
abbrev dktJ4_linkLast_2 : List UInt8 := dkwJ4_linkLast_2 ++ []
def dkwJ4_linkLast_1 : List UInt8 := [199, 0, 11, 42, 45, 181, 0, 18, 167, 0, 8, 44, 45, 181, 0, 36, 42, 89, 180, 0, 7, 4, 96]
abbrev dktJ4_linkLast_1 : List UInt8 := dkwJ4_linkLast_1 ++ dktJ4_linkLast_2
def dkwJ4_linkLast_0 : List UInt8 := [42, 180, 0, 27, 77, 187, 0, 22, 89, 44, 43, 1, 183, 0, 24, 78, 42, 45, 181, 0, 27, 44]
abbrev dktJ4_linkLast_0 : List UInt8 := dkwJ4_linkLast_0 ++ dktJ4_linkLast_1
theorem dksJ4_linkLast_0 : cJ4_linkLast.data.toList.drop 0 = dktJ4_linkLast_0 := by decide +kernel
theorem dksJ4_linkLast_1 : cJ4_linkLast.data.toList.drop 22 = dktJ4_linkLast_1 := dk_seg dksJ4_linkLast_0 22 rfl rfl
theorem dksJ4_linkLast_2 : cJ4_linkLast.data.toList.drop 45 = dktJ4_linkLast_2 := dk_seg dksJ4_linkLast_1 23 rfl rfl
theorem dJ4_linkLast_0 : decode cJ4_linkLast 0 = .ok (.aload_n 0, 1) := dk_42 (dk_at dksJ4_linkLast_0 0 rfl rfl)
theorem dJ4_linkLast_1 : decode cJ4_linkLast 1 = .ok (.getfield 27, 3) := dk_180 0 27 (dk_at dksJ4_linkLast_0 1 rfl rfl)
theorem dJ4_linkLast_4 : decode cJ4_linkLast 4 = .ok (.astore_n 2, 1) := dk_77 (dk_at dksJ4_linkLast_0 4 rfl rfl)
theorem dJ4_linkLast_5 : decode cJ4_linkLast 5 = .ok (.new 22, 3) := dk_187 0 22 (dk_at dksJ4_linkLast_0 5 rfl rfl)
theorem dJ4_linkLast_8 : decode cJ4_linkLast 8 = .ok (.dup, 1) := dk_89 (dk_at dksJ4_linkLast_0 8 rfl rfl)
theorem dJ4_linkLast_9 : decode cJ4_linkLast 9 = .ok (.aload_n 2, 1) := dk_44 (dk_at dksJ4_linkLast_0 9 rfl rfl)
theorem dJ4_linkLast_10 : decode cJ4_linkLast 10 = .ok (.aload_n 1, 1) := dk_43 (dk_at dksJ4_linkLast_0 10 rfl rfl)
theorem dJ4_linkLast_11 : decode cJ4_linkLast 11 = .ok (.aconst_null, 1) := dk_1 (dk_at dksJ4_linkLast_0 11 rfl rfl)
theorem dJ4_linkLast_12 : decode cJ4_linkLast 12 = .ok (.invokespecial 24, 3) := dk_183 0 24 (dk_at dksJ4_linkLast_0 12 rfl rfl)
theorem dJ4_linkLast_15 : decode cJ4_linkLast 15 = .ok (.astore_n 3, 1) := dk_78 (dk_at dksJ4_linkLast_0 15 rfl rfl)
theorem dJ4_linkLast_16 : decode cJ4_linkLast 16 = .ok (.aload_n 0, 1) := dk_42 (dk_at dksJ4_linkLast_0 16 rfl rfl)
theorem dJ4_linkLast_17 : decode cJ4_linkLast 17 = .ok (.aload_n 3, 1) := dk_45 (dk_at dksJ4_linkLast_0 17 rfl rfl)
theorem dJ4_linkLast_18 : decode cJ4_linkLast 18 = .ok (.putfield 27, 3) := dk_181 0 27 (dk_at dksJ4_linkLast_0 18 rfl rfl)
theorem dJ4_linkLast_21 : decode cJ4_linkLast 21 = .ok (.aload_n 2, 1) := dk_44 (dk_at dksJ4_linkLast_0 21 rfl rfl)
theorem dJ4_linkLast_22 : decode cJ4_linkLast 22 = .ok (.ifnonnull 11, 3) := dk_199 0 11 (dk_at dksJ4_linkLast_1 0 rfl rfl)
theorem dJ4_linkLast_25 : decode cJ4_linkLast 25 = .ok (.aload_n 0, 1) := dk_42 (dk_at dksJ4_linkLast_1 3 rfl rfl)
theorem dJ4_linkLast_26 : decode cJ4_linkLast 26 = .ok (.aload_n 3, 1) := dk_45 (dk_at dksJ4_linkLast_1 4 rfl rfl)
theorem dJ4_linkLast_27 : decode cJ4_linkLast 27 = .ok (.putfield 18, 3) := dk_181 0 18 (dk_at dksJ4_linkLast_1 5 rfl rfl)
theorem dJ4_linkLast_30 : decode cJ4_linkLast 30 = .ok (.goto 8, 3) := dk_167 0 8 (dk_at dksJ4_linkLast_1 8 rfl rfl)
theorem dJ4_linkLast_33 : decode cJ4_linkLast 33 = .ok (.aload_n 2, 1) := dk_44 (dk_at dksJ4_linkLast_1 11 rfl rfl)
theorem dJ4_linkLast_34 : decode cJ4_linkLast 34 = .ok (.aload_n 3, 1) := dk_45 (dk_at dksJ4_linkLast_1 12 rfl rfl)
theorem dJ4_linkLast_35 : decode cJ4_linkLast 35 = .ok (.putfield 36, 3) := dk_181 0 36 (dk_at dksJ4_linkLast_1 13 rfl rfl)
theorem dJ4_linkLast_38 : decode cJ4_linkLast 38 = .ok (.aload_n 0, 1) := dk_42 (dk_at dksJ4_linkLast_1 16 rfl rfl)
theorem dJ4_linkLast_39 : decode cJ4_linkLast 39 = .ok (.dup, 1) := dk_89 (dk_at dksJ4_linkLast_1 17 rfl rfl)
theorem dJ4_linkLast_40 : decode cJ4_linkLast 40 = .ok (.getfield 7, 3) := dk_180 0 7 (dk_at dksJ4_linkLast_1 18 rfl rfl)
theorem dJ4_linkLast_43 : decode cJ4_linkLast 43 = .ok (.iconst 1, 1) := dk_4 (dk_at dksJ4_linkLast_1 21 rfl rfl)
theorem dJ4_linkLast_44 : decode cJ4_linkLast 44 = .ok (.iadd, 1) := dk_96 (dk_at dksJ4_linkLast_1 22 rfl rfl)
theorem dJ4_linkLast_45 : decode cJ4_linkLast 45 = .ok (.putfield 7, 3) := dk_181 0 7 (dk_at dksJ4_linkLast_2 0 rfl rfl)
theorem dJ4_linkLast_48 : decode cJ4_linkLast 48 = .ok (.aload_n 0, 1) := dk_42 (dk_at dksJ4_linkLast_2 3 rfl rfl)
theorem dJ4_linkLast_49 : decode cJ4_linkLast 49 = .ok (.dup, 1) := dk_89 (dk_at dksJ4_linkLast_2 4 rfl rfl)
theorem dJ4_linkLast_50 : decode cJ4_linkLast 50 = .ok (.getfield 33, 3) := dk_180 0 33 (dk_at dksJ4_linkLast_2 5 rfl rfl)
theorem dJ4_linkLast_53 : decode cJ4_linkLast 53 = .ok (.iconst 1, 1) := dk_4 (dk_at dksJ4_linkLast_2 8 rfl rfl)
theorem dJ4_linkLast_54 : decode cJ4_linkLast 54 = .ok (.iadd, 1) := dk_96 (dk_at dksJ4_linkLast_2 9 rfl rfl)
theorem dJ4_linkLast_55 : decode cJ4_linkLast 55 = .ok (.putfield 33, 3) := dk_181 0 33 (dk_at dksJ4_linkLast_2 10 rfl rfl)
theorem dJ4_linkLast_58 : decode cJ4_linkLast 58 = .ok (.return_, 1) := dk_177 (dk_at dksJ4_linkLast_2 13 rfl rfl)
abbrev cJ4_remove : ByteArray := prog_62_method_25_code
def yJ4_remove : MethodName := ⟨RJ4, "remove", "(I)Ljava/lang/Object;"⟩
def dkwJ4_remove_0 : List UInt8 := [42, 27, 182, 0, 90, 42, 42, 27, 182, 0, 86, 182, 0, 64, 176]
abbrev dktJ4_remove_0 : List UInt8 := dkwJ4_remove_0 ++ []
theorem dksJ4_remove_0 : cJ4_remove.data.toList.drop 0 = dktJ4_remove_0 := by decide +kernel
theorem dJ4_remove_0 : decode cJ4_remove 0 = .ok (.aload_n 0, 1) := dk_42 (dk_at dksJ4_remove_0 0 rfl rfl)
theorem dJ4_remove_1 : decode cJ4_remove 1 = .ok (.iload_n 1, 1) := dk_27 (dk_at dksJ4_remove_0 1 rfl rfl)
theorem dJ4_remove_2 : decode cJ4_remove 2 = .ok (.invokevirtual 90, 3) := dk_182 0 90 (dk_at dksJ4_remove_0 2 rfl rfl)
theorem dJ4_remove_5 : decode cJ4_remove 5 = .ok (.aload_n 0, 1) := dk_42 (dk_at dksJ4_remove_0 5 rfl rfl)
theorem dJ4_remove_6 : decode cJ4_remove 6 = .ok (.aload_n 0, 1) := dk_42 (dk_at dksJ4_remove_0 6 rfl rfl)
theorem dJ4_remove_7 : decode cJ4_remove 7 = .ok (.iload_n 1, 1) := dk_27 (dk_at dksJ4_remove_0 7 rfl rfl)
theorem dJ4_remove_8 : decode cJ4_remove 8 = .ok (.invokevirtual 86, 3) := dk_182 0 86 (dk_at dksJ4_remove_0 8 rfl rfl)
theorem dJ4_remove_11 : decode cJ4_remove 11 = .ok (.invokevirtual 64, 3) := dk_182 0 64 (dk_at dksJ4_remove_0 11 rfl rfl)
theorem dJ4_remove_14 : decode cJ4_remove 14 = .ok (.areturn, 1) := dk_176 (dk_at dksJ4_remove_0 14 rfl rfl)
abbrev cJ4_unlink : ByteArray := prog_62_method_8_code
def yJ4_unlink : MethodName := ⟨RJ4, "unlink", "(Ljava/util/LinkedList$Node;)Ljava/lang/Object;"⟩
def dkwJ4_unlink_3 : List UInt8 := [180, 0, 7, 4, 100, 181, 0, 7, 42, 89, 180, 0, 33, 4, 96, 181, 0, 33, 44, 176]
abbrev dktJ4_unlink_3 : List UInt8 := dkwJ4_unlink_3 ++ []
def dkwJ4_unlink_2 : List UInt8 := [181, 0, 27, 167, 0, 14, 45, 25, 4, 181, 0, 30, 43, 1, 181, 0, 36, 43, 1, 181, 0, 39, 42, 89]
abbrev dktJ4_unlink_2 : List UInt8 := dkwJ4_unlink_2 ++ dktJ4_unlink_3
def dkwJ4_unlink_1 : List UInt8 := [181, 0, 18, 167, 0, 14, 25, 4, 45, 181, 0, 36, 43, 1, 181, 0, 30, 45, 199, 0, 12, 42, 25, 4]
abbrev dktJ4_unlink_1 : List UInt8 := dkwJ4_unlink_1 ++ dktJ4_unlink_2
def dkwJ4_unlink_0 : List UInt8 := [43, 180, 0, 39, 77, 43, 180, 0, 36, 78, 43, 180, 0, 30, 58, 4, 25, 4, 199, 0, 11, 42, 45]
abbrev dktJ4_unlink_0 : List UInt8 := dkwJ4_unlink_0 ++ dktJ4_unlink_1
theorem dksJ4_unlink_0 : cJ4_unlink.data.toList.drop 0 = dktJ4_unlink_0 := by decide +kernel
theorem dksJ4_unlink_1 : cJ4_unlink.data.toList.drop 23 = dktJ4_unlink_1 := dk_seg dksJ4_unlink_0 23 rfl rfl
theorem dksJ4_unlink_2 : cJ4_unlink.data.toList.drop 47 = dktJ4_unlink_2 := dk_seg dksJ4_unlink_1 24 rfl rfl
theorem dksJ4_unlink_3 : cJ4_unlink.data.toList.drop 71 = dktJ4_unlink_3 := dk_seg dksJ4_unlink_2 24 rfl rfl
theorem dJ4_unlink_0 : decode cJ4_unlink 0 = .ok (.aload_n 1, 1) := dk_43 (dk_at dksJ4_unlink_0 0 rfl rfl)
theorem dJ4_unlink_1 : decode cJ4_unlink 1 = .ok (.getfield 39, 3) := dk_180 0 39 (dk_at dksJ4_unlink_0 1 rfl rfl)
theorem dJ4_unlink_4 : decode cJ4_unlink 4 = .ok (.astore_n 2, 1) := dk_77 (dk_at dksJ4_unlink_0 4 rfl rfl)
theorem dJ4_unlink_5 : decode cJ4_unlink 5 = .ok (.aload_n 1, 1) := dk_43 (dk_at dksJ4_unlink_0 5 rfl rfl)
theorem dJ4_unlink_6 : decode cJ4_unlink 6 = .ok (.getfield 36, 3) := dk_180 0 36 (dk_at dksJ4_unlink_0 6 rfl rfl)
theorem dJ4_unlink_9 : decode cJ4_unlink 9 = .ok (.astore_n 3, 1) := dk_78 (dk_at dksJ4_unlink_0 9 rfl rfl)
theorem dJ4_unlink_10 : decode cJ4_unlink 10 = .ok (.aload_n 1, 1) := dk_43 (dk_at dksJ4_unlink_0 10 rfl rfl)
theorem dJ4_unlink_11 : decode cJ4_unlink 11 = .ok (.getfield 30, 3) := dk_180 0 30 (dk_at dksJ4_unlink_0 11 rfl rfl)
theorem dJ4_unlink_14 : decode cJ4_unlink 14 = .ok (.astore 4, 2) := dk_58 4 (dk_at dksJ4_unlink_0 14 rfl rfl)
theorem dJ4_unlink_16 : decode cJ4_unlink 16 = .ok (.aload 4, 2) := dk_25 4 (dk_at dksJ4_unlink_0 16 rfl rfl)
theorem dJ4_unlink_18 : decode cJ4_unlink 18 = .ok (.ifnonnull 11, 3) := dk_199 0 11 (dk_at dksJ4_unlink_0 18 rfl rfl)
theorem dJ4_unlink_21 : decode cJ4_unlink 21 = .ok (.aload_n 0, 1) := dk_42 (dk_at dksJ4_unlink_0 21 rfl rfl)
theorem dJ4_unlink_22 : decode cJ4_unlink 22 = .ok (.aload_n 3, 1) := dk_45 (dk_at dksJ4_unlink_0 22 rfl rfl)
theorem dJ4_unlink_23 : decode cJ4_unlink 23 = .ok (.putfield 18, 3) := dk_181 0 18 (dk_at dksJ4_unlink_1 0 rfl rfl)
theorem dJ4_unlink_26 : decode cJ4_unlink 26 = .ok (.goto 14, 3) := dk_167 0 14 (dk_at dksJ4_unlink_1 3 rfl rfl)
theorem dJ4_unlink_29 : decode cJ4_unlink 29 = .ok (.aload 4, 2) := dk_25 4 (dk_at dksJ4_unlink_1 6 rfl rfl)
theorem dJ4_unlink_31 : decode cJ4_unlink 31 = .ok (.aload_n 3, 1) := dk_45 (dk_at dksJ4_unlink_1 8 rfl rfl)
theorem dJ4_unlink_32 : decode cJ4_unlink 32 = .ok (.putfield 36, 3) := dk_181 0 36 (dk_at dksJ4_unlink_1 9 rfl rfl)
theorem dJ4_unlink_35 : decode cJ4_unlink 35 = .ok (.aload_n 1, 1) := dk_43 (dk_at dksJ4_unlink_1 12 rfl rfl)
theorem dJ4_unlink_36 : decode cJ4_unlink 36 = .ok (.aconst_null, 1) := dk_1 (dk_at dksJ4_unlink_1 13 rfl rfl)
theorem dJ4_unlink_37 : decode cJ4_unlink 37 = .ok (.putfield 30, 3) := dk_181 0 30 (dk_at dksJ4_unlink_1 14 rfl rfl)
theorem dJ4_unlink_40 : decode cJ4_unlink 40 = .ok (.aload_n 3, 1) := dk_45 (dk_at dksJ4_unlink_1 17 rfl rfl)
theorem dJ4_unlink_41 : decode cJ4_unlink 41 = .ok (.ifnonnull 12, 3) := dk_199 0 12 (dk_at dksJ4_unlink_1 18 rfl rfl)
theorem dJ4_unlink_44 : decode cJ4_unlink 44 = .ok (.aload_n 0, 1) := dk_42 (dk_at dksJ4_unlink_1 21 rfl rfl)
theorem dJ4_unlink_45 : decode cJ4_unlink 45 = .ok (.aload 4, 2) := dk_25 4 (dk_at dksJ4_unlink_1 22 rfl rfl)
theorem dJ4_unlink_47 : decode cJ4_unlink 47 = .ok (.putfield 27, 3) := dk_181 0 27 (dk_at dksJ4_unlink_2 0 rfl rfl)
theorem dJ4_unlink_50 : decode cJ4_unlink 50 = .ok (.goto 14, 3) := dk_167 0 14 (dk_at dksJ4_unlink_2 3 rfl rfl)
theorem dJ4_unlink_53 : decode cJ4_unlink 53 = .ok (.aload_n 3, 1) := dk_45 (dk_at dksJ4_unlink_2 6 rfl rfl)
theorem dJ4_unlink_54 : decode cJ4_unlink 54 = .ok (.aload 4, 2) := dk_25 4 (dk_at dksJ4_unlink_2 7 rfl rfl)
theorem dJ4_unlink_56 : decode cJ4_unlink 56 = .ok (.putfield 30, 3) := dk_181 0 30 (dk_at dksJ4_unlink_2 9 rfl rfl)
theorem dJ4_unlink_59 : decode cJ4_unlink 59 = .ok (.aload_n 1, 1) := dk_43 (dk_at dksJ4_unlink_2 12 rfl rfl)
theorem dJ4_unlink_60 : decode cJ4_unlink 60 = .ok (.aconst_null, 1) := dk_1 (dk_at dksJ4_unlink_2 13 rfl rfl)
theorem dJ4_unlink_61 : decode cJ4_unlink 61 = .ok (.putfield 36, 3) := dk_181 0 36 (dk_at dksJ4_unlink_2 14 rfl rfl)
theorem dJ4_unlink_64 : decode cJ4_unlink 64 = .ok (.aload_n 1, 1) := dk_43 (dk_at dksJ4_unlink_2 17 rfl rfl)
theorem dJ4_unlink_65 : decode cJ4_unlink 65 = .ok (.aconst_null, 1) := dk_1 (dk_at dksJ4_unlink_2 18 rfl rfl)
theorem dJ4_unlink_66 : decode cJ4_unlink 66 = .ok (.putfield 39, 3) := dk_181 0 39 (dk_at dksJ4_unlink_2 19 rfl rfl)
theorem dJ4_unlink_69 : decode cJ4_unlink 69 = .ok (.aload_n 0, 1) := dk_42 (dk_at dksJ4_unlink_2 22 rfl rfl)
theorem dJ4_unlink_70 : decode cJ4_unlink 70 = .ok (.dup, 1) := dk_89 (dk_at dksJ4_unlink_2 23 rfl rfl)
theorem dJ4_unlink_71 : decode cJ4_unlink 71 = .ok (.getfield 7, 3) := dk_180 0 7 (dk_at dksJ4_unlink_3 0 rfl rfl)
theorem dJ4_unlink_74 : decode cJ4_unlink 74 = .ok (.iconst 1, 1) := dk_4 (dk_at dksJ4_unlink_3 3 rfl rfl)
theorem dJ4_unlink_75 : decode cJ4_unlink 75 = .ok (.isub, 1) := dk_100 (dk_at dksJ4_unlink_3 4 rfl rfl)
theorem dJ4_unlink_76 : decode cJ4_unlink 76 = .ok (.putfield 7, 3) := dk_181 0 7 (dk_at dksJ4_unlink_3 5 rfl rfl)
theorem dJ4_unlink_79 : decode cJ4_unlink 79 = .ok (.aload_n 0, 1) := dk_42 (dk_at dksJ4_unlink_3 8 rfl rfl)
theorem dJ4_unlink_80 : decode cJ4_unlink 80 = .ok (.dup, 1) := dk_89 (dk_at dksJ4_unlink_3 9 rfl rfl)
theorem dJ4_unlink_81 : decode cJ4_unlink 81 = .ok (.getfield 33, 3) := dk_180 0 33 (dk_at dksJ4_unlink_3 10 rfl rfl)
theorem dJ4_unlink_84 : decode cJ4_unlink 84 = .ok (.iconst 1, 1) := dk_4 (dk_at dksJ4_unlink_3 13 rfl rfl)
theorem dJ4_unlink_85 : decode cJ4_unlink 85 = .ok (.iadd, 1) := dk_96 (dk_at dksJ4_unlink_3 14 rfl rfl)
theorem dJ4_unlink_86 : decode cJ4_unlink 86 = .ok (.putfield 33, 3) := dk_181 0 33 (dk_at dksJ4_unlink_3 15 rfl rfl)
theorem dJ4_unlink_89 : decode cJ4_unlink 89 = .ok (.aload_n 2, 1) := dk_44 (dk_at dksJ4_unlink_3 18 rfl rfl)
theorem dJ4_unlink_90 : decode cJ4_unlink 90 = .ok (.areturn, 1) := dk_176 (dk_at dksJ4_unlink_3 19 rfl rfl)
theorem q103 : (Jvm.Cond.initialized "java/util/LinkedList") ∈ lw_all := lw_g (lw_at lw_m1 8 rfl) rfl
theorem q188 : (Jvm.Cond.sameField "java/util/LinkedList" "java/util/AbstractList" "modCount" "I") ∈ lw_all := lw_g (lw_at lw_m1 93 rfl) rfl
theorem q192 : (Jvm.Cond.fieldLink "java/util/LinkedList" (33 : Nat) "java/util/LinkedList" "modCount" "I") ∈ lw_all := lw_g (lw_at lw_m1 97 rfl) rfl
theorem q249 : (Jvm.Cond.instantiable "java/util/LinkedList" (4 : Nat)) ∈ lw_all := lw_g (lw_at lw_m1 154 rfl) rfl
theorem q251 : (Jvm.Cond.instanceMethod ({ cls := "java/util/LinkedList", name := "<init>", desc := "()V" } : Jvm.MethodName)) ∈ lw_all := lw_g (lw_at lw_m1 156 rfl) rfl
theorem q252 : (Jvm.Cond.code ({ cls := "java/util/LinkedList", name := "<init>", desc := "()V" } : Jvm.MethodName) prog_62_method_1_code (1 : Nat) (Option.none : Option Jvm.ClassFile.FieldType)) ∈ lw_all := lw_g (lw_at lw_m1 157 rfl) rfl
theorem q253 : (Jvm.Cond.methodLink "java/util/LinkedList" (1 : Nat) ({ cls := "java/util/AbstractSequentialList", name := "<init>", desc := "()V" } : Jvm.MethodName)) ∈ lw_all := lw_g (lw_at lw_m1 158 rfl) rfl
theorem q257 : (Jvm.Cond.fieldLink "java/util/LinkedList" (7 : Nat) "java/util/LinkedList" "size" "I") ∈ lw_all := lw_g (lw_at lw_m1 162 rfl) rfl
theorem q259 : (Jvm.Cond.fieldLink "java/util/LinkedList" (18 : Nat) "java/util/LinkedList" "first" "Ljava/util/LinkedList$Node;") ∈ lw_all := lw_g (lw_at lw_m1 164 rfl) rfl
theorem q260 : (Jvm.Cond.fieldLink "java/util/LinkedList" (27 : Nat) "java/util/LinkedList" "last" "Ljava/util/LinkedList$Node;") ∈ lw_all := lw_g (lw_at lw_m1 165 rfl) rfl
theorem q261 : (Jvm.Cond.lays "java/util/LinkedList" "java/util/LinkedList" "size" "I") ∈ lw_all := lw_g (lw_at lw_m1 166 rfl) rfl
theorem q262 : (Jvm.Cond.soleField "java/util/LinkedList" "size") ∈ lw_all := lw_g (lw_at lw_m1 167 rfl) rfl
theorem q263 : (Jvm.Cond.lays "java/util/LinkedList" "java/util/LinkedList" "first" "Ljava/util/LinkedList$Node;") ∈ lw_all := lw_g (lw_at lw_m1 168 rfl) rfl
theorem q264 : (Jvm.Cond.soleField "java/util/LinkedList" "first") ∈ lw_all := lw_g (lw_at lw_m1 169 rfl) rfl
theorem q265 : (Jvm.Cond.lays "java/util/LinkedList" "java/util/LinkedList" "last" "Ljava/util/LinkedList$Node;") ∈ lw_all := lw_g (lw_at lw_m1 170 rfl) rfl
theorem q266 : (Jvm.Cond.soleField "java/util/LinkedList" "last") ∈ lw_all := lw_g (lw_at lw_m1 171 rfl) rfl
theorem q267 : (Jvm.Cond.lays "java/util/LinkedList" "java/util/AbstractList" "modCount" "I") ∈ lw_all := lw_g (lw_at lw_m1 172 rfl) rfl
theorem q268 : (Jvm.Cond.superclass "java/util/LinkedList" "java/util/AbstractSequentialList") ∈ lw_all := lw_g (lw_at lw_m1 173 rfl) rfl
theorem q476 : (Jvm.Cond.selects "java/util/LinkedList" ({ cls := "java/lang/Object", name := "getClass", desc := "()Ljava/lang/Class;" } : Jvm.MethodName) ({ cls := "java/lang/Object", name := "getClass", desc := "()Ljava/lang/Class;" } : Jvm.MethodName)) ∈ lw_all := lw_g (lw_at lw_m2 141 rfl) rfl
theorem q874 : (Jvm.Cond.castable "java/util/LinkedList" "java/util/List") ∈ lw_tbl := lw_at lw_m4 59 rfl
theorem q875 : (Jvm.Cond.selects "java/util/LinkedList" ({ cls := "java/util/List", name := "size", desc := "()I" } : Jvm.MethodName) ({ cls := "java/util/LinkedList", name := "size", desc := "()I" } : Jvm.MethodName)) ∈ lw_all := lw_g (lw_at lw_m4 60 rfl) rfl
theorem q876 : (Jvm.Cond.unhidden "java/util/LinkedList" "size" "()I") ∈ lw_tbl := lw_at lw_m4 61 rfl
theorem q877 : (Jvm.Cond.instanceMethod ({ cls := "java/util/LinkedList", name := "size", desc := "()I" } : Jvm.MethodName)) ∈ lw_all := lw_g (lw_at lw_m4 62 rfl) rfl
theorem q878 : (Jvm.Cond.publicMethod ({ cls := "java/util/LinkedList", name := "size", desc := "()I" } : Jvm.MethodName)) ∈ lw_tbl := lw_at lw_m4 63 rfl
theorem q879 : (Jvm.Cond.code ({ cls := "java/util/LinkedList", name := "size", desc := "()I" } : Jvm.MethodName) prog_62_method_16_code (1 : Nat) (Option.some Jvm.ClassFile.FieldType.int)) ∈ lw_all := lw_g (lw_at lw_m4 64 rfl) rfl
theorem q1021 : (Jvm.Cond.selects "java/util/LinkedList" ({ cls := "java/util/List", name := "get", desc := "(I)Ljava/lang/Object;" } : Jvm.MethodName) ({ cls := "java/util/LinkedList", name := "get", desc := "(I)Ljava/lang/Object;" } : Jvm.MethodName)) ∈ lw_all := lw_g (lw_at lw_m4 206 rfl) rfl
theorem q1022 : (Jvm.Cond.unhidden "java/util/LinkedList" "get" "(I)Ljava/lang/Object;") ∈ lw_tbl := lw_at lw_m4 207 rfl
theorem q1023 : (Jvm.Cond.instanceMethod ({ cls := "java/util/LinkedList", name := "get", desc := "(I)Ljava/lang/Object;" } : Jvm.MethodName)) ∈ lw_all := lw_g (lw_at lw_m4 208 rfl) rfl
theorem q1024 : (Jvm.Cond.publicMethod ({ cls := "java/util/LinkedList", name := "get", desc := "(I)Ljava/lang/Object;" } : Jvm.MethodName)) ∈ lw_tbl := lw_at lw_m4 209 rfl
theorem q1025 : (Jvm.Cond.code ({ cls := "java/util/LinkedList", name := "get", desc := "(I)Ljava/lang/Object;" } : Jvm.MethodName) prog_62_method_22_code (2 : Nat) (Option.some (Jvm.ClassFile.FieldType.object "java/lang/Object"))) ∈ lw_all := lw_g (lw_at lw_m4 210 rfl) rfl
theorem q1026 : (Jvm.Cond.methodLink "java/util/LinkedList" (90 : Nat) ({ cls := "java/util/LinkedList", name := "checkElementIndex", desc := "(I)V" } : Jvm.MethodName)) ∈ lw_all := lw_g (lw_at lw_m4 211 rfl) rfl
theorem q1027 : (Jvm.Cond.privateMethod ({ cls := "java/util/LinkedList", name := "checkElementIndex", desc := "(I)V" } : Jvm.MethodName)) ∈ lw_tbl := lw_at lw_m4 212 rfl
theorem q1028 : (Jvm.Cond.instanceMethod ({ cls := "java/util/LinkedList", name := "checkElementIndex", desc := "(I)V" } : Jvm.MethodName)) ∈ lw_all := lw_g (lw_at lw_m4 213 rfl) rfl
theorem q1029 : (Jvm.Cond.code ({ cls := "java/util/LinkedList", name := "checkElementIndex", desc := "(I)V" } : Jvm.MethodName) prog_62_method_29_code (2 : Nat) (Option.none : Option Jvm.ClassFile.FieldType)) ∈ lw_all := lw_g (lw_at lw_m4 214 rfl) rfl
theorem q1030 : (Jvm.Cond.methodLink "java/util/LinkedList" (115 : Nat) ({ cls := "java/util/LinkedList", name := "isElementIndex", desc := "(I)Z" } : Jvm.MethodName)) ∈ lw_all := lw_g (lw_at lw_m4 215 rfl) rfl
theorem q1031 : (Jvm.Cond.privateMethod ({ cls := "java/util/LinkedList", name := "isElementIndex", desc := "(I)Z" } : Jvm.MethodName)) ∈ lw_tbl := lw_at lw_m4 216 rfl
theorem q1032 : (Jvm.Cond.instanceMethod ({ cls := "java/util/LinkedList", name := "isElementIndex", desc := "(I)Z" } : Jvm.MethodName)) ∈ lw_all := lw_g (lw_at lw_m4 217 rfl) rfl
theorem q1033 : (Jvm.Cond.code ({ cls := "java/util/LinkedList", name := "isElementIndex", desc := "(I)Z" } : Jvm.MethodName) prog_62_method_26_code (2 : Nat) (Option.some Jvm.ClassFile.FieldType.boolean)) ∈ lw_all := lw_g (lw_at lw_m4 218 rfl) rfl
theorem q1034 : (Jvm.Cond.classLink "java/util/LinkedList" (119 : Nat) "java/lang/IndexOutOfBoundsException") ∈ lw_all := lw_g (lw_at lw_m4 219 rfl) rfl
theorem q1035 : (Jvm.Cond.methodLink "java/util/LinkedList" (121 : Nat) ({ cls := "java/util/LinkedList", name := "outOfBoundsMsg", desc := "(I)Ljava/lang/String;" } : Jvm.MethodName)) ∈ lw_all := lw_g (lw_at lw_m4 220 rfl) rfl
theorem q1036 : (Jvm.Cond.privateMethod ({ cls := "java/util/LinkedList", name := "outOfBoundsMsg", desc := "(I)Ljava/lang/String;" } : Jvm.MethodName)) ∈ lw_tbl := lw_at lw_m4 221 rfl
theorem q1037 : (Jvm.Cond.instanceMethod ({ cls := "java/util/LinkedList", name := "outOfBoundsMsg", desc := "(I)Ljava/lang/String;" } : Jvm.MethodName)) ∈ lw_all := lw_g (lw_at lw_m4 222 rfl) rfl
theorem q1038 : (Jvm.Cond.code ({ cls := "java/util/LinkedList", name := "outOfBoundsMsg", desc := "(I)Ljava/lang/String;" } : Jvm.MethodName) prog_62_method_28_code (2 : Nat) (Option.some (Jvm.ClassFile.FieldType.object "java/lang/String"))) ∈ lw_all := lw_g (lw_at lw_m4 223 rfl) rfl
theorem q1039 : (Jvm.Cond.classLink "java/util/LinkedList" (97 : Nat) "java/lang/StringBuilder") ∈ lw_all := lw_g (lw_at lw_m4 224 rfl) rfl
theorem q1040 : (Jvm.Cond.methodLink "java/util/LinkedList" (99 : Nat) ({ cls := "java/lang/StringBuilder", name := "<init>", desc := "()V" } : Jvm.MethodName)) ∈ lw_all := lw_g (lw_at lw_m4 225 rfl) rfl
theorem q1041 : (Jvm.Cond.stringRef "java/util/LinkedList" (100 : Nat) "Index: ") ∈ lw_tbl := lw_at lw_m4 226 rfl
theorem q1042 : (Jvm.Cond.methodLink "java/util/LinkedList" (102 : Nat) ({ cls := "java/lang/StringBuilder", name := "append", desc := "(Ljava/lang/String;)Ljava/lang/StringBuilder;" } : Jvm.MethodName)) ∈ lw_all := lw_g (lw_at lw_m4 227 rfl) rfl
theorem q1043 : (Jvm.Cond.methodLink "java/util/LinkedList" (106 : Nat) ({ cls := "java/lang/StringBuilder", name := "append", desc := "(I)Ljava/lang/StringBuilder;" } : Jvm.MethodName)) ∈ lw_all := lw_g (lw_at lw_m4 228 rfl) rfl
theorem q1044 : (Jvm.Cond.stringRef "java/util/LinkedList" (109 : Nat) ", Size: ") ∈ lw_tbl := lw_at lw_m4 229 rfl
theorem q1045 : (Jvm.Cond.methodLink "java/util/LinkedList" (111 : Nat) ({ cls := "java/lang/StringBuilder", name := "toString", desc := "()Ljava/lang/String;" } : Jvm.MethodName)) ∈ lw_all := lw_g (lw_at lw_m4 230 rfl) rfl
theorem q1046 : (Jvm.Cond.methodLink "java/util/LinkedList" (125 : Nat) ({ cls := "java/lang/IndexOutOfBoundsException", name := "<init>", desc := "(Ljava/lang/String;)V" } : Jvm.MethodName)) ∈ lw_all := lw_g (lw_at lw_m4 231 rfl) rfl
theorem q1047 : (Jvm.Cond.methodLink "java/util/LinkedList" (86 : Nat) ({ cls := "java/util/LinkedList", name := "node", desc := "(I)Ljava/util/LinkedList$Node;" } : Jvm.MethodName)) ∈ lw_all := lw_g (lw_at lw_m4 232 rfl) rfl
theorem q1048 : (Jvm.Cond.instanceMethod ({ cls := "java/util/LinkedList", name := "node", desc := "(I)Ljava/util/LinkedList$Node;" } : Jvm.MethodName)) ∈ lw_all := lw_g (lw_at lw_m4 233 rfl) rfl
theorem q1049 : (Jvm.Cond.selects "java/util/LinkedList" ({ cls := "java/util/LinkedList", name := "node", desc := "(I)Ljava/util/LinkedList$Node;" } : Jvm.MethodName) ({ cls := "java/util/LinkedList", name := "node", desc := "(I)Ljava/util/LinkedList$Node;" } : Jvm.MethodName)) ∈ lw_all := lw_g (lw_at lw_m4 234 rfl) rfl
theorem q1050 : (Jvm.Cond.code ({ cls := "java/util/LinkedList", name := "node", desc := "(I)Ljava/util/LinkedList$Node;" } : Jvm.MethodName) prog_62_method_31_code (4 : Nat) (Option.some (Jvm.ClassFile.FieldType.object "java/util/LinkedList$Node"))) ∈ lw_all := lw_g (lw_at lw_m4 235 rfl) rfl
theorem q1508 : (Jvm.Cond.sameMethod "java/util/LinkedList" "java/util/AbstractSequentialList" "iterator" "()Ljava/util/Iterator;") ∈ lw_all := lw_g (lw_at lw_m6 213 rfl) rfl
theorem q1510 : (Jvm.Cond.selects "java/util/LinkedList" ({ cls := "java/util/LinkedList", name := "iterator", desc := "()Ljava/util/Iterator;" } : Jvm.MethodName) ({ cls := "java/util/AbstractSequentialList", name := "iterator", desc := "()Ljava/util/Iterator;" } : Jvm.MethodName)) ∈ lw_all := lw_g (lw_at lw_m6 215 rfl) rfl
theorem q1516 : (Jvm.Cond.selects "java/util/LinkedList" ({ cls := "java/util/AbstractSequentialList", name := "listIterator", desc := "()Ljava/util/ListIterator;" } : Jvm.MethodName) ({ cls := "java/util/AbstractList", name := "listIterator", desc := "()Ljava/util/ListIterator;" } : Jvm.MethodName)) ∈ lw_all := lw_g (lw_at lw_m6 221 rfl) rfl
theorem q1569 : (Jvm.Cond.selects "java/util/LinkedList" ({ cls := "java/util/AbstractList", name := "listIterator", desc := "(I)Ljava/util/ListIterator;" } : Jvm.MethodName) ({ cls := "java/util/LinkedList", name := "listIterator", desc := "(I)Ljava/util/ListIterator;" } : Jvm.MethodName)) ∈ lw_all := lw_g (lw_at lw_m7 34 rfl) rfl
theorem q1570 : (Jvm.Cond.instanceMethod ({ cls := "java/util/LinkedList", name := "listIterator", desc := "(I)Ljava/util/ListIterator;" } : Jvm.MethodName)) ∈ lw_all := lw_g (lw_at lw_m7 35 rfl) rfl
theorem q1571 : (Jvm.Cond.code ({ cls := "java/util/LinkedList", name := "listIterator", desc := "(I)Ljava/util/ListIterator;" } : Jvm.MethodName) prog_62_method_49_code (2 : Nat) (Option.some (Jvm.ClassFile.FieldType.object "java/util/ListIterator"))) ∈ lw_all := lw_g (lw_at lw_m7 36 rfl) rfl
theorem q1572 : (Jvm.Cond.methodLink "java/util/LinkedList" (76 : Nat) ({ cls := "java/util/LinkedList", name := "checkPositionIndex", desc := "(I)V" } : Jvm.MethodName)) ∈ lw_all := lw_g (lw_at lw_m7 37 rfl) rfl
theorem q1573 : (Jvm.Cond.privateMethod ({ cls := "java/util/LinkedList", name := "checkPositionIndex", desc := "(I)V" } : Jvm.MethodName)) ∈ lw_tbl := lw_at lw_m7 38 rfl
theorem q1574 : (Jvm.Cond.instanceMethod ({ cls := "java/util/LinkedList", name := "checkPositionIndex", desc := "(I)V" } : Jvm.MethodName)) ∈ lw_all := lw_g (lw_at lw_m7 39 rfl) rfl
theorem q1575 : (Jvm.Cond.code ({ cls := "java/util/LinkedList", name := "checkPositionIndex", desc := "(I)V" } : Jvm.MethodName) prog_62_method_30_code (2 : Nat) (Option.none : Option Jvm.ClassFile.FieldType)) ∈ lw_all := lw_g (lw_at lw_m7 40 rfl) rfl
theorem q1576 : (Jvm.Cond.methodLink "java/util/LinkedList" (128 : Nat) ({ cls := "java/util/LinkedList", name := "isPositionIndex", desc := "(I)Z" } : Jvm.MethodName)) ∈ lw_all := lw_g (lw_at lw_m7 41 rfl) rfl
theorem q1577 : (Jvm.Cond.privateMethod ({ cls := "java/util/LinkedList", name := "isPositionIndex", desc := "(I)Z" } : Jvm.MethodName)) ∈ lw_tbl := lw_at lw_m7 42 rfl
theorem q1578 : (Jvm.Cond.instanceMethod ({ cls := "java/util/LinkedList", name := "isPositionIndex", desc := "(I)Z" } : Jvm.MethodName)) ∈ lw_all := lw_g (lw_at lw_m7 43 rfl) rfl
theorem q1579 : (Jvm.Cond.code ({ cls := "java/util/LinkedList", name := "isPositionIndex", desc := "(I)Z" } : Jvm.MethodName) prog_62_method_27_code (2 : Nat) (Option.some Jvm.ClassFile.FieldType.boolean)) ∈ lw_all := lw_g (lw_at lw_m7 44 rfl) rfl
theorem q1580 : (Jvm.Cond.classLink "java/util/LinkedList" (150 : Nat) "java/util/LinkedList$ListItr") ∈ lw_all := lw_g (lw_at lw_m7 45 rfl) rfl
theorem q1582 : (Jvm.Cond.methodLink "java/util/LinkedList" (152 : Nat) ({ cls := "java/util/LinkedList$ListItr", name := "<init>", desc := "(Ljava/util/LinkedList;I)V" } : Jvm.MethodName)) ∈ lw_all := lw_g (lw_at lw_m7 47 rfl) rfl
theorem q1617 : (Jvm.Cond.selects "java/util/LinkedList" ({ cls := "java/util/AbstractList", name := "size", desc := "()I" } : Jvm.MethodName) ({ cls := "java/util/LinkedList", name := "size", desc := "()I" } : Jvm.MethodName)) ∈ lw_all := lw_g (lw_at lw_m7 82 rfl) rfl
theorem q1654 : (Jvm.Cond.selects "java/util/LinkedList" ({ cls := "java/util/AbstractList", name := "get", desc := "(I)Ljava/lang/Object;" } : Jvm.MethodName) ({ cls := "java/util/LinkedList", name := "get", desc := "(I)Ljava/lang/Object;" } : Jvm.MethodName)) ∈ lw_all := lw_g (lw_at lw_m7 119 rfl) rfl
theorem q1747 : (Jvm.Cond.instanceMethod ({ cls := "java/util/LinkedList", name := "add", desc := "(Ljava/lang/Object;)Z" } : Jvm.MethodName)) ∈ lw_all := lw_g (lw_at lw_m7 212 rfl) rfl
theorem q1748 : (Jvm.Cond.selects "java/util/LinkedList" ({ cls := "java/util/LinkedList", name := "add", desc := "(Ljava/lang/Object;)Z" } : Jvm.MethodName) ({ cls := "java/util/LinkedList", name := "add", desc := "(Ljava/lang/Object;)Z" } : Jvm.MethodName)) ∈ lw_all := lw_g (lw_at lw_m7 213 rfl) rfl
theorem q1749 : (Jvm.Cond.code ({ cls := "java/util/LinkedList", name := "add", desc := "(Ljava/lang/Object;)Z" } : Jvm.MethodName) prog_62_method_17_code (2 : Nat) (Option.some Jvm.ClassFile.FieldType.boolean)) ∈ lw_all := lw_g (lw_at lw_m7 214 rfl) rfl
theorem q1750 : (Jvm.Cond.methodLink "java/util/LinkedList" (57 : Nat) ({ cls := "java/util/LinkedList", name := "linkLast", desc := "(Ljava/lang/Object;)V" } : Jvm.MethodName)) ∈ lw_all := lw_g (lw_at lw_m7 215 rfl) rfl
theorem q1751 : (Jvm.Cond.instanceMethod ({ cls := "java/util/LinkedList", name := "linkLast", desc := "(Ljava/lang/Object;)V" } : Jvm.MethodName)) ∈ lw_all := lw_g (lw_at lw_m7 216 rfl) rfl
theorem q1752 : (Jvm.Cond.selects "java/util/LinkedList" ({ cls := "java/util/LinkedList", name := "linkLast", desc := "(Ljava/lang/Object;)V" } : Jvm.MethodName) ({ cls := "java/util/LinkedList", name := "linkLast", desc := "(Ljava/lang/Object;)V" } : Jvm.MethodName)) ∈ lw_all := lw_g (lw_at lw_m7 217 rfl) rfl
theorem q1753 : (Jvm.Cond.code ({ cls := "java/util/LinkedList", name := "linkLast", desc := "(Ljava/lang/Object;)V" } : Jvm.MethodName) prog_62_method_4_code (4 : Nat) (Option.none : Option Jvm.ClassFile.FieldType)) ∈ lw_all := lw_g (lw_at lw_m7 218 rfl) rfl
theorem q1754 : (Jvm.Cond.classLink "java/util/LinkedList" (22 : Nat) "java/util/LinkedList$Node") ∈ lw_all := lw_g (lw_at lw_m7 219 rfl) rfl
theorem q1756 : (Jvm.Cond.methodLink "java/util/LinkedList" (24 : Nat) ({ cls := "java/util/LinkedList$Node", name := "<init>", desc := "(Ljava/util/LinkedList$Node;Ljava/lang/Object;Ljava/util/LinkedList$Node;)V" } : Jvm.MethodName)) ∈ lw_all := lw_g (lw_at lw_m7 221 rfl) rfl
theorem q1762 : (Jvm.Cond.fieldLink "java/util/LinkedList" (39 : Nat) "java/util/LinkedList$Node" "item" "Ljava/lang/Object;") ∈ lw_all := lw_g (lw_at lw_m7 227 rfl) rfl
theorem q1765 : (Jvm.Cond.fieldLink "java/util/LinkedList" (36 : Nat) "java/util/LinkedList$Node" "next" "Ljava/util/LinkedList$Node;") ∈ lw_all := lw_g (lw_at lw_m7 230 rfl) rfl
theorem q1767 : (Jvm.Cond.fieldLink "java/util/LinkedList" (30 : Nat) "java/util/LinkedList$Node" "prev" "Ljava/util/LinkedList$Node;") ∈ lw_all := lw_g (lw_at lw_m7 232 rfl) rfl
theorem q1958 : (Jvm.Cond.selects "java/util/LinkedList" ({ cls := "java/util/AbstractList", name := "remove", desc := "(I)Ljava/lang/Object;" } : Jvm.MethodName) ({ cls := "java/util/LinkedList", name := "remove", desc := "(I)Ljava/lang/Object;" } : Jvm.MethodName)) ∈ lw_all := lw_g (lw_at lw_m8 183 rfl) rfl
theorem q1959 : (Jvm.Cond.instanceMethod ({ cls := "java/util/LinkedList", name := "remove", desc := "(I)Ljava/lang/Object;" } : Jvm.MethodName)) ∈ lw_all := lw_g (lw_at lw_m8 184 rfl) rfl
theorem q1960 : (Jvm.Cond.code ({ cls := "java/util/LinkedList", name := "remove", desc := "(I)Ljava/lang/Object;" } : Jvm.MethodName) prog_62_method_25_code (2 : Nat) (Option.some (Jvm.ClassFile.FieldType.object "java/lang/Object"))) ∈ lw_all := lw_g (lw_at lw_m8 185 rfl) rfl
theorem q1961 : (Jvm.Cond.methodLink "java/util/LinkedList" (64 : Nat) ({ cls := "java/util/LinkedList", name := "unlink", desc := "(Ljava/util/LinkedList$Node;)Ljava/lang/Object;" } : Jvm.MethodName)) ∈ lw_all := lw_g (lw_at lw_m8 186 rfl) rfl
theorem q1962 : (Jvm.Cond.instanceMethod ({ cls := "java/util/LinkedList", name := "unlink", desc := "(Ljava/util/LinkedList$Node;)Ljava/lang/Object;" } : Jvm.MethodName)) ∈ lw_all := lw_g (lw_at lw_m8 187 rfl) rfl
theorem q1963 : (Jvm.Cond.selects "java/util/LinkedList" ({ cls := "java/util/LinkedList", name := "unlink", desc := "(Ljava/util/LinkedList$Node;)Ljava/lang/Object;" } : Jvm.MethodName) ({ cls := "java/util/LinkedList", name := "unlink", desc := "(Ljava/util/LinkedList$Node;)Ljava/lang/Object;" } : Jvm.MethodName)) ∈ lw_all := lw_g (lw_at lw_m8 188 rfl) rfl
theorem q1964 : (Jvm.Cond.code ({ cls := "java/util/LinkedList", name := "unlink", desc := "(Ljava/util/LinkedList$Node;)Ljava/lang/Object;" } : Jvm.MethodName) prog_62_method_8_code (5 : Nat) (Option.some (Jvm.ClassFile.FieldType.object "java/lang/Object"))) ∈ lw_all := lw_g (lw_at lw_m8 189 rfl) rfl
theorem q2695 : (Jvm.Cond.selects "java/util/LinkedList" ({ cls := "java/util/LinkedList", name := "size", desc := "()I" } : Jvm.MethodName) ({ cls := "java/util/LinkedList", name := "size", desc := "()I" } : Jvm.MethodName)) ∈ lw_all := lw_g (lw_at lw_m11 200 rfl) rfl
theorem q2703 : (Jvm.Cond.castable "java/util/LinkedList" "java/lang/Object") ∈ lw_tbl := lw_at lw_m11 208 rfl
theorem in_J4 : ∀ w ∈ wsJ40, w ∈ lw_all := lw_in wsJ40 [267, 261, 263, 265] (by decide +kernel) (by decide +kernel)

/-! java/util/ArrayDeque -/
set_option maxRecDepth 100000
def RJ5 : String := "java/util/ArrayDeque"
def TJ5 : u_T := fun k => match k with
  | 0 => ("java/util/ArrayDeque", "elements", "[Ljava/lang/Object;", false)
  | 1 => ("java/util/ArrayDeque", "head", "I", false)
  | _ => ("java/util/ArrayDeque", "tail", "I", false)
def tyJ5 : Nat → FieldType := fun k => match k with
  | 0 => .array (.object "java/lang/Object")
  | 1 => .int
  | _ => .int
abbrev wsJ50 : List Cond := u_ws RJ5 TJ5 3
theorem nmJ5 : ∀ a, a < 3 → ∀ b, b < 3 → a ≠ b → (TJ5 a).2.1 ≠ (TJ5 b).2.1 := by decide +kernel
theorem tyJ5_ok : ∀ k, k < 3 → parseFieldDescriptor (TJ5 k).2.2.1 = some (tyJ5 k) := by decide +kernel
abbrev cJ5_init : ByteArray := prog_46_method_4_code
def yJ5_init : MethodName := ⟨RJ5, "<init>", "(I)V"⟩
def dkwJ5_init_1 : List UInt8 := [167, 0, 6, 27, 4, 96, 189, 0, 47, 181, 0, 3, 177]
abbrev dktJ5_init_1 : List UInt8 := dkwJ5_init_1 ++ []
def dkwJ5_init_0 : List UInt8 := [42, 183, 0, 42, 42, 27, 4, 162, 0, 7, 4, 167, 0, 17, 27, 18, 41, 160, 0, 8, 18, 41]
abbrev dktJ5_init_0 : List UInt8 := dkwJ5_init_0 ++ dktJ5_init_1
theorem dksJ5_init_0 : cJ5_init.data.toList.drop 0 = dktJ5_init_0 := by decide +kernel
theorem dksJ5_init_1 : cJ5_init.data.toList.drop 22 = dktJ5_init_1 := dk_seg dksJ5_init_0 22 rfl rfl
theorem dJ5_init_0 : decode cJ5_init 0 = .ok (.aload_n 0, 1) := dk_42 (dk_at dksJ5_init_0 0 rfl rfl)
theorem dJ5_init_1 : decode cJ5_init 1 = .ok (.invokespecial 42, 3) := dk_183 0 42 (dk_at dksJ5_init_0 1 rfl rfl)
theorem dJ5_init_4 : decode cJ5_init 4 = .ok (.aload_n 0, 1) := dk_42 (dk_at dksJ5_init_0 4 rfl rfl)
theorem dJ5_init_5 : decode cJ5_init 5 = .ok (.iload_n 1, 1) := dk_27 (dk_at dksJ5_init_0 5 rfl rfl)
theorem dJ5_init_6 : decode cJ5_init 6 = .ok (.iconst 1, 1) := dk_4 (dk_at dksJ5_init_0 6 rfl rfl)
theorem dJ5_init_7 : decode cJ5_init 7 = .ok (.if_icmp .ge 7, 3) := dk_162 0 7 (dk_at dksJ5_init_0 7 rfl rfl)
theorem dJ5_init_10 : decode cJ5_init 10 = .ok (.iconst 1, 1) := dk_4 (dk_at dksJ5_init_0 10 rfl rfl)
theorem dJ5_init_11 : decode cJ5_init 11 = .ok (.goto 17, 3) := dk_167 0 17 (dk_at dksJ5_init_0 11 rfl rfl)
theorem dJ5_init_14 : decode cJ5_init 14 = .ok (.iload_n 1, 1) := dk_27 (dk_at dksJ5_init_0 14 rfl rfl)
theorem dJ5_init_15 : decode cJ5_init 15 = .ok (.ldc 41, 2) := dk_18 41 (dk_at dksJ5_init_0 15 rfl rfl)
theorem dJ5_init_17 : decode cJ5_init 17 = .ok (.if_icmp .ne 8, 3) := dk_160 0 8 (dk_at dksJ5_init_0 17 rfl rfl)
theorem dJ5_init_20 : decode cJ5_init 20 = .ok (.ldc 41, 2) := dk_18 41 (dk_at dksJ5_init_0 20 rfl rfl)
theorem dJ5_init_22 : decode cJ5_init 22 = .ok (.goto 6, 3) := dk_167 0 6 (dk_at dksJ5_init_1 0 rfl rfl)
theorem dJ5_init_25 : decode cJ5_init 25 = .ok (.iload_n 1, 1) := dk_27 (dk_at dksJ5_init_1 3 rfl rfl)
theorem dJ5_init_26 : decode cJ5_init 26 = .ok (.iconst 1, 1) := dk_4 (dk_at dksJ5_init_1 4 rfl rfl)
theorem dJ5_init_27 : decode cJ5_init 27 = .ok (.iadd, 1) := dk_96 (dk_at dksJ5_init_1 5 rfl rfl)
theorem dJ5_init_28 : decode cJ5_init 28 = .ok (.anewarray 47, 3) := dk_189 0 47 (dk_at dksJ5_init_1 6 rfl rfl)
theorem dJ5_init_31 : decode cJ5_init 31 = .ok (.putfield 3, 3) := dk_181 0 3 (dk_at dksJ5_init_1 9 rfl rfl)
theorem dJ5_init_34 : decode cJ5_init 34 = .ok (.return_, 1) := dk_177 (dk_at dksJ5_init_1 12 rfl rfl)
abbrev cJ5_nonNullElementAt : ByteArray := prog_46_method_11_code
def yJ5_nonNullElementAt : MethodName := ⟨RJ5, "nonNullElementAt", "([Ljava/lang/Object;I)Ljava/lang/Object;"⟩
def dkwJ5_nonNullElementAt_0 : List UInt8 := [42, 27, 50, 77, 44, 199, 0, 11, 187, 0, 62, 89, 183, 0, 64, 191, 44, 176]
abbrev dktJ5_nonNullElementAt_0 : List UInt8 := dkwJ5_nonNullElementAt_0 ++ []
theorem dksJ5_nonNullElementAt_0 : cJ5_nonNullElementAt.data.toList.drop 0 = dktJ5_nonNullElementAt_0 := by decide +kernel
theorem dJ5_nonNullElementAt_0 : decode cJ5_nonNullElementAt 0 = .ok (.aload_n 0, 1) := dk_42 (dk_at dksJ5_nonNullElementAt_0 0 rfl rfl)
theorem dJ5_nonNullElementAt_1 : decode cJ5_nonNullElementAt 1 = .ok (.iload_n 1, 1) := dk_27 (dk_at dksJ5_nonNullElementAt_0 1 rfl rfl)
theorem dJ5_nonNullElementAt_2 : decode cJ5_nonNullElementAt 2 = .ok (.aaload, 1) := dk_50 (dk_at dksJ5_nonNullElementAt_0 2 rfl rfl)
theorem dJ5_nonNullElementAt_3 : decode cJ5_nonNullElementAt 3 = .ok (.astore_n 2, 1) := dk_77 (dk_at dksJ5_nonNullElementAt_0 3 rfl rfl)
theorem dJ5_nonNullElementAt_4 : decode cJ5_nonNullElementAt 4 = .ok (.aload_n 2, 1) := dk_44 (dk_at dksJ5_nonNullElementAt_0 4 rfl rfl)
theorem dJ5_nonNullElementAt_5 : decode cJ5_nonNullElementAt 5 = .ok (.ifnonnull 11, 3) := dk_199 0 11 (dk_at dksJ5_nonNullElementAt_0 5 rfl rfl)
theorem dJ5_nonNullElementAt_8 : decode cJ5_nonNullElementAt 8 = .ok (.new 62, 3) := dk_187 0 62 (dk_at dksJ5_nonNullElementAt_0 8 rfl rfl)
theorem dJ5_nonNullElementAt_11 : decode cJ5_nonNullElementAt 11 = .ok (.dup, 1) := dk_89 (dk_at dksJ5_nonNullElementAt_0 11 rfl rfl)
theorem dJ5_nonNullElementAt_12 : decode cJ5_nonNullElementAt 12 = .ok (.invokespecial 64, 3) := dk_183 0 64 (dk_at dksJ5_nonNullElementAt_0 12 rfl rfl)
theorem dJ5_nonNullElementAt_15 : decode cJ5_nonNullElementAt 15 = .ok (.athrow, 1) := dk_191 (dk_at dksJ5_nonNullElementAt_0 15 rfl rfl)
theorem dJ5_nonNullElementAt_16 : decode cJ5_nonNullElementAt 16 = .ok (.aload_n 2, 1) := dk_44 (dk_at dksJ5_nonNullElementAt_0 16 rfl rfl)
theorem dJ5_nonNullElementAt_17 : decode cJ5_nonNullElementAt 17 = .ok (.areturn, 1) := dk_176 (dk_at dksJ5_nonNullElementAt_0 17 rfl rfl)
abbrev cJ5_inc : ByteArray := prog_46_method_6_code
def yJ5_inc : MethodName := ⟨RJ5, "inc", "(II)I"⟩
def dkwJ5_inc_0 : List UInt8 := [132, 0, 1, 26, 27, 161, 0, 5, 3, 59, 26, 172]
abbrev dktJ5_inc_0 : List UInt8 := dkwJ5_inc_0 ++ []
theorem dksJ5_inc_0 : cJ5_inc.data.toList.drop 0 = dktJ5_inc_0 := by decide +kernel
theorem dJ5_inc_0 : decode cJ5_inc 0 = .ok (.iinc 0 1, 3) := dk_132 0 1 (dk_at dksJ5_inc_0 0 rfl rfl)
theorem dJ5_inc_3 : decode cJ5_inc 3 = .ok (.iload_n 0, 1) := dk_26 (dk_at dksJ5_inc_0 3 rfl rfl)
theorem dJ5_inc_4 : decode cJ5_inc 4 = .ok (.iload_n 1, 1) := dk_27 (dk_at dksJ5_inc_0 4 rfl rfl)
theorem dJ5_inc_5 : decode cJ5_inc 5 = .ok (.if_icmp .lt 5, 3) := dk_161 0 5 (dk_at dksJ5_inc_0 5 rfl rfl)
theorem dJ5_inc_8 : decode cJ5_inc 8 = .ok (.iconst 0, 1) := dk_3 (dk_at dksJ5_inc_0 8 rfl rfl)
theorem dJ5_inc_9 : decode cJ5_inc 9 = .ok (.istore_n 0, 1) := dk_59 (dk_at dksJ5_inc_0 9 rfl rfl)
theorem dJ5_inc_10 : decode cJ5_inc 10 = .ok (.iload_n 0, 1) := dk_26 (dk_at dksJ5_inc_0 10 rfl rfl)
theorem dJ5_inc_11 : decode cJ5_inc 11 = .ok (.ireturn, 1) := dk_172 (dk_at dksJ5_inc_0 11 rfl rfl)
abbrev cJ5_iterator : ByteArray := prog_46_method_39_code
def yJ5_iterator : MethodName := ⟨RJ5, "iterator", "()Ljava/util/Iterator;"⟩
def dkwJ5_iterator_0 : List UInt8 := [187, 0, 131, 89, 42, 183, 0, 133, 176]
abbrev dktJ5_iterator_0 : List UInt8 := dkwJ5_iterator_0 ++ []
theorem dksJ5_iterator_0 : cJ5_iterator.data.toList.drop 0 = dktJ5_iterator_0 := by decide +kernel
theorem dJ5_iterator_0 : decode cJ5_iterator 0 = .ok (.new 131, 3) := dk_187 0 131 (dk_at dksJ5_iterator_0 0 rfl rfl)
theorem dJ5_iterator_3 : decode cJ5_iterator 3 = .ok (.dup, 1) := dk_89 (dk_at dksJ5_iterator_0 3 rfl rfl)
theorem dJ5_iterator_4 : decode cJ5_iterator 4 = .ok (.aload_n 0, 1) := dk_42 (dk_at dksJ5_iterator_0 4 rfl rfl)
theorem dJ5_iterator_5 : decode cJ5_iterator 5 = .ok (.invokespecial 133, 3) := dk_183 0 133 (dk_at dksJ5_iterator_0 5 rfl rfl)
theorem dJ5_iterator_8 : decode cJ5_iterator 8 = .ok (.areturn, 1) := dk_176 (dk_at dksJ5_iterator_0 8 rfl rfl)
abbrev cJ5_size : ByteArray := prog_46_method_37_code
def yJ5_size : MethodName := ⟨RJ5, "size", "()I"⟩
def dkwJ5_size_0 : List UInt8 := [42, 180, 0, 20, 42, 180, 0, 24, 42, 180, 0, 3, 190, 184, 0, 127, 172]
abbrev dktJ5_size_0 : List UInt8 := dkwJ5_size_0 ++ []
theorem dksJ5_size_0 : cJ5_size.data.toList.drop 0 = dktJ5_size_0 := by decide +kernel
theorem dJ5_size_0 : decode cJ5_size 0 = .ok (.aload_n 0, 1) := dk_42 (dk_at dksJ5_size_0 0 rfl rfl)
theorem dJ5_size_1 : decode cJ5_size 1 = .ok (.getfield 20, 3) := dk_180 0 20 (dk_at dksJ5_size_0 1 rfl rfl)
theorem dJ5_size_4 : decode cJ5_size 4 = .ok (.aload_n 0, 1) := dk_42 (dk_at dksJ5_size_0 4 rfl rfl)
theorem dJ5_size_5 : decode cJ5_size 5 = .ok (.getfield 24, 3) := dk_180 0 24 (dk_at dksJ5_size_0 5 rfl rfl)
theorem dJ5_size_8 : decode cJ5_size 8 = .ok (.aload_n 0, 1) := dk_42 (dk_at dksJ5_size_0 8 rfl rfl)
theorem dJ5_size_9 : decode cJ5_size 9 = .ok (.getfield 3, 3) := dk_180 0 3 (dk_at dksJ5_size_0 9 rfl rfl)
theorem dJ5_size_12 : decode cJ5_size 12 = .ok (.arraylength, 1) := dk_190 (dk_at dksJ5_size_0 12 rfl rfl)
theorem dJ5_size_13 : decode cJ5_size 13 = .ok (.invokestatic 127, 3) := dk_184 0 127 (dk_at dksJ5_size_0 13 rfl rfl)
theorem dJ5_size_16 : decode cJ5_size 16 = .ok (.ireturn, 1) := dk_172 (dk_at dksJ5_size_0 16 rfl rfl)
abbrev cJ5_sub : ByteArray := prog_46_method_9_code
def yJ5_sub : MethodName := ⟨RJ5, "sub", "(III)I"⟩
def dkwJ5_sub_0 : List UInt8 := [26, 27, 100, 89, 59, 156, 0, 7, 26, 28, 96, 59, 26, 172]
abbrev dktJ5_sub_0 : List UInt8 := dkwJ5_sub_0 ++ []
theorem dksJ5_sub_0 : cJ5_sub.data.toList.drop 0 = dktJ5_sub_0 := by decide +kernel
theorem dJ5_sub_0 : decode cJ5_sub 0 = .ok (.iload_n 0, 1) := dk_26 (dk_at dksJ5_sub_0 0 rfl rfl)
theorem dJ5_sub_1 : decode cJ5_sub 1 = .ok (.iload_n 1, 1) := dk_27 (dk_at dksJ5_sub_0 1 rfl rfl)
theorem dJ5_sub_2 : decode cJ5_sub 2 = .ok (.isub, 1) := dk_100 (dk_at dksJ5_sub_0 2 rfl rfl)
theorem dJ5_sub_3 : decode cJ5_sub 3 = .ok (.dup, 1) := dk_89 (dk_at dksJ5_sub_0 3 rfl rfl)
theorem dJ5_sub_4 : decode cJ5_sub 4 = .ok (.istore_n 0, 1) := dk_59 (dk_at dksJ5_sub_0 4 rfl rfl)
theorem dJ5_sub_5 : decode cJ5_sub 5 = .ok (.ifCond .ge 7, 3) := dk_156 0 7 (dk_at dksJ5_sub_0 5 rfl rfl)
theorem dJ5_sub_8 : decode cJ5_sub 8 = .ok (.iload_n 0, 1) := dk_26 (dk_at dksJ5_sub_0 8 rfl rfl)
theorem dJ5_sub_9 : decode cJ5_sub 9 = .ok (.iload_n 2, 1) := dk_28 (dk_at dksJ5_sub_0 9 rfl rfl)
theorem dJ5_sub_10 : decode cJ5_sub 10 = .ok (.iadd, 1) := dk_96 (dk_at dksJ5_sub_0 10 rfl rfl)
theorem dJ5_sub_11 : decode cJ5_sub 11 = .ok (.istore_n 0, 1) := dk_59 (dk_at dksJ5_sub_0 11 rfl rfl)
theorem dJ5_sub_12 : decode cJ5_sub 12 = .ok (.iload_n 0, 1) := dk_26 (dk_at dksJ5_sub_0 12 rfl rfl)
theorem dJ5_sub_13 : decode cJ5_sub 13 = .ok (.ireturn, 1) := dk_172 (dk_at dksJ5_sub_0 13 rfl rfl)
abbrev cJ5_addLast : ByteArray := prog_46_method_13_code
def yJ5_addLast : MethodName := ⟨RJ5, "addLast", "(Ljava/lang/Object;)V"⟩
def dkwJ5_addLast_2 : List UInt8 := [182, 0, 71, 177]
abbrev dktJ5_addLast_2 : List UInt8 := dkwJ5_addLast_2 ++ []
def dkwJ5_addLast_1 : List UInt8 := [42, 180, 0, 24, 42, 42, 180, 0, 20, 44, 190, 184, 0, 74, 90, 181, 0, 20, 160, 0, 8, 42, 4]
abbrev dktJ5_addLast_1 : List UInt8 := dkwJ5_addLast_1 ++ dktJ5_addLast_2
def dkwJ5_addLast_0 : List UInt8 := [43, 199, 0, 11, 187, 0, 65, 89, 183, 0, 67, 191, 42, 180, 0, 3, 77, 44, 42, 180, 0, 20, 43, 83]
abbrev dktJ5_addLast_0 : List UInt8 := dkwJ5_addLast_0 ++ dktJ5_addLast_1
theorem dksJ5_addLast_0 : cJ5_addLast.data.toList.drop 0 = dktJ5_addLast_0 := by decide +kernel
theorem dksJ5_addLast_1 : cJ5_addLast.data.toList.drop 24 = dktJ5_addLast_1 := dk_seg dksJ5_addLast_0 24 rfl rfl
theorem dksJ5_addLast_2 : cJ5_addLast.data.toList.drop 47 = dktJ5_addLast_2 := dk_seg dksJ5_addLast_1 23 rfl rfl
theorem dJ5_addLast_0 : decode cJ5_addLast 0 = .ok (.aload_n 1, 1) := dk_43 (dk_at dksJ5_addLast_0 0 rfl rfl)
theorem dJ5_addLast_1 : decode cJ5_addLast 1 = .ok (.ifnonnull 11, 3) := dk_199 0 11 (dk_at dksJ5_addLast_0 1 rfl rfl)
theorem dJ5_addLast_4 : decode cJ5_addLast 4 = .ok (.new 65, 3) := dk_187 0 65 (dk_at dksJ5_addLast_0 4 rfl rfl)
theorem dJ5_addLast_7 : decode cJ5_addLast 7 = .ok (.dup, 1) := dk_89 (dk_at dksJ5_addLast_0 7 rfl rfl)
theorem dJ5_addLast_8 : decode cJ5_addLast 8 = .ok (.invokespecial 67, 3) := dk_183 0 67 (dk_at dksJ5_addLast_0 8 rfl rfl)
theorem dJ5_addLast_11 : decode cJ5_addLast 11 = .ok (.athrow, 1) := dk_191 (dk_at dksJ5_addLast_0 11 rfl rfl)
theorem dJ5_addLast_12 : decode cJ5_addLast 12 = .ok (.aload_n 0, 1) := dk_42 (dk_at dksJ5_addLast_0 12 rfl rfl)
theorem dJ5_addLast_13 : decode cJ5_addLast 13 = .ok (.getfield 3, 3) := dk_180 0 3 (dk_at dksJ5_addLast_0 13 rfl rfl)
theorem dJ5_addLast_16 : decode cJ5_addLast 16 = .ok (.astore_n 2, 1) := dk_77 (dk_at dksJ5_addLast_0 16 rfl rfl)
theorem dJ5_addLast_17 : decode cJ5_addLast 17 = .ok (.aload_n 2, 1) := dk_44 (dk_at dksJ5_addLast_0 17 rfl rfl)
theorem dJ5_addLast_18 : decode cJ5_addLast 18 = .ok (.aload_n 0, 1) := dk_42 (dk_at dksJ5_addLast_0 18 rfl rfl)
theorem dJ5_addLast_19 : decode cJ5_addLast 19 = .ok (.getfield 20, 3) := dk_180 0 20 (dk_at dksJ5_addLast_0 19 rfl rfl)
theorem dJ5_addLast_22 : decode cJ5_addLast 22 = .ok (.aload_n 1, 1) := dk_43 (dk_at dksJ5_addLast_0 22 rfl rfl)
theorem dJ5_addLast_23 : decode cJ5_addLast 23 = .ok (.aastore, 1) := dk_83 (dk_at dksJ5_addLast_0 23 rfl rfl)
theorem dJ5_addLast_24 : decode cJ5_addLast 24 = .ok (.aload_n 0, 1) := dk_42 (dk_at dksJ5_addLast_1 0 rfl rfl)
theorem dJ5_addLast_25 : decode cJ5_addLast 25 = .ok (.getfield 24, 3) := dk_180 0 24 (dk_at dksJ5_addLast_1 1 rfl rfl)
theorem dJ5_addLast_28 : decode cJ5_addLast 28 = .ok (.aload_n 0, 1) := dk_42 (dk_at dksJ5_addLast_1 4 rfl rfl)
theorem dJ5_addLast_29 : decode cJ5_addLast 29 = .ok (.aload_n 0, 1) := dk_42 (dk_at dksJ5_addLast_1 5 rfl rfl)
theorem dJ5_addLast_30 : decode cJ5_addLast 30 = .ok (.getfield 20, 3) := dk_180 0 20 (dk_at dksJ5_addLast_1 6 rfl rfl)
theorem dJ5_addLast_33 : decode cJ5_addLast 33 = .ok (.aload_n 2, 1) := dk_44 (dk_at dksJ5_addLast_1 9 rfl rfl)
theorem dJ5_addLast_34 : decode cJ5_addLast 34 = .ok (.arraylength, 1) := dk_190 (dk_at dksJ5_addLast_1 10 rfl rfl)
theorem dJ5_addLast_35 : decode cJ5_addLast 35 = .ok (.invokestatic 74, 3) := dk_184 0 74 (dk_at dksJ5_addLast_1 11 rfl rfl)
theorem dJ5_addLast_38 : decode cJ5_addLast 38 = .ok (.dup_x1, 1) := dk_90 (dk_at dksJ5_addLast_1 14 rfl rfl)
theorem dJ5_addLast_39 : decode cJ5_addLast 39 = .ok (.putfield 20, 3) := dk_181 0 20 (dk_at dksJ5_addLast_1 15 rfl rfl)
theorem dJ5_addLast_42 : decode cJ5_addLast 42 = .ok (.if_icmp .ne 8, 3) := dk_160 0 8 (dk_at dksJ5_addLast_1 18 rfl rfl)
theorem dJ5_addLast_45 : decode cJ5_addLast 45 = .ok (.aload_n 0, 1) := dk_42 (dk_at dksJ5_addLast_1 21 rfl rfl)
theorem dJ5_addLast_46 : decode cJ5_addLast 46 = .ok (.iconst 1, 1) := dk_4 (dk_at dksJ5_addLast_1 22 rfl rfl)
theorem dJ5_addLast_47 : decode cJ5_addLast 47 = .ok (.invokevirtual 71, 3) := dk_182 0 71 (dk_at dksJ5_addLast_2 0 rfl rfl)
theorem dJ5_addLast_50 : decode cJ5_addLast 50 = .ok (.return_, 1) := dk_177 (dk_at dksJ5_addLast_2 3 rfl rfl)
abbrev cJ5_grow : ByteArray := prog_46_method_1_code
def yJ5_grow : MethodName := ⟨RJ5, "grow", "(I)V"⟩
def dkwJ5_grow_7 : List UInt8 := [177]
abbrev dktJ5_grow_7 : List UInt8 := dkwJ5_grow_7 ++ []
def dkwJ5_grow_6 : List UInt8 := [181, 0, 24, 54, 8, 21, 7, 21, 8, 162, 0, 15, 25, 5, 21, 7, 1, 83, 132, 7, 1, 167, 255, 240]
abbrev dktJ5_grow_6 : List UInt8 := dkwJ5_grow_6 ++ dktJ5_grow_7
def dkwJ5_grow_5 : List UInt8 := [42, 180, 0, 24, 100, 184, 0, 27, 42, 180, 0, 24, 54, 7, 42, 89, 180, 0, 24, 21, 6, 96, 90]
abbrev dktJ5_grow_5 : List UInt8 := dkwJ5_grow_5 ++ dktJ5_grow_6
def dkwJ5_grow_4 : List UInt8 := [198, 0, 71, 29, 28, 100, 54, 6, 25, 5, 42, 180, 0, 24, 25, 5, 42, 180, 0, 24, 21, 6, 96, 28]
abbrev dktJ5_grow_4 : List UInt8 := dkwJ5_grow_4 ++ dktJ5_grow_5
def dkwJ5_grow_3 : List UInt8 := [180, 0, 24, 161, 0, 24, 42, 180, 0, 20, 42, 180, 0, 24, 160, 0, 81, 25, 5, 42, 180, 0, 24, 50]
abbrev dktJ5_grow_3 : List UInt8 := dkwJ5_grow_3 ++ dktJ5_grow_4
def dkwJ5_grow_2 : List UInt8 := [182, 0, 10, 62, 42, 42, 180, 0, 3, 29, 184, 0, 14, 90, 181, 0, 3, 58, 5, 42, 180, 0, 20, 42]
abbrev dktJ5_grow_2 : List UInt8 := dkwJ5_grow_2 ++ dktJ5_grow_3
def dkwJ5_grow_1 : List UInt8 := [21, 4, 27, 161, 0, 15, 28, 21, 4, 96, 89, 62, 18, 9, 100, 158, 0, 11, 42, 27, 21, 4]
abbrev dktJ5_grow_1 : List UInt8 := dkwJ5_grow_1 ++ dktJ5_grow_2
def dkwJ5_grow_0 : List UInt8 := [42, 180, 0, 3, 190, 61, 28, 16, 64, 162, 0, 9, 28, 5, 96, 167, 0, 6, 28, 4, 122, 54, 4]
abbrev dktJ5_grow_0 : List UInt8 := dkwJ5_grow_0 ++ dktJ5_grow_1
theorem dksJ5_grow_0 : cJ5_grow.data.toList.drop 0 = dktJ5_grow_0 := by decide +kernel
theorem dksJ5_grow_1 : cJ5_grow.data.toList.drop 23 = dktJ5_grow_1 := dk_seg dksJ5_grow_0 23 rfl rfl
theorem dksJ5_grow_2 : cJ5_grow.data.toList.drop 45 = dktJ5_grow_2 := dk_seg dksJ5_grow_1 22 rfl rfl
theorem dksJ5_grow_3 : cJ5_grow.data.toList.drop 69 = dktJ5_grow_3 := dk_seg dksJ5_grow_2 24 rfl rfl
theorem dksJ5_grow_4 : cJ5_grow.data.toList.drop 93 = dktJ5_grow_4 := dk_seg dksJ5_grow_3 24 rfl rfl
theorem dksJ5_grow_5 : cJ5_grow.data.toList.drop 117 = dktJ5_grow_5 := dk_seg dksJ5_grow_4 24 rfl rfl
theorem dksJ5_grow_6 : cJ5_grow.data.toList.drop 140 = dktJ5_grow_6 := dk_seg dksJ5_grow_5 23 rfl rfl
theorem dksJ5_grow_7 : cJ5_grow.data.toList.drop 164 = dktJ5_grow_7 := dk_seg dksJ5_grow_6 24 rfl rfl
theorem dJ5_grow_0 : decode cJ5_grow 0 = .ok (.aload_n 0, 1) := dk_42 (dk_at dksJ5_grow_0 0 rfl rfl)
theorem dJ5_grow_1 : decode cJ5_grow 1 = .ok (.getfield 3, 3) := dk_180 0 3 (dk_at dksJ5_grow_0 1 rfl rfl)
theorem dJ5_grow_4 : decode cJ5_grow 4 = .ok (.arraylength, 1) := dk_190 (dk_at dksJ5_grow_0 4 rfl rfl)
theorem dJ5_grow_5 : decode cJ5_grow 5 = .ok (.istore_n 2, 1) := dk_61 (dk_at dksJ5_grow_0 5 rfl rfl)
theorem dJ5_grow_6 : decode cJ5_grow 6 = .ok (.iload_n 2, 1) := dk_28 (dk_at dksJ5_grow_0 6 rfl rfl)
theorem dJ5_grow_7 : decode cJ5_grow 7 = .ok (.bipush 64, 2) := dk_16 64 (dk_at dksJ5_grow_0 7 rfl rfl)
theorem dJ5_grow_9 : decode cJ5_grow 9 = .ok (.if_icmp .ge 9, 3) := dk_162 0 9 (dk_at dksJ5_grow_0 9 rfl rfl)
theorem dJ5_grow_12 : decode cJ5_grow 12 = .ok (.iload_n 2, 1) := dk_28 (dk_at dksJ5_grow_0 12 rfl rfl)
theorem dJ5_grow_13 : decode cJ5_grow 13 = .ok (.iconst 2, 1) := dk_5 (dk_at dksJ5_grow_0 13 rfl rfl)
theorem dJ5_grow_14 : decode cJ5_grow 14 = .ok (.iadd, 1) := dk_96 (dk_at dksJ5_grow_0 14 rfl rfl)
theorem dJ5_grow_15 : decode cJ5_grow 15 = .ok (.goto 6, 3) := dk_167 0 6 (dk_at dksJ5_grow_0 15 rfl rfl)
theorem dJ5_grow_18 : decode cJ5_grow 18 = .ok (.iload_n 2, 1) := dk_28 (dk_at dksJ5_grow_0 18 rfl rfl)
theorem dJ5_grow_19 : decode cJ5_grow 19 = .ok (.iconst 1, 1) := dk_4 (dk_at dksJ5_grow_0 19 rfl rfl)
theorem dJ5_grow_20 : decode cJ5_grow 20 = .ok (.ishr, 1) := dk_122 (dk_at dksJ5_grow_0 20 rfl rfl)
theorem dJ5_grow_21 : decode cJ5_grow 21 = .ok (.istore 4, 2) := dk_54 4 (dk_at dksJ5_grow_0 21 rfl rfl)
theorem dJ5_grow_23 : decode cJ5_grow 23 = .ok (.iload 4, 2) := dk_21 4 (dk_at dksJ5_grow_1 0 rfl rfl)
theorem dJ5_grow_25 : decode cJ5_grow 25 = .ok (.iload_n 1, 1) := dk_27 (dk_at dksJ5_grow_1 2 rfl rfl)
theorem dJ5_grow_26 : decode cJ5_grow 26 = .ok (.if_icmp .lt 15, 3) := dk_161 0 15 (dk_at dksJ5_grow_1 3 rfl rfl)
theorem dJ5_grow_29 : decode cJ5_grow 29 = .ok (.iload_n 2, 1) := dk_28 (dk_at dksJ5_grow_1 6 rfl rfl)
theorem dJ5_grow_30 : decode cJ5_grow 30 = .ok (.iload 4, 2) := dk_21 4 (dk_at dksJ5_grow_1 7 rfl rfl)
theorem dJ5_grow_32 : decode cJ5_grow 32 = .ok (.iadd, 1) := dk_96 (dk_at dksJ5_grow_1 9 rfl rfl)
theorem dJ5_grow_33 : decode cJ5_grow 33 = .ok (.dup, 1) := dk_89 (dk_at dksJ5_grow_1 10 rfl rfl)
theorem dJ5_grow_34 : decode cJ5_grow 34 = .ok (.istore_n 3, 1) := dk_62 (dk_at dksJ5_grow_1 11 rfl rfl)
theorem dJ5_grow_35 : decode cJ5_grow 35 = .ok (.ldc 9, 2) := dk_18 9 (dk_at dksJ5_grow_1 12 rfl rfl)
theorem dJ5_grow_37 : decode cJ5_grow 37 = .ok (.isub, 1) := dk_100 (dk_at dksJ5_grow_1 14 rfl rfl)
theorem dJ5_grow_38 : decode cJ5_grow 38 = .ok (.ifCond .le 11, 3) := dk_158 0 11 (dk_at dksJ5_grow_1 15 rfl rfl)
theorem dJ5_grow_41 : decode cJ5_grow 41 = .ok (.aload_n 0, 1) := dk_42 (dk_at dksJ5_grow_1 18 rfl rfl)
theorem dJ5_grow_42 : decode cJ5_grow 42 = .ok (.iload_n 1, 1) := dk_27 (dk_at dksJ5_grow_1 19 rfl rfl)
theorem dJ5_grow_43 : decode cJ5_grow 43 = .ok (.iload 4, 2) := dk_21 4 (dk_at dksJ5_grow_1 20 rfl rfl)
theorem dJ5_grow_45 : decode cJ5_grow 45 = .ok (.invokevirtual 10, 3) := dk_182 0 10 (dk_at dksJ5_grow_2 0 rfl rfl)
theorem dJ5_grow_48 : decode cJ5_grow 48 = .ok (.istore_n 3, 1) := dk_62 (dk_at dksJ5_grow_2 3 rfl rfl)
theorem dJ5_grow_49 : decode cJ5_grow 49 = .ok (.aload_n 0, 1) := dk_42 (dk_at dksJ5_grow_2 4 rfl rfl)
theorem dJ5_grow_50 : decode cJ5_grow 50 = .ok (.aload_n 0, 1) := dk_42 (dk_at dksJ5_grow_2 5 rfl rfl)
theorem dJ5_grow_51 : decode cJ5_grow 51 = .ok (.getfield 3, 3) := dk_180 0 3 (dk_at dksJ5_grow_2 6 rfl rfl)
theorem dJ5_grow_54 : decode cJ5_grow 54 = .ok (.iload_n 3, 1) := dk_29 (dk_at dksJ5_grow_2 9 rfl rfl)
theorem dJ5_grow_55 : decode cJ5_grow 55 = .ok (.invokestatic 14, 3) := dk_184 0 14 (dk_at dksJ5_grow_2 10 rfl rfl)
theorem dJ5_grow_58 : decode cJ5_grow 58 = .ok (.dup_x1, 1) := dk_90 (dk_at dksJ5_grow_2 13 rfl rfl)
theorem dJ5_grow_59 : decode cJ5_grow 59 = .ok (.putfield 3, 3) := dk_181 0 3 (dk_at dksJ5_grow_2 14 rfl rfl)
theorem dJ5_grow_62 : decode cJ5_grow 62 = .ok (.astore 5, 2) := dk_58 5 (dk_at dksJ5_grow_2 17 rfl rfl)
theorem dJ5_grow_64 : decode cJ5_grow 64 = .ok (.aload_n 0, 1) := dk_42 (dk_at dksJ5_grow_2 19 rfl rfl)
theorem dJ5_grow_65 : decode cJ5_grow 65 = .ok (.getfield 20, 3) := dk_180 0 20 (dk_at dksJ5_grow_2 20 rfl rfl)
theorem dJ5_grow_68 : decode cJ5_grow 68 = .ok (.aload_n 0, 1) := dk_42 (dk_at dksJ5_grow_2 23 rfl rfl)
theorem dJ5_grow_69 : decode cJ5_grow 69 = .ok (.getfield 24, 3) := dk_180 0 24 (dk_at dksJ5_grow_3 0 rfl rfl)
theorem dJ5_grow_72 : decode cJ5_grow 72 = .ok (.if_icmp .lt 24, 3) := dk_161 0 24 (dk_at dksJ5_grow_3 3 rfl rfl)
theorem dJ5_grow_75 : decode cJ5_grow 75 = .ok (.aload_n 0, 1) := dk_42 (dk_at dksJ5_grow_3 6 rfl rfl)
theorem dJ5_grow_76 : decode cJ5_grow 76 = .ok (.getfield 20, 3) := dk_180 0 20 (dk_at dksJ5_grow_3 7 rfl rfl)
theorem dJ5_grow_79 : decode cJ5_grow 79 = .ok (.aload_n 0, 1) := dk_42 (dk_at dksJ5_grow_3 10 rfl rfl)
theorem dJ5_grow_80 : decode cJ5_grow 80 = .ok (.getfield 24, 3) := dk_180 0 24 (dk_at dksJ5_grow_3 11 rfl rfl)
theorem dJ5_grow_83 : decode cJ5_grow 83 = .ok (.if_icmp .ne 81, 3) := dk_160 0 81 (dk_at dksJ5_grow_3 14 rfl rfl)
theorem dJ5_grow_86 : decode cJ5_grow 86 = .ok (.aload 5, 2) := dk_25 5 (dk_at dksJ5_grow_3 17 rfl rfl)
theorem dJ5_grow_88 : decode cJ5_grow 88 = .ok (.aload_n 0, 1) := dk_42 (dk_at dksJ5_grow_3 19 rfl rfl)
theorem dJ5_grow_89 : decode cJ5_grow 89 = .ok (.getfield 24, 3) := dk_180 0 24 (dk_at dksJ5_grow_3 20 rfl rfl)
theorem dJ5_grow_92 : decode cJ5_grow 92 = .ok (.aaload, 1) := dk_50 (dk_at dksJ5_grow_3 23 rfl rfl)
theorem dJ5_grow_93 : decode cJ5_grow 93 = .ok (.ifnull 71, 3) := dk_198 0 71 (dk_at dksJ5_grow_4 0 rfl rfl)
theorem dJ5_grow_96 : decode cJ5_grow 96 = .ok (.iload_n 3, 1) := dk_29 (dk_at dksJ5_grow_4 3 rfl rfl)
theorem dJ5_grow_97 : decode cJ5_grow 97 = .ok (.iload_n 2, 1) := dk_28 (dk_at dksJ5_grow_4 4 rfl rfl)
theorem dJ5_grow_98 : decode cJ5_grow 98 = .ok (.isub, 1) := dk_100 (dk_at dksJ5_grow_4 5 rfl rfl)
theorem dJ5_grow_99 : decode cJ5_grow 99 = .ok (.istore 6, 2) := dk_54 6 (dk_at dksJ5_grow_4 6 rfl rfl)
theorem dJ5_grow_101 : decode cJ5_grow 101 = .ok (.aload 5, 2) := dk_25 5 (dk_at dksJ5_grow_4 8 rfl rfl)
theorem dJ5_grow_103 : decode cJ5_grow 103 = .ok (.aload_n 0, 1) := dk_42 (dk_at dksJ5_grow_4 10 rfl rfl)
theorem dJ5_grow_104 : decode cJ5_grow 104 = .ok (.getfield 24, 3) := dk_180 0 24 (dk_at dksJ5_grow_4 11 rfl rfl)
theorem dJ5_grow_107 : decode cJ5_grow 107 = .ok (.aload 5, 2) := dk_25 5 (dk_at dksJ5_grow_4 14 rfl rfl)
theorem dJ5_grow_109 : decode cJ5_grow 109 = .ok (.aload_n 0, 1) := dk_42 (dk_at dksJ5_grow_4 16 rfl rfl)
theorem dJ5_grow_110 : decode cJ5_grow 110 = .ok (.getfield 24, 3) := dk_180 0 24 (dk_at dksJ5_grow_4 17 rfl rfl)
theorem dJ5_grow_113 : decode cJ5_grow 113 = .ok (.iload 6, 2) := dk_21 6 (dk_at dksJ5_grow_4 20 rfl rfl)
theorem dJ5_grow_115 : decode cJ5_grow 115 = .ok (.iadd, 1) := dk_96 (dk_at dksJ5_grow_4 22 rfl rfl)
theorem dJ5_grow_116 : decode cJ5_grow 116 = .ok (.iload_n 2, 1) := dk_28 (dk_at dksJ5_grow_4 23 rfl rfl)
theorem dJ5_grow_117 : decode cJ5_grow 117 = .ok (.aload_n 0, 1) := dk_42 (dk_at dksJ5_grow_5 0 rfl rfl)
theorem dJ5_grow_118 : decode cJ5_grow 118 = .ok (.getfield 24, 3) := dk_180 0 24 (dk_at dksJ5_grow_5 1 rfl rfl)
theorem dJ5_grow_121 : decode cJ5_grow 121 = .ok (.isub, 1) := dk_100 (dk_at dksJ5_grow_5 4 rfl rfl)
theorem dJ5_grow_122 : decode cJ5_grow 122 = .ok (.invokestatic 27, 3) := dk_184 0 27 (dk_at dksJ5_grow_5 5 rfl rfl)
theorem dJ5_grow_125 : decode cJ5_grow 125 = .ok (.aload_n 0, 1) := dk_42 (dk_at dksJ5_grow_5 8 rfl rfl)
theorem dJ5_grow_126 : decode cJ5_grow 126 = .ok (.getfield 24, 3) := dk_180 0 24 (dk_at dksJ5_grow_5 9 rfl rfl)
theorem dJ5_grow_129 : decode cJ5_grow 129 = .ok (.istore 7, 2) := dk_54 7 (dk_at dksJ5_grow_5 12 rfl rfl)
theorem dJ5_grow_131 : decode cJ5_grow 131 = .ok (.aload_n 0, 1) := dk_42 (dk_at dksJ5_grow_5 14 rfl rfl)
theorem dJ5_grow_132 : decode cJ5_grow 132 = .ok (.dup, 1) := dk_89 (dk_at dksJ5_grow_5 15 rfl rfl)
theorem dJ5_grow_133 : decode cJ5_grow 133 = .ok (.getfield 24, 3) := dk_180 0 24 (dk_at dksJ5_grow_5 16 rfl rfl)
theorem dJ5_grow_136 : decode cJ5_grow 136 = .ok (.iload 6, 2) := dk_21 6 (dk_at dksJ5_grow_5 19 rfl rfl)
theorem dJ5_grow_138 : decode cJ5_grow 138 = .ok (.iadd, 1) := dk_96 (dk_at dksJ5_grow_5 21 rfl rfl)
theorem dJ5_grow_139 : decode cJ5_grow 139 = .ok (.dup_x1, 1) := dk_90 (dk_at dksJ5_grow_5 22 rfl rfl)
theorem dJ5_grow_140 : decode cJ5_grow 140 = .ok (.putfield 24, 3) := dk_181 0 24 (dk_at dksJ5_grow_6 0 rfl rfl)
theorem dJ5_grow_143 : decode cJ5_grow 143 = .ok (.istore 8, 2) := dk_54 8 (dk_at dksJ5_grow_6 3 rfl rfl)
theorem dJ5_grow_145 : decode cJ5_grow 145 = .ok (.iload 7, 2) := dk_21 7 (dk_at dksJ5_grow_6 5 rfl rfl)
theorem dJ5_grow_147 : decode cJ5_grow 147 = .ok (.iload 8, 2) := dk_21 8 (dk_at dksJ5_grow_6 7 rfl rfl)
theorem dJ5_grow_149 : decode cJ5_grow 149 = .ok (.if_icmp .ge 15, 3) := dk_162 0 15 (dk_at dksJ5_grow_6 9 rfl rfl)
theorem dJ5_grow_152 : decode cJ5_grow 152 = .ok (.aload 5, 2) := dk_25 5 (dk_at dksJ5_grow_6 12 rfl rfl)
theorem dJ5_grow_154 : decode cJ5_grow 154 = .ok (.iload 7, 2) := dk_21 7 (dk_at dksJ5_grow_6 14 rfl rfl)
theorem dJ5_grow_156 : decode cJ5_grow 156 = .ok (.aconst_null, 1) := dk_1 (dk_at dksJ5_grow_6 16 rfl rfl)
theorem dJ5_grow_157 : decode cJ5_grow 157 = .ok (.aastore, 1) := dk_83 (dk_at dksJ5_grow_6 17 rfl rfl)
theorem dJ5_grow_158 : decode cJ5_grow 158 = .ok (.iinc 7 1, 3) := dk_132 7 1 (dk_at dksJ5_grow_6 18 rfl rfl)
theorem dJ5_grow_161 : decode cJ5_grow 161 = .ok (.goto (-16), 3) := dk_167 255 240 (dk_at dksJ5_grow_6 21 rfl rfl)
theorem dJ5_grow_164 : decode cJ5_grow 164 = .ok (.return_, 1) := dk_177 (dk_at dksJ5_grow_7 0 rfl rfl)
abbrev cJ5_newCapacity : ByteArray := prog_46_method_2_code
def yJ5_newCapacity : MethodName := ⟨RJ5, "newCapacity", "(II)I"⟩
def dkwJ5_newCapacity_2 : List UInt8 := [18, 9, 100, 156, 0, 9, 29, 28, 96, 167, 0, 5, 18, 9, 172]
abbrev dktJ5_newCapacity_2 : List UInt8 := dkwJ5_newCapacity_2 ++ []
def dkwJ5_newCapacity_1 : List UInt8 := [187, 0, 33, 89, 18, 35, 183, 0, 37, 191, 18, 41, 172, 27, 28, 164, 0, 6, 21, 4, 172, 29, 28, 96]
abbrev dktJ5_newCapacity_1 : List UInt8 := dkwJ5_newCapacity_1 ++ dktJ5_newCapacity_2
def dkwJ5_newCapacity_0 : List UInt8 := [42, 180, 0, 3, 190, 62, 29, 27, 96, 89, 54, 4, 18, 9, 100, 158, 0, 21, 21, 4, 156, 0, 13]
abbrev dktJ5_newCapacity_0 : List UInt8 := dkwJ5_newCapacity_0 ++ dktJ5_newCapacity_1
theorem dksJ5_newCapacity_0 : cJ5_newCapacity.data.toList.drop 0 = dktJ5_newCapacity_0 := by decide +kernel
theorem dksJ5_newCapacity_1 : cJ5_newCapacity.data.toList.drop 23 = dktJ5_newCapacity_1 := dk_seg dksJ5_newCapacity_0 23 rfl rfl
theorem dksJ5_newCapacity_2 : cJ5_newCapacity.data.toList.drop 47 = dktJ5_newCapacity_2 := dk_seg dksJ5_newCapacity_1 24 rfl rfl
theorem dJ5_newCapacity_0 : decode cJ5_newCapacity 0 = .ok (.aload_n 0, 1) := dk_42 (dk_at dksJ5_newCapacity_0 0 rfl rfl)
theorem dJ5_newCapacity_1 : decode cJ5_newCapacity 1 = .ok (.getfield 3, 3) := dk_180 0 3 (dk_at dksJ5_newCapacity_0 1 rfl rfl)
theorem dJ5_newCapacity_4 : decode cJ5_newCapacity 4 = .ok (.arraylength, 1) := dk_190 (dk_at dksJ5_newCapacity_0 4 rfl rfl)
theorem dJ5_newCapacity_5 : decode cJ5_newCapacity 5 = .ok (.istore_n 3, 1) := dk_62 (dk_at dksJ5_newCapacity_0 5 rfl rfl)
theorem dJ5_newCapacity_6 : decode cJ5_newCapacity 6 = .ok (.iload_n 3, 1) := dk_29 (dk_at dksJ5_newCapacity_0 6 rfl rfl)
theorem dJ5_newCapacity_7 : decode cJ5_newCapacity 7 = .ok (.iload_n 1, 1) := dk_27 (dk_at dksJ5_newCapacity_0 7 rfl rfl)
theorem dJ5_newCapacity_8 : decode cJ5_newCapacity 8 = .ok (.iadd, 1) := dk_96 (dk_at dksJ5_newCapacity_0 8 rfl rfl)
theorem dJ5_newCapacity_9 : decode cJ5_newCapacity 9 = .ok (.dup, 1) := dk_89 (dk_at dksJ5_newCapacity_0 9 rfl rfl)
theorem dJ5_newCapacity_10 : decode cJ5_newCapacity 10 = .ok (.istore 4, 2) := dk_54 4 (dk_at dksJ5_newCapacity_0 10 rfl rfl)
theorem dJ5_newCapacity_12 : decode cJ5_newCapacity 12 = .ok (.ldc 9, 2) := dk_18 9 (dk_at dksJ5_newCapacity_0 12 rfl rfl)
theorem dJ5_newCapacity_14 : decode cJ5_newCapacity 14 = .ok (.isub, 1) := dk_100 (dk_at dksJ5_newCapacity_0 14 rfl rfl)
theorem dJ5_newCapacity_15 : decode cJ5_newCapacity 15 = .ok (.ifCond .le 21, 3) := dk_158 0 21 (dk_at dksJ5_newCapacity_0 15 rfl rfl)
theorem dJ5_newCapacity_18 : decode cJ5_newCapacity 18 = .ok (.iload 4, 2) := dk_21 4 (dk_at dksJ5_newCapacity_0 18 rfl rfl)
theorem dJ5_newCapacity_20 : decode cJ5_newCapacity 20 = .ok (.ifCond .ge 13, 3) := dk_156 0 13 (dk_at dksJ5_newCapacity_0 20 rfl rfl)
theorem dJ5_newCapacity_23 : decode cJ5_newCapacity 23 = .ok (.new 33, 3) := dk_187 0 33 (dk_at dksJ5_newCapacity_1 0 rfl rfl)
theorem dJ5_newCapacity_26 : decode cJ5_newCapacity 26 = .ok (.dup, 1) := dk_89 (dk_at dksJ5_newCapacity_1 3 rfl rfl)
theorem dJ5_newCapacity_27 : decode cJ5_newCapacity 27 = .ok (.ldc 35, 2) := dk_18 35 (dk_at dksJ5_newCapacity_1 4 rfl rfl)
theorem dJ5_newCapacity_29 : decode cJ5_newCapacity 29 = .ok (.invokespecial 37, 3) := dk_183 0 37 (dk_at dksJ5_newCapacity_1 6 rfl rfl)
theorem dJ5_newCapacity_32 : decode cJ5_newCapacity 32 = .ok (.athrow, 1) := dk_191 (dk_at dksJ5_newCapacity_1 9 rfl rfl)
theorem dJ5_newCapacity_33 : decode cJ5_newCapacity 33 = .ok (.ldc 41, 2) := dk_18 41 (dk_at dksJ5_newCapacity_1 10 rfl rfl)
theorem dJ5_newCapacity_35 : decode cJ5_newCapacity 35 = .ok (.ireturn, 1) := dk_172 (dk_at dksJ5_newCapacity_1 12 rfl rfl)
theorem dJ5_newCapacity_36 : decode cJ5_newCapacity 36 = .ok (.iload_n 1, 1) := dk_27 (dk_at dksJ5_newCapacity_1 13 rfl rfl)
theorem dJ5_newCapacity_37 : decode cJ5_newCapacity 37 = .ok (.iload_n 2, 1) := dk_28 (dk_at dksJ5_newCapacity_1 14 rfl rfl)
theorem dJ5_newCapacity_38 : decode cJ5_newCapacity 38 = .ok (.if_icmp .le 6, 3) := dk_164 0 6 (dk_at dksJ5_newCapacity_1 15 rfl rfl)
theorem dJ5_newCapacity_41 : decode cJ5_newCapacity 41 = .ok (.iload 4, 2) := dk_21 4 (dk_at dksJ5_newCapacity_1 18 rfl rfl)
theorem dJ5_newCapacity_43 : decode cJ5_newCapacity 43 = .ok (.ireturn, 1) := dk_172 (dk_at dksJ5_newCapacity_1 20 rfl rfl)
theorem dJ5_newCapacity_44 : decode cJ5_newCapacity 44 = .ok (.iload_n 3, 1) := dk_29 (dk_at dksJ5_newCapacity_1 21 rfl rfl)
theorem dJ5_newCapacity_45 : decode cJ5_newCapacity 45 = .ok (.iload_n 2, 1) := dk_28 (dk_at dksJ5_newCapacity_1 22 rfl rfl)
theorem dJ5_newCapacity_46 : decode cJ5_newCapacity 46 = .ok (.iadd, 1) := dk_96 (dk_at dksJ5_newCapacity_1 23 rfl rfl)
theorem dJ5_newCapacity_47 : decode cJ5_newCapacity 47 = .ok (.ldc 9, 2) := dk_18 9 (dk_at dksJ5_newCapacity_2 0 rfl rfl)
theorem dJ5_newCapacity_49 : decode cJ5_newCapacity 49 = .ok (.isub, 1) := dk_100 (dk_at dksJ5_newCapacity_2 2 rfl rfl)
theorem dJ5_newCapacity_50 : decode cJ5_newCapacity 50 = .ok (.ifCond .ge 9, 3) := dk_156 0 9 (dk_at dksJ5_newCapacity_2 3 rfl rfl)
theorem dJ5_newCapacity_53 : decode cJ5_newCapacity 53 = .ok (.iload_n 3, 1) := dk_29 (dk_at dksJ5_newCapacity_2 6 rfl rfl)
theorem dJ5_newCapacity_54 : decode cJ5_newCapacity 54 = .ok (.iload_n 2, 1) := dk_28 (dk_at dksJ5_newCapacity_2 7 rfl rfl)
theorem dJ5_newCapacity_55 : decode cJ5_newCapacity 55 = .ok (.iadd, 1) := dk_96 (dk_at dksJ5_newCapacity_2 8 rfl rfl)
theorem dJ5_newCapacity_56 : decode cJ5_newCapacity 56 = .ok (.goto 5, 3) := dk_167 0 5 (dk_at dksJ5_newCapacity_2 9 rfl rfl)
theorem dJ5_newCapacity_59 : decode cJ5_newCapacity 59 = .ok (.ldc 9, 2) := dk_18 9 (dk_at dksJ5_newCapacity_2 12 rfl rfl)
theorem dJ5_newCapacity_61 : decode cJ5_newCapacity 61 = .ok (.ireturn, 1) := dk_172 (dk_at dksJ5_newCapacity_2 14 rfl rfl)
abbrev cJ5_removeFirst : ByteArray := prog_46_method_18_code
def yJ5_removeFirst : MethodName := ⟨RJ5, "removeFirst", "()Ljava/lang/Object;"⟩
def dkwJ5_removeFirst_0 : List UInt8 := [42, 182, 0, 93, 76, 43, 199, 0, 11, 187, 0, 97, 89, 183, 0, 99, 191, 43, 176]
abbrev dktJ5_removeFirst_0 : List UInt8 := dkwJ5_removeFirst_0 ++ []
theorem dksJ5_removeFirst_0 : cJ5_removeFirst.data.toList.drop 0 = dktJ5_removeFirst_0 := by decide +kernel
theorem dJ5_removeFirst_0 : decode cJ5_removeFirst 0 = .ok (.aload_n 0, 1) := dk_42 (dk_at dksJ5_removeFirst_0 0 rfl rfl)
theorem dJ5_removeFirst_1 : decode cJ5_removeFirst 1 = .ok (.invokevirtual 93, 3) := dk_182 0 93 (dk_at dksJ5_removeFirst_0 1 rfl rfl)
theorem dJ5_removeFirst_4 : decode cJ5_removeFirst 4 = .ok (.astore_n 1, 1) := dk_76 (dk_at dksJ5_removeFirst_0 4 rfl rfl)
theorem dJ5_removeFirst_5 : decode cJ5_removeFirst 5 = .ok (.aload_n 1, 1) := dk_43 (dk_at dksJ5_removeFirst_0 5 rfl rfl)
theorem dJ5_removeFirst_6 : decode cJ5_removeFirst 6 = .ok (.ifnonnull 11, 3) := dk_199 0 11 (dk_at dksJ5_removeFirst_0 6 rfl rfl)
theorem dJ5_removeFirst_9 : decode cJ5_removeFirst 9 = .ok (.new 97, 3) := dk_187 0 97 (dk_at dksJ5_removeFirst_0 9 rfl rfl)
theorem dJ5_removeFirst_12 : decode cJ5_removeFirst 12 = .ok (.dup, 1) := dk_89 (dk_at dksJ5_removeFirst_0 12 rfl rfl)
theorem dJ5_removeFirst_13 : decode cJ5_removeFirst 13 = .ok (.invokespecial 99, 3) := dk_183 0 99 (dk_at dksJ5_removeFirst_0 13 rfl rfl)
theorem dJ5_removeFirst_16 : decode cJ5_removeFirst 16 = .ok (.athrow, 1) := dk_191 (dk_at dksJ5_removeFirst_0 16 rfl rfl)
theorem dJ5_removeFirst_17 : decode cJ5_removeFirst 17 = .ok (.aload_n 1, 1) := dk_43 (dk_at dksJ5_removeFirst_0 17 rfl rfl)
theorem dJ5_removeFirst_18 : decode cJ5_removeFirst 18 = .ok (.areturn, 1) := dk_176 (dk_at dksJ5_removeFirst_0 18 rfl rfl)
abbrev cJ5_pollFirst : ByteArray := prog_46_method_20_code
def yJ5_pollFirst : MethodName := ⟨RJ5, "pollFirst", "()Ljava/lang/Object;"⟩
def dkwJ5_pollFirst_1 : List UInt8 := [42, 28, 43, 190, 184, 0, 74, 181, 0, 24, 45, 176]
abbrev dktJ5_pollFirst_1 : List UInt8 := dkwJ5_pollFirst_1 ++ []
def dkwJ5_pollFirst_0 : List UInt8 := [42, 180, 0, 3, 89, 76, 42, 180, 0, 24, 89, 61, 184, 0, 103, 78, 45, 198, 0, 17, 43, 28, 1, 83]
abbrev dktJ5_pollFirst_0 : List UInt8 := dkwJ5_pollFirst_0 ++ dktJ5_pollFirst_1
theorem dksJ5_pollFirst_0 : cJ5_pollFirst.data.toList.drop 0 = dktJ5_pollFirst_0 := by decide +kernel
theorem dksJ5_pollFirst_1 : cJ5_pollFirst.data.toList.drop 24 = dktJ5_pollFirst_1 := dk_seg dksJ5_pollFirst_0 24 rfl rfl
theorem dJ5_pollFirst_0 : decode cJ5_pollFirst 0 = .ok (.aload_n 0, 1) := dk_42 (dk_at dksJ5_pollFirst_0 0 rfl rfl)
theorem dJ5_pollFirst_1 : decode cJ5_pollFirst 1 = .ok (.getfield 3, 3) := dk_180 0 3 (dk_at dksJ5_pollFirst_0 1 rfl rfl)
theorem dJ5_pollFirst_4 : decode cJ5_pollFirst 4 = .ok (.dup, 1) := dk_89 (dk_at dksJ5_pollFirst_0 4 rfl rfl)
theorem dJ5_pollFirst_5 : decode cJ5_pollFirst 5 = .ok (.astore_n 1, 1) := dk_76 (dk_at dksJ5_pollFirst_0 5 rfl rfl)
theorem dJ5_pollFirst_6 : decode cJ5_pollFirst 6 = .ok (.aload_n 0, 1) := dk_42 (dk_at dksJ5_pollFirst_0 6 rfl rfl)
theorem dJ5_pollFirst_7 : decode cJ5_pollFirst 7 = .ok (.getfield 24, 3) := dk_180 0 24 (dk_at dksJ5_pollFirst_0 7 rfl rfl)
theorem dJ5_pollFirst_10 : decode cJ5_pollFirst 10 = .ok (.dup, 1) := dk_89 (dk_at dksJ5_pollFirst_0 10 rfl rfl)
theorem dJ5_pollFirst_11 : decode cJ5_pollFirst 11 = .ok (.istore_n 2, 1) := dk_61 (dk_at dksJ5_pollFirst_0 11 rfl rfl)
theorem dJ5_pollFirst_12 : decode cJ5_pollFirst 12 = .ok (.invokestatic 103, 3) := dk_184 0 103 (dk_at dksJ5_pollFirst_0 12 rfl rfl)
theorem dJ5_pollFirst_15 : decode cJ5_pollFirst 15 = .ok (.astore_n 3, 1) := dk_78 (dk_at dksJ5_pollFirst_0 15 rfl rfl)
theorem dJ5_pollFirst_16 : decode cJ5_pollFirst 16 = .ok (.aload_n 3, 1) := dk_45 (dk_at dksJ5_pollFirst_0 16 rfl rfl)
theorem dJ5_pollFirst_17 : decode cJ5_pollFirst 17 = .ok (.ifnull 17, 3) := dk_198 0 17 (dk_at dksJ5_pollFirst_0 17 rfl rfl)
theorem dJ5_pollFirst_20 : decode cJ5_pollFirst 20 = .ok (.aload_n 1, 1) := dk_43 (dk_at dksJ5_pollFirst_0 20 rfl rfl)
theorem dJ5_pollFirst_21 : decode cJ5_pollFirst 21 = .ok (.iload_n 2, 1) := dk_28 (dk_at dksJ5_pollFirst_0 21 rfl rfl)
theorem dJ5_pollFirst_22 : decode cJ5_pollFirst 22 = .ok (.aconst_null, 1) := dk_1 (dk_at dksJ5_pollFirst_0 22 rfl rfl)
theorem dJ5_pollFirst_23 : decode cJ5_pollFirst 23 = .ok (.aastore, 1) := dk_83 (dk_at dksJ5_pollFirst_0 23 rfl rfl)
theorem dJ5_pollFirst_24 : decode cJ5_pollFirst 24 = .ok (.aload_n 0, 1) := dk_42 (dk_at dksJ5_pollFirst_1 0 rfl rfl)
theorem dJ5_pollFirst_25 : decode cJ5_pollFirst 25 = .ok (.iload_n 2, 1) := dk_28 (dk_at dksJ5_pollFirst_1 1 rfl rfl)
theorem dJ5_pollFirst_26 : decode cJ5_pollFirst 26 = .ok (.aload_n 1, 1) := dk_43 (dk_at dksJ5_pollFirst_1 2 rfl rfl)
theorem dJ5_pollFirst_27 : decode cJ5_pollFirst 27 = .ok (.arraylength, 1) := dk_190 (dk_at dksJ5_pollFirst_1 3 rfl rfl)
theorem dJ5_pollFirst_28 : decode cJ5_pollFirst 28 = .ok (.invokestatic 74, 3) := dk_184 0 74 (dk_at dksJ5_pollFirst_1 4 rfl rfl)
theorem dJ5_pollFirst_31 : decode cJ5_pollFirst 31 = .ok (.putfield 24, 3) := dk_181 0 24 (dk_at dksJ5_pollFirst_1 7 rfl rfl)
theorem dJ5_pollFirst_34 : decode cJ5_pollFirst 34 = .ok (.aload_n 3, 1) := dk_45 (dk_at dksJ5_pollFirst_1 10 rfl rfl)
theorem dJ5_pollFirst_35 : decode cJ5_pollFirst 35 = .ok (.areturn, 1) := dk_176 (dk_at dksJ5_pollFirst_1 11 rfl rfl)
abbrev cJ5_elementAt : ByteArray := prog_46_method_10_code
def yJ5_elementAt : MethodName := ⟨RJ5, "elementAt", "([Ljava/lang/Object;I)Ljava/lang/Object;"⟩
def dkwJ5_elementAt_0 : List UInt8 := [42, 27, 50, 176]
abbrev dktJ5_elementAt_0 : List UInt8 := dkwJ5_elementAt_0 ++ []
theorem dksJ5_elementAt_0 : cJ5_elementAt.data.toList.drop 0 = dktJ5_elementAt_0 := by decide +kernel
theorem dJ5_elementAt_0 : decode cJ5_elementAt 0 = .ok (.aload_n 0, 1) := dk_42 (dk_at dksJ5_elementAt_0 0 rfl rfl)
theorem dJ5_elementAt_1 : decode cJ5_elementAt 1 = .ok (.iload_n 1, 1) := dk_27 (dk_at dksJ5_elementAt_0 1 rfl rfl)
theorem dJ5_elementAt_2 : decode cJ5_elementAt 2 = .ok (.aaload, 1) := dk_50 (dk_at dksJ5_elementAt_0 2 rfl rfl)
theorem dJ5_elementAt_3 : decode cJ5_elementAt 3 = .ok (.areturn, 1) := dk_176 (dk_at dksJ5_elementAt_0 3 rfl rfl)
abbrev cJ5_delete : ByteArray := prog_46_method_36_code
def yJ5_delete : MethodName := ⟨RJ5, "delete", "(I)Z"⟩
def dkwJ5_delete_8 : List UInt8 := [4, 172]
abbrev dktJ5_delete_8 : List UInt8 := dkwJ5_delete_8 ++ []
def dkwJ5_delete_7 : List UInt8 := [4, 100, 44, 3, 50, 83, 44, 4, 44, 3, 21, 5, 4, 100, 184, 0, 27, 44, 42, 180, 0, 20, 1, 83]
abbrev dktJ5_delete_7 : List UInt8 := dkwJ5_delete_7 ++ dktJ5_delete_8
def dkwJ5_delete_6 : List UInt8 := [21, 7, 184, 0, 27, 167, 0, 36, 44, 27, 4, 96, 44, 27, 29, 27, 4, 96, 100, 184, 0, 27, 44, 29]
abbrev dktJ5_delete_6 : List UInt8 := dkwJ5_delete_6 ++ dktJ5_delete_7
def dkwJ5_delete_5 : List UInt8 := [21, 5, 29, 184, 0, 68, 181, 0, 20, 27, 42, 180, 0, 20, 163, 0, 17, 44, 27, 4, 96, 44, 27]
abbrev dktJ5_delete_5 : List UInt8 := dkwJ5_delete_5 ++ dktJ5_delete_6
def dkwJ5_delete_4 : List UInt8 := [96, 100, 184, 0, 27, 44, 21, 4, 1, 83, 42, 21, 4, 29, 184, 0, 74, 181, 0, 24, 3, 172, 42]
abbrev dktJ5_delete_4 : List UInt8 := dkwJ5_delete_4 ++ dktJ5_delete_5
def dkwJ5_delete_3 : List UInt8 := [27, 184, 0, 27, 44, 3, 44, 29, 4, 100, 50, 83, 44, 21, 4, 44, 21, 4, 4, 96, 21, 6, 27, 4]
abbrev dktJ5_delete_3 : List UInt8 := dkwJ5_delete_3 ++ dktJ5_delete_4
def dkwJ5_delete_2 : List UInt8 := [27, 163, 0, 19, 44, 21, 4, 44, 21, 4, 4, 96, 21, 6, 184, 0, 27, 167, 0, 36, 44, 3, 44, 4]
abbrev dktJ5_delete_2 : List UInt8 := dkwJ5_delete_2 ++ dktJ5_delete_3
def dkwJ5_delete_1 : List UInt8 := [180, 0, 20, 89, 54, 5, 27, 29, 184, 0, 127, 4, 100, 54, 7, 21, 6, 21, 7, 162, 0, 75, 21, 4]
abbrev dktJ5_delete_1 : List UInt8 := dkwJ5_delete_1 ++ dktJ5_delete_2
def dkwJ5_delete_0 : List UInt8 := [42, 180, 0, 3, 77, 44, 190, 62, 27, 42, 180, 0, 24, 89, 54, 4, 29, 184, 0, 127, 54, 6, 42]
abbrev dktJ5_delete_0 : List UInt8 := dkwJ5_delete_0 ++ dktJ5_delete_1
theorem dksJ5_delete_0 : cJ5_delete.data.toList.drop 0 = dktJ5_delete_0 := by decide +kernel
theorem dksJ5_delete_1 : cJ5_delete.data.toList.drop 23 = dktJ5_delete_1 := dk_seg dksJ5_delete_0 23 rfl rfl
theorem dksJ5_delete_2 : cJ5_delete.data.toList.drop 47 = dktJ5_delete_2 := dk_seg dksJ5_delete_1 24 rfl rfl
theorem dksJ5_delete_3 : cJ5_delete.data.toList.drop 71 = dktJ5_delete_3 := dk_seg dksJ5_delete_2 24 rfl rfl
theorem dksJ5_delete_4 : cJ5_delete.data.toList.drop 95 = dktJ5_delete_4 := dk_seg dksJ5_delete_3 24 rfl rfl
theorem dksJ5_delete_5 : cJ5_delete.data.toList.drop 118 = dktJ5_delete_5 := dk_seg dksJ5_delete_4 23 rfl rfl
theorem dksJ5_delete_6 : cJ5_delete.data.toList.drop 141 = dktJ5_delete_6 := dk_seg dksJ5_delete_5 23 rfl rfl
theorem dksJ5_delete_7 : cJ5_delete.data.toList.drop 165 = dktJ5_delete_7 := dk_seg dksJ5_delete_6 24 rfl rfl
theorem dksJ5_delete_8 : cJ5_delete.data.toList.drop 189 = dktJ5_delete_8 := dk_seg dksJ5_delete_7 24 rfl rfl
theorem dJ5_delete_0 : decode cJ5_delete 0 = .ok (.aload_n 0, 1) := dk_42 (dk_at dksJ5_delete_0 0 rfl rfl)
theorem dJ5_delete_1 : decode cJ5_delete 1 = .ok (.getfield 3, 3) := dk_180 0 3 (dk_at dksJ5_delete_0 1 rfl rfl)
theorem dJ5_delete_4 : decode cJ5_delete 4 = .ok (.astore_n 2, 1) := dk_77 (dk_at dksJ5_delete_0 4 rfl rfl)
theorem dJ5_delete_5 : decode cJ5_delete 5 = .ok (.aload_n 2, 1) := dk_44 (dk_at dksJ5_delete_0 5 rfl rfl)
theorem dJ5_delete_6 : decode cJ5_delete 6 = .ok (.arraylength, 1) := dk_190 (dk_at dksJ5_delete_0 6 rfl rfl)
theorem dJ5_delete_7 : decode cJ5_delete 7 = .ok (.istore_n 3, 1) := dk_62 (dk_at dksJ5_delete_0 7 rfl rfl)
theorem dJ5_delete_8 : decode cJ5_delete 8 = .ok (.iload_n 1, 1) := dk_27 (dk_at dksJ5_delete_0 8 rfl rfl)
theorem dJ5_delete_9 : decode cJ5_delete 9 = .ok (.aload_n 0, 1) := dk_42 (dk_at dksJ5_delete_0 9 rfl rfl)
theorem dJ5_delete_10 : decode cJ5_delete 10 = .ok (.getfield 24, 3) := dk_180 0 24 (dk_at dksJ5_delete_0 10 rfl rfl)
theorem dJ5_delete_13 : decode cJ5_delete 13 = .ok (.dup, 1) := dk_89 (dk_at dksJ5_delete_0 13 rfl rfl)
theorem dJ5_delete_14 : decode cJ5_delete 14 = .ok (.istore 4, 2) := dk_54 4 (dk_at dksJ5_delete_0 14 rfl rfl)
theorem dJ5_delete_16 : decode cJ5_delete 16 = .ok (.iload_n 3, 1) := dk_29 (dk_at dksJ5_delete_0 16 rfl rfl)
theorem dJ5_delete_17 : decode cJ5_delete 17 = .ok (.invokestatic 127, 3) := dk_184 0 127 (dk_at dksJ5_delete_0 17 rfl rfl)
theorem dJ5_delete_20 : decode cJ5_delete 20 = .ok (.istore 6, 2) := dk_54 6 (dk_at dksJ5_delete_0 20 rfl rfl)
theorem dJ5_delete_22 : decode cJ5_delete 22 = .ok (.aload_n 0, 1) := dk_42 (dk_at dksJ5_delete_0 22 rfl rfl)
theorem dJ5_delete_23 : decode cJ5_delete 23 = .ok (.getfield 20, 3) := dk_180 0 20 (dk_at dksJ5_delete_1 0 rfl rfl)
theorem dJ5_delete_26 : decode cJ5_delete 26 = .ok (.dup, 1) := dk_89 (dk_at dksJ5_delete_1 3 rfl rfl)
theorem dJ5_delete_27 : decode cJ5_delete 27 = .ok (.istore 5, 2) := dk_54 5 (dk_at dksJ5_delete_1 4 rfl rfl)
theorem dJ5_delete_29 : decode cJ5_delete 29 = .ok (.iload_n 1, 1) := dk_27 (dk_at dksJ5_delete_1 6 rfl rfl)
theorem dJ5_delete_30 : decode cJ5_delete 30 = .ok (.iload_n 3, 1) := dk_29 (dk_at dksJ5_delete_1 7 rfl rfl)
theorem dJ5_delete_31 : decode cJ5_delete 31 = .ok (.invokestatic 127, 3) := dk_184 0 127 (dk_at dksJ5_delete_1 8 rfl rfl)
theorem dJ5_delete_34 : decode cJ5_delete 34 = .ok (.iconst 1, 1) := dk_4 (dk_at dksJ5_delete_1 11 rfl rfl)
theorem dJ5_delete_35 : decode cJ5_delete 35 = .ok (.isub, 1) := dk_100 (dk_at dksJ5_delete_1 12 rfl rfl)
theorem dJ5_delete_36 : decode cJ5_delete 36 = .ok (.istore 7, 2) := dk_54 7 (dk_at dksJ5_delete_1 13 rfl rfl)
theorem dJ5_delete_38 : decode cJ5_delete 38 = .ok (.iload 6, 2) := dk_21 6 (dk_at dksJ5_delete_1 15 rfl rfl)
theorem dJ5_delete_40 : decode cJ5_delete 40 = .ok (.iload 7, 2) := dk_21 7 (dk_at dksJ5_delete_1 17 rfl rfl)
theorem dJ5_delete_42 : decode cJ5_delete 42 = .ok (.if_icmp .ge 75, 3) := dk_162 0 75 (dk_at dksJ5_delete_1 19 rfl rfl)
theorem dJ5_delete_45 : decode cJ5_delete 45 = .ok (.iload 4, 2) := dk_21 4 (dk_at dksJ5_delete_1 22 rfl rfl)
theorem dJ5_delete_47 : decode cJ5_delete 47 = .ok (.iload_n 1, 1) := dk_27 (dk_at dksJ5_delete_2 0 rfl rfl)
theorem dJ5_delete_48 : decode cJ5_delete 48 = .ok (.if_icmp .gt 19, 3) := dk_163 0 19 (dk_at dksJ5_delete_2 1 rfl rfl)
theorem dJ5_delete_51 : decode cJ5_delete 51 = .ok (.aload_n 2, 1) := dk_44 (dk_at dksJ5_delete_2 4 rfl rfl)
theorem dJ5_delete_52 : decode cJ5_delete 52 = .ok (.iload 4, 2) := dk_21 4 (dk_at dksJ5_delete_2 5 rfl rfl)
theorem dJ5_delete_54 : decode cJ5_delete 54 = .ok (.aload_n 2, 1) := dk_44 (dk_at dksJ5_delete_2 7 rfl rfl)
theorem dJ5_delete_55 : decode cJ5_delete 55 = .ok (.iload 4, 2) := dk_21 4 (dk_at dksJ5_delete_2 8 rfl rfl)
theorem dJ5_delete_57 : decode cJ5_delete 57 = .ok (.iconst 1, 1) := dk_4 (dk_at dksJ5_delete_2 10 rfl rfl)
theorem dJ5_delete_58 : decode cJ5_delete 58 = .ok (.iadd, 1) := dk_96 (dk_at dksJ5_delete_2 11 rfl rfl)
theorem dJ5_delete_59 : decode cJ5_delete 59 = .ok (.iload 6, 2) := dk_21 6 (dk_at dksJ5_delete_2 12 rfl rfl)
theorem dJ5_delete_61 : decode cJ5_delete 61 = .ok (.invokestatic 27, 3) := dk_184 0 27 (dk_at dksJ5_delete_2 14 rfl rfl)
theorem dJ5_delete_64 : decode cJ5_delete 64 = .ok (.goto 36, 3) := dk_167 0 36 (dk_at dksJ5_delete_2 17 rfl rfl)
theorem dJ5_delete_67 : decode cJ5_delete 67 = .ok (.aload_n 2, 1) := dk_44 (dk_at dksJ5_delete_2 20 rfl rfl)
theorem dJ5_delete_68 : decode cJ5_delete 68 = .ok (.iconst 0, 1) := dk_3 (dk_at dksJ5_delete_2 21 rfl rfl)
theorem dJ5_delete_69 : decode cJ5_delete 69 = .ok (.aload_n 2, 1) := dk_44 (dk_at dksJ5_delete_2 22 rfl rfl)
theorem dJ5_delete_70 : decode cJ5_delete 70 = .ok (.iconst 1, 1) := dk_4 (dk_at dksJ5_delete_2 23 rfl rfl)
theorem dJ5_delete_71 : decode cJ5_delete 71 = .ok (.iload_n 1, 1) := dk_27 (dk_at dksJ5_delete_3 0 rfl rfl)
theorem dJ5_delete_72 : decode cJ5_delete 72 = .ok (.invokestatic 27, 3) := dk_184 0 27 (dk_at dksJ5_delete_3 1 rfl rfl)
theorem dJ5_delete_75 : decode cJ5_delete 75 = .ok (.aload_n 2, 1) := dk_44 (dk_at dksJ5_delete_3 4 rfl rfl)
theorem dJ5_delete_76 : decode cJ5_delete 76 = .ok (.iconst 0, 1) := dk_3 (dk_at dksJ5_delete_3 5 rfl rfl)
theorem dJ5_delete_77 : decode cJ5_delete 77 = .ok (.aload_n 2, 1) := dk_44 (dk_at dksJ5_delete_3 6 rfl rfl)
theorem dJ5_delete_78 : decode cJ5_delete 78 = .ok (.iload_n 3, 1) := dk_29 (dk_at dksJ5_delete_3 7 rfl rfl)
theorem dJ5_delete_79 : decode cJ5_delete 79 = .ok (.iconst 1, 1) := dk_4 (dk_at dksJ5_delete_3 8 rfl rfl)
theorem dJ5_delete_80 : decode cJ5_delete 80 = .ok (.isub, 1) := dk_100 (dk_at dksJ5_delete_3 9 rfl rfl)
theorem dJ5_delete_81 : decode cJ5_delete 81 = .ok (.aaload, 1) := dk_50 (dk_at dksJ5_delete_3 10 rfl rfl)
theorem dJ5_delete_82 : decode cJ5_delete 82 = .ok (.aastore, 1) := dk_83 (dk_at dksJ5_delete_3 11 rfl rfl)
theorem dJ5_delete_83 : decode cJ5_delete 83 = .ok (.aload_n 2, 1) := dk_44 (dk_at dksJ5_delete_3 12 rfl rfl)
theorem dJ5_delete_84 : decode cJ5_delete 84 = .ok (.iload 4, 2) := dk_21 4 (dk_at dksJ5_delete_3 13 rfl rfl)
theorem dJ5_delete_86 : decode cJ5_delete 86 = .ok (.aload_n 2, 1) := dk_44 (dk_at dksJ5_delete_3 15 rfl rfl)
theorem dJ5_delete_87 : decode cJ5_delete 87 = .ok (.iload 4, 2) := dk_21 4 (dk_at dksJ5_delete_3 16 rfl rfl)
theorem dJ5_delete_89 : decode cJ5_delete 89 = .ok (.iconst 1, 1) := dk_4 (dk_at dksJ5_delete_3 18 rfl rfl)
theorem dJ5_delete_90 : decode cJ5_delete 90 = .ok (.iadd, 1) := dk_96 (dk_at dksJ5_delete_3 19 rfl rfl)
theorem dJ5_delete_91 : decode cJ5_delete 91 = .ok (.iload 6, 2) := dk_21 6 (dk_at dksJ5_delete_3 20 rfl rfl)
theorem dJ5_delete_93 : decode cJ5_delete 93 = .ok (.iload_n 1, 1) := dk_27 (dk_at dksJ5_delete_3 22 rfl rfl)
theorem dJ5_delete_94 : decode cJ5_delete 94 = .ok (.iconst 1, 1) := dk_4 (dk_at dksJ5_delete_3 23 rfl rfl)
theorem dJ5_delete_95 : decode cJ5_delete 95 = .ok (.iadd, 1) := dk_96 (dk_at dksJ5_delete_4 0 rfl rfl)
theorem dJ5_delete_96 : decode cJ5_delete 96 = .ok (.isub, 1) := dk_100 (dk_at dksJ5_delete_4 1 rfl rfl)
theorem dJ5_delete_97 : decode cJ5_delete 97 = .ok (.invokestatic 27, 3) := dk_184 0 27 (dk_at dksJ5_delete_4 2 rfl rfl)
theorem dJ5_delete_100 : decode cJ5_delete 100 = .ok (.aload_n 2, 1) := dk_44 (dk_at dksJ5_delete_4 5 rfl rfl)
theorem dJ5_delete_101 : decode cJ5_delete 101 = .ok (.iload 4, 2) := dk_21 4 (dk_at dksJ5_delete_4 6 rfl rfl)
theorem dJ5_delete_103 : decode cJ5_delete 103 = .ok (.aconst_null, 1) := dk_1 (dk_at dksJ5_delete_4 8 rfl rfl)
theorem dJ5_delete_104 : decode cJ5_delete 104 = .ok (.aastore, 1) := dk_83 (dk_at dksJ5_delete_4 9 rfl rfl)
theorem dJ5_delete_105 : decode cJ5_delete 105 = .ok (.aload_n 0, 1) := dk_42 (dk_at dksJ5_delete_4 10 rfl rfl)
theorem dJ5_delete_106 : decode cJ5_delete 106 = .ok (.iload 4, 2) := dk_21 4 (dk_at dksJ5_delete_4 11 rfl rfl)
theorem dJ5_delete_108 : decode cJ5_delete 108 = .ok (.iload_n 3, 1) := dk_29 (dk_at dksJ5_delete_4 13 rfl rfl)
theorem dJ5_delete_109 : decode cJ5_delete 109 = .ok (.invokestatic 74, 3) := dk_184 0 74 (dk_at dksJ5_delete_4 14 rfl rfl)
theorem dJ5_delete_112 : decode cJ5_delete 112 = .ok (.putfield 24, 3) := dk_181 0 24 (dk_at dksJ5_delete_4 17 rfl rfl)
theorem dJ5_delete_115 : decode cJ5_delete 115 = .ok (.iconst 0, 1) := dk_3 (dk_at dksJ5_delete_4 20 rfl rfl)
theorem dJ5_delete_116 : decode cJ5_delete 116 = .ok (.ireturn, 1) := dk_172 (dk_at dksJ5_delete_4 21 rfl rfl)
theorem dJ5_delete_117 : decode cJ5_delete 117 = .ok (.aload_n 0, 1) := dk_42 (dk_at dksJ5_delete_4 22 rfl rfl)
theorem dJ5_delete_118 : decode cJ5_delete 118 = .ok (.iload 5, 2) := dk_21 5 (dk_at dksJ5_delete_5 0 rfl rfl)
theorem dJ5_delete_120 : decode cJ5_delete 120 = .ok (.iload_n 3, 1) := dk_29 (dk_at dksJ5_delete_5 2 rfl rfl)
theorem dJ5_delete_121 : decode cJ5_delete 121 = .ok (.invokestatic 68, 3) := dk_184 0 68 (dk_at dksJ5_delete_5 3 rfl rfl)
theorem dJ5_delete_124 : decode cJ5_delete 124 = .ok (.putfield 20, 3) := dk_181 0 20 (dk_at dksJ5_delete_5 6 rfl rfl)
theorem dJ5_delete_127 : decode cJ5_delete 127 = .ok (.iload_n 1, 1) := dk_27 (dk_at dksJ5_delete_5 9 rfl rfl)
theorem dJ5_delete_128 : decode cJ5_delete 128 = .ok (.aload_n 0, 1) := dk_42 (dk_at dksJ5_delete_5 10 rfl rfl)
theorem dJ5_delete_129 : decode cJ5_delete 129 = .ok (.getfield 20, 3) := dk_180 0 20 (dk_at dksJ5_delete_5 11 rfl rfl)
theorem dJ5_delete_132 : decode cJ5_delete 132 = .ok (.if_icmp .gt 17, 3) := dk_163 0 17 (dk_at dksJ5_delete_5 14 rfl rfl)
theorem dJ5_delete_135 : decode cJ5_delete 135 = .ok (.aload_n 2, 1) := dk_44 (dk_at dksJ5_delete_5 17 rfl rfl)
theorem dJ5_delete_136 : decode cJ5_delete 136 = .ok (.iload_n 1, 1) := dk_27 (dk_at dksJ5_delete_5 18 rfl rfl)
theorem dJ5_delete_137 : decode cJ5_delete 137 = .ok (.iconst 1, 1) := dk_4 (dk_at dksJ5_delete_5 19 rfl rfl)
theorem dJ5_delete_138 : decode cJ5_delete 138 = .ok (.iadd, 1) := dk_96 (dk_at dksJ5_delete_5 20 rfl rfl)
theorem dJ5_delete_139 : decode cJ5_delete 139 = .ok (.aload_n 2, 1) := dk_44 (dk_at dksJ5_delete_5 21 rfl rfl)
theorem dJ5_delete_140 : decode cJ5_delete 140 = .ok (.iload_n 1, 1) := dk_27 (dk_at dksJ5_delete_5 22 rfl rfl)
theorem dJ5_delete_141 : decode cJ5_delete 141 = .ok (.iload 7, 2) := dk_21 7 (dk_at dksJ5_delete_6 0 rfl rfl)
theorem dJ5_delete_143 : decode cJ5_delete 143 = .ok (.invokestatic 27, 3) := dk_184 0 27 (dk_at dksJ5_delete_6 2 rfl rfl)
theorem dJ5_delete_146 : decode cJ5_delete 146 = .ok (.goto 36, 3) := dk_167 0 36 (dk_at dksJ5_delete_6 5 rfl rfl)
theorem dJ5_delete_149 : decode cJ5_delete 149 = .ok (.aload_n 2, 1) := dk_44 (dk_at dksJ5_delete_6 8 rfl rfl)
theorem dJ5_delete_150 : decode cJ5_delete 150 = .ok (.iload_n 1, 1) := dk_27 (dk_at dksJ5_delete_6 9 rfl rfl)
theorem dJ5_delete_151 : decode cJ5_delete 151 = .ok (.iconst 1, 1) := dk_4 (dk_at dksJ5_delete_6 10 rfl rfl)
theorem dJ5_delete_152 : decode cJ5_delete 152 = .ok (.iadd, 1) := dk_96 (dk_at dksJ5_delete_6 11 rfl rfl)
theorem dJ5_delete_153 : decode cJ5_delete 153 = .ok (.aload_n 2, 1) := dk_44 (dk_at dksJ5_delete_6 12 rfl rfl)
theorem dJ5_delete_154 : decode cJ5_delete 154 = .ok (.iload_n 1, 1) := dk_27 (dk_at dksJ5_delete_6 13 rfl rfl)
theorem dJ5_delete_155 : decode cJ5_delete 155 = .ok (.iload_n 3, 1) := dk_29 (dk_at dksJ5_delete_6 14 rfl rfl)
theorem dJ5_delete_156 : decode cJ5_delete 156 = .ok (.iload_n 1, 1) := dk_27 (dk_at dksJ5_delete_6 15 rfl rfl)
theorem dJ5_delete_157 : decode cJ5_delete 157 = .ok (.iconst 1, 1) := dk_4 (dk_at dksJ5_delete_6 16 rfl rfl)
theorem dJ5_delete_158 : decode cJ5_delete 158 = .ok (.iadd, 1) := dk_96 (dk_at dksJ5_delete_6 17 rfl rfl)
theorem dJ5_delete_159 : decode cJ5_delete 159 = .ok (.isub, 1) := dk_100 (dk_at dksJ5_delete_6 18 rfl rfl)
theorem dJ5_delete_160 : decode cJ5_delete 160 = .ok (.invokestatic 27, 3) := dk_184 0 27 (dk_at dksJ5_delete_6 19 rfl rfl)
theorem dJ5_delete_163 : decode cJ5_delete 163 = .ok (.aload_n 2, 1) := dk_44 (dk_at dksJ5_delete_6 22 rfl rfl)
theorem dJ5_delete_164 : decode cJ5_delete 164 = .ok (.iload_n 3, 1) := dk_29 (dk_at dksJ5_delete_6 23 rfl rfl)
theorem dJ5_delete_165 : decode cJ5_delete 165 = .ok (.iconst 1, 1) := dk_4 (dk_at dksJ5_delete_7 0 rfl rfl)
theorem dJ5_delete_166 : decode cJ5_delete 166 = .ok (.isub, 1) := dk_100 (dk_at dksJ5_delete_7 1 rfl rfl)
theorem dJ5_delete_167 : decode cJ5_delete 167 = .ok (.aload_n 2, 1) := dk_44 (dk_at dksJ5_delete_7 2 rfl rfl)
theorem dJ5_delete_168 : decode cJ5_delete 168 = .ok (.iconst 0, 1) := dk_3 (dk_at dksJ5_delete_7 3 rfl rfl)
theorem dJ5_delete_169 : decode cJ5_delete 169 = .ok (.aaload, 1) := dk_50 (dk_at dksJ5_delete_7 4 rfl rfl)
theorem dJ5_delete_170 : decode cJ5_delete 170 = .ok (.aastore, 1) := dk_83 (dk_at dksJ5_delete_7 5 rfl rfl)
theorem dJ5_delete_171 : decode cJ5_delete 171 = .ok (.aload_n 2, 1) := dk_44 (dk_at dksJ5_delete_7 6 rfl rfl)
theorem dJ5_delete_172 : decode cJ5_delete 172 = .ok (.iconst 1, 1) := dk_4 (dk_at dksJ5_delete_7 7 rfl rfl)
theorem dJ5_delete_173 : decode cJ5_delete 173 = .ok (.aload_n 2, 1) := dk_44 (dk_at dksJ5_delete_7 8 rfl rfl)
theorem dJ5_delete_174 : decode cJ5_delete 174 = .ok (.iconst 0, 1) := dk_3 (dk_at dksJ5_delete_7 9 rfl rfl)
theorem dJ5_delete_175 : decode cJ5_delete 175 = .ok (.iload 5, 2) := dk_21 5 (dk_at dksJ5_delete_7 10 rfl rfl)
theorem dJ5_delete_177 : decode cJ5_delete 177 = .ok (.iconst 1, 1) := dk_4 (dk_at dksJ5_delete_7 12 rfl rfl)
theorem dJ5_delete_178 : decode cJ5_delete 178 = .ok (.isub, 1) := dk_100 (dk_at dksJ5_delete_7 13 rfl rfl)
theorem dJ5_delete_179 : decode cJ5_delete 179 = .ok (.invokestatic 27, 3) := dk_184 0 27 (dk_at dksJ5_delete_7 14 rfl rfl)
theorem dJ5_delete_182 : decode cJ5_delete 182 = .ok (.aload_n 2, 1) := dk_44 (dk_at dksJ5_delete_7 17 rfl rfl)
theorem dJ5_delete_183 : decode cJ5_delete 183 = .ok (.aload_n 0, 1) := dk_42 (dk_at dksJ5_delete_7 18 rfl rfl)
theorem dJ5_delete_184 : decode cJ5_delete 184 = .ok (.getfield 20, 3) := dk_180 0 20 (dk_at dksJ5_delete_7 19 rfl rfl)
theorem dJ5_delete_187 : decode cJ5_delete 187 = .ok (.aconst_null, 1) := dk_1 (dk_at dksJ5_delete_7 22 rfl rfl)
theorem dJ5_delete_188 : decode cJ5_delete 188 = .ok (.aastore, 1) := dk_83 (dk_at dksJ5_delete_7 23 rfl rfl)
theorem dJ5_delete_189 : decode cJ5_delete 189 = .ok (.iconst 1, 1) := dk_4 (dk_at dksJ5_delete_8 0 rfl rfl)
theorem dJ5_delete_190 : decode cJ5_delete 190 = .ok (.ireturn, 1) := dk_172 (dk_at dksJ5_delete_8 1 rfl rfl)
abbrev cJ5_dec : ByteArray := prog_46_method_7_code
def yJ5_dec : MethodName := ⟨RJ5, "dec", "(II)I"⟩
def dkwJ5_dec_0 : List UInt8 := [132, 0, 255, 26, 156, 0, 7, 27, 4, 100, 59, 26, 172]
abbrev dktJ5_dec_0 : List UInt8 := dkwJ5_dec_0 ++ []
theorem dksJ5_dec_0 : cJ5_dec.data.toList.drop 0 = dktJ5_dec_0 := by decide +kernel
theorem dJ5_dec_0 : decode cJ5_dec 0 = .ok (.iinc 0 (-1), 3) := dk_132 0 255 (dk_at dksJ5_dec_0 0 rfl rfl)
theorem dJ5_dec_3 : decode cJ5_dec 3 = .ok (.iload_n 0, 1) := dk_26 (dk_at dksJ5_dec_0 3 rfl rfl)
theorem dJ5_dec_4 : decode cJ5_dec 4 = .ok (.ifCond .ge 7, 3) := dk_156 0 7 (dk_at dksJ5_dec_0 4 rfl rfl)
theorem dJ5_dec_7 : decode cJ5_dec 7 = .ok (.iload_n 1, 1) := dk_27 (dk_at dksJ5_dec_0 7 rfl rfl)
theorem dJ5_dec_8 : decode cJ5_dec 8 = .ok (.iconst 1, 1) := dk_4 (dk_at dksJ5_dec_0 8 rfl rfl)
theorem dJ5_dec_9 : decode cJ5_dec 9 = .ok (.isub, 1) := dk_100 (dk_at dksJ5_dec_0 9 rfl rfl)
theorem dJ5_dec_10 : decode cJ5_dec 10 = .ok (.istore_n 0, 1) := dk_59 (dk_at dksJ5_dec_0 10 rfl rfl)
theorem dJ5_dec_11 : decode cJ5_dec 11 = .ok (.iload_n 0, 1) := dk_26 (dk_at dksJ5_dec_0 11 rfl rfl)
theorem dJ5_dec_12 : decode cJ5_dec 12 = .ok (.ireturn, 1) := dk_172 (dk_at dksJ5_dec_0 12 rfl rfl)
theorem q104 : (Jvm.Cond.initialized "java/util/ArrayDeque") ∈ lw_all := lw_g (lw_at lw_m1 9 rfl) rfl
theorem q271 : (Jvm.Cond.instantiable "java/util/ArrayDeque" (3 : Nat)) ∈ lw_all := lw_g (lw_at lw_m1 176 rfl) rfl
theorem q273 : (Jvm.Cond.instanceMethod ({ cls := "java/util/ArrayDeque", name := "<init>", desc := "(I)V" } : Jvm.MethodName)) ∈ lw_all := lw_g (lw_at lw_m1 178 rfl) rfl
theorem q274 : (Jvm.Cond.code ({ cls := "java/util/ArrayDeque", name := "<init>", desc := "(I)V" } : Jvm.MethodName) prog_46_method_4_code (2 : Nat) (Option.none : Option Jvm.ClassFile.FieldType)) ∈ lw_all := lw_g (lw_at lw_m1 179 rfl) rfl
theorem q275 : (Jvm.Cond.methodLink "java/util/ArrayDeque" (42 : Nat) ({ cls := "java/util/AbstractCollection", name := "<init>", desc := "()V" } : Jvm.MethodName)) ∈ lw_all := lw_g (lw_at lw_m1 180 rfl) rfl
theorem q276 : (Jvm.Cond.constant "java/util/ArrayDeque" (41 : Nat) (2147483647 : Int32)) ∈ lw_all := lw_g (lw_at lw_m1 181 rfl) rfl
theorem q277 : (Jvm.Cond.classLink "java/util/ArrayDeque" (47 : Nat) "java/lang/Object") ∈ lw_all := lw_g (lw_at lw_m1 182 rfl) rfl
theorem q278 : (Jvm.Cond.fieldLink "java/util/ArrayDeque" (3 : Nat) "java/util/ArrayDeque" "elements" "[Ljava/lang/Object;") ∈ lw_all := lw_g (lw_at lw_m1 183 rfl) rfl
theorem q281 : (Jvm.Cond.fieldLink "java/util/ArrayDeque" (24 : Nat) "java/util/ArrayDeque" "head" "I") ∈ lw_all := lw_g (lw_at lw_m1 186 rfl) rfl
theorem q282 : (Jvm.Cond.fieldLink "java/util/ArrayDeque" (20 : Nat) "java/util/ArrayDeque" "tail" "I") ∈ lw_all := lw_g (lw_at lw_m1 187 rfl) rfl
theorem q283 : (Jvm.Cond.lays "java/util/ArrayDeque" "java/util/ArrayDeque" "elements" "[Ljava/lang/Object;") ∈ lw_all := lw_g (lw_at lw_m1 188 rfl) rfl
theorem q284 : (Jvm.Cond.soleField "java/util/ArrayDeque" "elements") ∈ lw_all := lw_g (lw_at lw_m1 189 rfl) rfl
theorem q285 : (Jvm.Cond.lays "java/util/ArrayDeque" "java/util/ArrayDeque" "head" "I") ∈ lw_all := lw_g (lw_at lw_m1 190 rfl) rfl
theorem q286 : (Jvm.Cond.soleField "java/util/ArrayDeque" "head") ∈ lw_all := lw_g (lw_at lw_m1 191 rfl) rfl
theorem q287 : (Jvm.Cond.lays "java/util/ArrayDeque" "java/util/ArrayDeque" "tail" "I") ∈ lw_all := lw_g (lw_at lw_m1 192 rfl) rfl
theorem q288 : (Jvm.Cond.soleField "java/util/ArrayDeque" "tail") ∈ lw_all := lw_g (lw_at lw_m1 193 rfl) rfl
theorem q289 : (Jvm.Cond.superclass "java/util/ArrayDeque" "java/util/AbstractCollection") ∈ lw_all := lw_g (lw_at lw_m1 194 rfl) rfl
theorem q468 : (Jvm.Cond.selects "java/util/ArrayDeque" ({ cls := "java/lang/Object", name := "getClass", desc := "()Ljava/lang/Class;" } : Jvm.MethodName) ({ cls := "java/lang/Object", name := "getClass", desc := "()Ljava/lang/Class;" } : Jvm.MethodName)) ∈ lw_all := lw_g (lw_at lw_m2 133 rfl) rfl
theorem q1720 : (Jvm.Cond.static ({ cls := "java/util/ArrayDeque", name := "nonNullElementAt", desc := "([Ljava/lang/Object;I)Ljava/lang/Object;" } : Jvm.MethodName)) ∈ lw_all := lw_g (lw_at lw_m7 185 rfl) rfl
theorem q1721 : (Jvm.Cond.code ({ cls := "java/util/ArrayDeque", name := "nonNullElementAt", desc := "([Ljava/lang/Object;I)Ljava/lang/Object;" } : Jvm.MethodName) prog_46_method_11_code (3 : Nat) (Option.some (Jvm.ClassFile.FieldType.object "java/lang/Object"))) ∈ lw_all := lw_g (lw_at lw_m7 186 rfl) rfl
theorem q1723 : (Jvm.Cond.static ({ cls := "java/util/ArrayDeque", name := "inc", desc := "(II)I" } : Jvm.MethodName)) ∈ lw_all := lw_g (lw_at lw_m7 188 rfl) rfl
theorem q1724 : (Jvm.Cond.code ({ cls := "java/util/ArrayDeque", name := "inc", desc := "(II)I" } : Jvm.MethodName) prog_46_method_6_code (2 : Nat) (Option.some Jvm.ClassFile.FieldType.int)) ∈ lw_all := lw_g (lw_at lw_m7 189 rfl) rfl
theorem q1776 : (Jvm.Cond.instanceMethod ({ cls := "java/util/ArrayDeque", name := "iterator", desc := "()Ljava/util/Iterator;" } : Jvm.MethodName)) ∈ lw_all := lw_g (lw_at lw_m8 1 rfl) rfl
theorem q1777 : (Jvm.Cond.selects "java/util/ArrayDeque" ({ cls := "java/util/ArrayDeque", name := "iterator", desc := "()Ljava/util/Iterator;" } : Jvm.MethodName) ({ cls := "java/util/ArrayDeque", name := "iterator", desc := "()Ljava/util/Iterator;" } : Jvm.MethodName)) ∈ lw_all := lw_g (lw_at lw_m8 2 rfl) rfl
theorem q1778 : (Jvm.Cond.code ({ cls := "java/util/ArrayDeque", name := "iterator", desc := "()Ljava/util/Iterator;" } : Jvm.MethodName) prog_46_method_39_code (1 : Nat) (Option.some (Jvm.ClassFile.FieldType.object "java/util/Iterator"))) ∈ lw_all := lw_g (lw_at lw_m8 3 rfl) rfl
theorem q1779 : (Jvm.Cond.classLink "java/util/ArrayDeque" (131 : Nat) "java/util/ArrayDeque$DeqIterator") ∈ lw_all := lw_g (lw_at lw_m8 4 rfl) rfl
theorem q1781 : (Jvm.Cond.methodLink "java/util/ArrayDeque" (133 : Nat) ({ cls := "java/util/ArrayDeque$DeqIterator", name := "<init>", desc := "(Ljava/util/ArrayDeque;)V" } : Jvm.MethodName)) ∈ lw_all := lw_g (lw_at lw_m8 6 rfl) rfl
theorem q1786 : (Jvm.Cond.instanceMethod ({ cls := "java/util/ArrayDeque", name := "size", desc := "()I" } : Jvm.MethodName)) ∈ lw_all := lw_g (lw_at lw_m8 11 rfl) rfl
theorem q1787 : (Jvm.Cond.selects "java/util/ArrayDeque" ({ cls := "java/util/ArrayDeque", name := "size", desc := "()I" } : Jvm.MethodName) ({ cls := "java/util/ArrayDeque", name := "size", desc := "()I" } : Jvm.MethodName)) ∈ lw_all := lw_g (lw_at lw_m8 12 rfl) rfl
theorem q1788 : (Jvm.Cond.code ({ cls := "java/util/ArrayDeque", name := "size", desc := "()I" } : Jvm.MethodName) prog_46_method_37_code (1 : Nat) (Option.some Jvm.ClassFile.FieldType.int)) ∈ lw_all := lw_g (lw_at lw_m8 13 rfl) rfl
theorem q1789 : (Jvm.Cond.methodLink "java/util/ArrayDeque" (127 : Nat) ({ cls := "java/util/ArrayDeque", name := "sub", desc := "(III)I" } : Jvm.MethodName)) ∈ lw_all := lw_g (lw_at lw_m8 14 rfl) rfl
theorem q1790 : (Jvm.Cond.static ({ cls := "java/util/ArrayDeque", name := "sub", desc := "(III)I" } : Jvm.MethodName)) ∈ lw_all := lw_g (lw_at lw_m8 15 rfl) rfl
theorem q1791 : (Jvm.Cond.code ({ cls := "java/util/ArrayDeque", name := "sub", desc := "(III)I" } : Jvm.MethodName) prog_46_method_9_code (3 : Nat) (Option.some Jvm.ClassFile.FieldType.int)) ∈ lw_all := lw_g (lw_at lw_m8 16 rfl) rfl
theorem q1807 : (Jvm.Cond.instanceMethod ({ cls := "java/util/ArrayDeque", name := "addLast", desc := "(Ljava/lang/Object;)V" } : Jvm.MethodName)) ∈ lw_all := lw_g (lw_at lw_m8 32 rfl) rfl
theorem q1808 : (Jvm.Cond.selects "java/util/ArrayDeque" ({ cls := "java/util/ArrayDeque", name := "addLast", desc := "(Ljava/lang/Object;)V" } : Jvm.MethodName) ({ cls := "java/util/ArrayDeque", name := "addLast", desc := "(Ljava/lang/Object;)V" } : Jvm.MethodName)) ∈ lw_all := lw_g (lw_at lw_m8 33 rfl) rfl
theorem q1809 : (Jvm.Cond.code ({ cls := "java/util/ArrayDeque", name := "addLast", desc := "(Ljava/lang/Object;)V" } : Jvm.MethodName) prog_46_method_13_code (3 : Nat) (Option.none : Option Jvm.ClassFile.FieldType)) ∈ lw_all := lw_g (lw_at lw_m8 34 rfl) rfl
theorem q1810 : (Jvm.Cond.methodLink "java/util/ArrayDeque" (74 : Nat) ({ cls := "java/util/ArrayDeque", name := "inc", desc := "(II)I" } : Jvm.MethodName)) ∈ lw_all := lw_g (lw_at lw_m8 35 rfl) rfl
theorem q1811 : (Jvm.Cond.methodLink "java/util/ArrayDeque" (71 : Nat) ({ cls := "java/util/ArrayDeque", name := "grow", desc := "(I)V" } : Jvm.MethodName)) ∈ lw_all := lw_g (lw_at lw_m8 36 rfl) rfl
theorem q1812 : (Jvm.Cond.privateMethod ({ cls := "java/util/ArrayDeque", name := "grow", desc := "(I)V" } : Jvm.MethodName)) ∈ lw_tbl := lw_at lw_m8 37 rfl
theorem q1813 : (Jvm.Cond.instanceMethod ({ cls := "java/util/ArrayDeque", name := "grow", desc := "(I)V" } : Jvm.MethodName)) ∈ lw_all := lw_g (lw_at lw_m8 38 rfl) rfl
theorem q1814 : (Jvm.Cond.code ({ cls := "java/util/ArrayDeque", name := "grow", desc := "(I)V" } : Jvm.MethodName) prog_46_method_1_code (9 : Nat) (Option.none : Option Jvm.ClassFile.FieldType)) ∈ lw_all := lw_g (lw_at lw_m8 39 rfl) rfl
theorem q1815 : (Jvm.Cond.constant "java/util/ArrayDeque" (9 : Nat) (2147483639 : Int32)) ∈ lw_all := lw_g (lw_at lw_m8 40 rfl) rfl
theorem q1816 : (Jvm.Cond.methodLink "java/util/ArrayDeque" (10 : Nat) ({ cls := "java/util/ArrayDeque", name := "newCapacity", desc := "(II)I" } : Jvm.MethodName)) ∈ lw_all := lw_g (lw_at lw_m8 41 rfl) rfl
theorem q1817 : (Jvm.Cond.privateMethod ({ cls := "java/util/ArrayDeque", name := "newCapacity", desc := "(II)I" } : Jvm.MethodName)) ∈ lw_tbl := lw_at lw_m8 42 rfl
theorem q1818 : (Jvm.Cond.instanceMethod ({ cls := "java/util/ArrayDeque", name := "newCapacity", desc := "(II)I" } : Jvm.MethodName)) ∈ lw_all := lw_g (lw_at lw_m8 43 rfl) rfl
theorem q1819 : (Jvm.Cond.code ({ cls := "java/util/ArrayDeque", name := "newCapacity", desc := "(II)I" } : Jvm.MethodName) prog_46_method_2_code (5 : Nat) (Option.some Jvm.ClassFile.FieldType.int)) ∈ lw_all := lw_g (lw_at lw_m8 44 rfl) rfl
theorem q1820 : (Jvm.Cond.methodLink "java/util/ArrayDeque" (14 : Nat) ({ cls := "java/util/Arrays", name := "copyOf", desc := "([Ljava/lang/Object;I)[Ljava/lang/Object;" } : Jvm.MethodName)) ∈ lw_all := lw_g (lw_at lw_m8 45 rfl) rfl
theorem q1821 : (Jvm.Cond.methodLink "java/util/ArrayDeque" (27 : Nat) ({ cls := "java/lang/System", name := "arraycopy", desc := "(Ljava/lang/Object;ILjava/lang/Object;II)V" } : Jvm.MethodName)) ∈ lw_all := lw_g (lw_at lw_m8 46 rfl) rfl
theorem q1850 : (Jvm.Cond.instanceMethod ({ cls := "java/util/ArrayDeque", name := "removeFirst", desc := "()Ljava/lang/Object;" } : Jvm.MethodName)) ∈ lw_all := lw_g (lw_at lw_m8 75 rfl) rfl
theorem q1851 : (Jvm.Cond.selects "java/util/ArrayDeque" ({ cls := "java/util/ArrayDeque", name := "removeFirst", desc := "()Ljava/lang/Object;" } : Jvm.MethodName) ({ cls := "java/util/ArrayDeque", name := "removeFirst", desc := "()Ljava/lang/Object;" } : Jvm.MethodName)) ∈ lw_all := lw_g (lw_at lw_m8 76 rfl) rfl
theorem q1852 : (Jvm.Cond.code ({ cls := "java/util/ArrayDeque", name := "removeFirst", desc := "()Ljava/lang/Object;" } : Jvm.MethodName) prog_46_method_18_code (2 : Nat) (Option.some (Jvm.ClassFile.FieldType.object "java/lang/Object"))) ∈ lw_all := lw_g (lw_at lw_m8 77 rfl) rfl
theorem q1853 : (Jvm.Cond.methodLink "java/util/ArrayDeque" (93 : Nat) ({ cls := "java/util/ArrayDeque", name := "pollFirst", desc := "()Ljava/lang/Object;" } : Jvm.MethodName)) ∈ lw_all := lw_g (lw_at lw_m8 78 rfl) rfl
theorem q1854 : (Jvm.Cond.instanceMethod ({ cls := "java/util/ArrayDeque", name := "pollFirst", desc := "()Ljava/lang/Object;" } : Jvm.MethodName)) ∈ lw_all := lw_g (lw_at lw_m8 79 rfl) rfl
theorem q1855 : (Jvm.Cond.selects "java/util/ArrayDeque" ({ cls := "java/util/ArrayDeque", name := "pollFirst", desc := "()Ljava/lang/Object;" } : Jvm.MethodName) ({ cls := "java/util/ArrayDeque", name := "pollFirst", desc := "()Ljava/lang/Object;" } : Jvm.MethodName)) ∈ lw_all := lw_g (lw_at lw_m8 80 rfl) rfl
theorem q1856 : (Jvm.Cond.code ({ cls := "java/util/ArrayDeque", name := "pollFirst", desc := "()Ljava/lang/Object;" } : Jvm.MethodName) prog_46_method_20_code (4 : Nat) (Option.some (Jvm.ClassFile.FieldType.object "java/lang/Object"))) ∈ lw_all := lw_g (lw_at lw_m8 81 rfl) rfl
theorem q1857 : (Jvm.Cond.methodLink "java/util/ArrayDeque" (103 : Nat) ({ cls := "java/util/ArrayDeque", name := "elementAt", desc := "([Ljava/lang/Object;I)Ljava/lang/Object;" } : Jvm.MethodName)) ∈ lw_all := lw_g (lw_at lw_m8 82 rfl) rfl
theorem q1858 : (Jvm.Cond.static ({ cls := "java/util/ArrayDeque", name := "elementAt", desc := "([Ljava/lang/Object;I)Ljava/lang/Object;" } : Jvm.MethodName)) ∈ lw_all := lw_g (lw_at lw_m8 83 rfl) rfl
theorem q1859 : (Jvm.Cond.code ({ cls := "java/util/ArrayDeque", name := "elementAt", desc := "([Ljava/lang/Object;I)Ljava/lang/Object;" } : Jvm.MethodName) prog_46_method_10_code (2 : Nat) (Option.some (Jvm.ClassFile.FieldType.object "java/lang/Object"))) ∈ lw_all := lw_g (lw_at lw_m8 84 rfl) rfl
theorem q1987 : (Jvm.Cond.instanceMethod ({ cls := "java/util/ArrayDeque", name := "delete", desc := "(I)Z" } : Jvm.MethodName)) ∈ lw_all := lw_g (lw_at lw_m8 212 rfl) rfl
theorem q1988 : (Jvm.Cond.selects "java/util/ArrayDeque" ({ cls := "java/util/ArrayDeque", name := "delete", desc := "(I)Z" } : Jvm.MethodName) ({ cls := "java/util/ArrayDeque", name := "delete", desc := "(I)Z" } : Jvm.MethodName)) ∈ lw_all := lw_g (lw_at lw_m8 213 rfl) rfl
theorem q1989 : (Jvm.Cond.code ({ cls := "java/util/ArrayDeque", name := "delete", desc := "(I)Z" } : Jvm.MethodName) prog_46_method_36_code (8 : Nat) (Option.some Jvm.ClassFile.FieldType.boolean)) ∈ lw_all := lw_g (lw_at lw_m8 214 rfl) rfl
theorem q1990 : (Jvm.Cond.methodLink "java/util/ArrayDeque" (68 : Nat) ({ cls := "java/util/ArrayDeque", name := "dec", desc := "(II)I" } : Jvm.MethodName)) ∈ lw_all := lw_g (lw_at lw_m8 215 rfl) rfl
theorem q1991 : (Jvm.Cond.static ({ cls := "java/util/ArrayDeque", name := "dec", desc := "(II)I" } : Jvm.MethodName)) ∈ lw_all := lw_g (lw_at lw_m8 216 rfl) rfl
theorem q1992 : (Jvm.Cond.code ({ cls := "java/util/ArrayDeque", name := "dec", desc := "(II)I" } : Jvm.MethodName) prog_46_method_7_code (2 : Nat) (Option.some Jvm.ClassFile.FieldType.int)) ∈ lw_all := lw_g (lw_at lw_m8 217 rfl) rfl
theorem q2704 : (Jvm.Cond.castable "java/util/ArrayDeque" "java/lang/Object") ∈ lw_tbl := lw_at lw_m11 209 rfl
theorem in_J5 : ∀ w ∈ wsJ50, w ∈ lw_all := lw_in wsJ50 [283, 285, 287] (by decide +kernel) (by decide +kernel)

/-! java/util/BitSet -/
set_option maxRecDepth 100000
def RJ6 : String := "java/util/BitSet"
def TJ6 : u_T := fun k => match k with
  | 0 => ("java/util/BitSet", "words", "[J", false)
  | 1 => ("java/util/BitSet", "wordsInUse", "I", false)
  | _ => ("java/util/BitSet", "sizeIsSticky", "Z", false)
def tyJ6 : Nat → FieldType := fun k => match k with
  | 0 => .array .long
  | 1 => .int
  | _ => .boolean
abbrev wsJ60 : List Cond := u_ws RJ6 TJ6 3
theorem nmJ6 : ∀ a, a < 3 → ∀ b, b < 3 → a ≠ b → (TJ6 a).2.1 ≠ (TJ6 b).2.1 := by decide +kernel
theorem tyJ6_ok : ∀ k, k < 3 → parseFieldDescriptor (TJ6 k).2.2.1 = some (tyJ6 k) := by decide +kernel
abbrev cJ6_init : ByteArray := prog_52_method_4_code
def yJ6_init : MethodName := ⟨RJ6, "<init>", "()V"⟩
def dkwJ6_init_1 : List UInt8 := [181, 0, 24, 177]
abbrev dktJ6_init_1 : List UInt8 := dkwJ6_init_1 ++ []
def dkwJ6_init_0 : List UInt8 := [42, 183, 0, 21, 42, 3, 181, 0, 7, 42, 3, 181, 0, 24, 42, 16, 64, 182, 0, 27, 42, 3]
abbrev dktJ6_init_0 : List UInt8 := dkwJ6_init_0 ++ dktJ6_init_1
theorem dksJ6_init_0 : cJ6_init.data.toList.drop 0 = dktJ6_init_0 := by decide +kernel
theorem dksJ6_init_1 : cJ6_init.data.toList.drop 22 = dktJ6_init_1 := dk_seg dksJ6_init_0 22 rfl rfl
theorem dJ6_init_0 : decode cJ6_init 0 = .ok (.aload_n 0, 1) := dk_42 (dk_at dksJ6_init_0 0 rfl rfl)
theorem dJ6_init_1 : decode cJ6_init 1 = .ok (.invokespecial 21, 3) := dk_183 0 21 (dk_at dksJ6_init_0 1 rfl rfl)
theorem dJ6_init_4 : decode cJ6_init 4 = .ok (.aload_n 0, 1) := dk_42 (dk_at dksJ6_init_0 4 rfl rfl)
theorem dJ6_init_5 : decode cJ6_init 5 = .ok (.iconst 0, 1) := dk_3 (dk_at dksJ6_init_0 5 rfl rfl)
theorem dJ6_init_6 : decode cJ6_init 6 = .ok (.putfield 7, 3) := dk_181 0 7 (dk_at dksJ6_init_0 6 rfl rfl)
theorem dJ6_init_9 : decode cJ6_init 9 = .ok (.aload_n 0, 1) := dk_42 (dk_at dksJ6_init_0 9 rfl rfl)
theorem dJ6_init_10 : decode cJ6_init 10 = .ok (.iconst 0, 1) := dk_3 (dk_at dksJ6_init_0 10 rfl rfl)
theorem dJ6_init_11 : decode cJ6_init 11 = .ok (.putfield 24, 3) := dk_181 0 24 (dk_at dksJ6_init_0 11 rfl rfl)
theorem dJ6_init_14 : decode cJ6_init 14 = .ok (.aload_n 0, 1) := dk_42 (dk_at dksJ6_init_0 14 rfl rfl)
theorem dJ6_init_15 : decode cJ6_init 15 = .ok (.bipush 64, 2) := dk_16 64 (dk_at dksJ6_init_0 15 rfl rfl)
theorem dJ6_init_17 : decode cJ6_init 17 = .ok (.invokevirtual 27, 3) := dk_182 0 27 (dk_at dksJ6_init_0 17 rfl rfl)
theorem dJ6_init_20 : decode cJ6_init 20 = .ok (.aload_n 0, 1) := dk_42 (dk_at dksJ6_init_0 20 rfl rfl)
theorem dJ6_init_21 : decode cJ6_init 21 = .ok (.iconst 0, 1) := dk_3 (dk_at dksJ6_init_0 21 rfl rfl)
theorem dJ6_init_22 : decode cJ6_init 22 = .ok (.putfield 24, 3) := dk_181 0 24 (dk_at dksJ6_init_1 0 rfl rfl)
theorem dJ6_init_25 : decode cJ6_init 25 = .ok (.return_, 1) := dk_177 (dk_at dksJ6_init_1 3 rfl rfl)
abbrev cJ6_initWords : ByteArray := prog_52_method_6_code
def yJ6_initWords : MethodName := ⟨RJ6, "initWords", "(I)V"⟩
def dkwJ6_initWords_0 : List UInt8 := [42, 27, 4, 100, 184, 0, 52, 4, 96, 188, 11, 181, 0, 11, 177]
abbrev dktJ6_initWords_0 : List UInt8 := dkwJ6_initWords_0 ++ []
theorem dksJ6_initWords_0 : cJ6_initWords.data.toList.drop 0 = dktJ6_initWords_0 := by decide +kernel
theorem dJ6_initWords_0 : decode cJ6_initWords 0 = .ok (.aload_n 0, 1) := dk_42 (dk_at dksJ6_initWords_0 0 rfl rfl)
theorem dJ6_initWords_1 : decode cJ6_initWords 1 = .ok (.iload_n 1, 1) := dk_27 (dk_at dksJ6_initWords_0 1 rfl rfl)
theorem dJ6_initWords_2 : decode cJ6_initWords 2 = .ok (.iconst 1, 1) := dk_4 (dk_at dksJ6_initWords_0 2 rfl rfl)
theorem dJ6_initWords_3 : decode cJ6_initWords 3 = .ok (.isub, 1) := dk_100 (dk_at dksJ6_initWords_0 3 rfl rfl)
theorem dJ6_initWords_4 : decode cJ6_initWords 4 = .ok (.invokestatic 52, 3) := dk_184 0 52 (dk_at dksJ6_initWords_0 4 rfl rfl)
theorem dJ6_initWords_7 : decode cJ6_initWords 7 = .ok (.iconst 1, 1) := dk_4 (dk_at dksJ6_initWords_0 7 rfl rfl)
theorem dJ6_initWords_8 : decode cJ6_initWords 8 = .ok (.iadd, 1) := dk_96 (dk_at dksJ6_initWords_0 8 rfl rfl)
theorem dJ6_initWords_9 : decode cJ6_initWords 9 = .ok (.newarray .long, 2) := dk_188_11 (dk_at dksJ6_initWords_0 9 rfl rfl)
theorem dJ6_initWords_11 : decode cJ6_initWords 11 = .ok (.putfield 11, 3) := dk_181 0 11 (dk_at dksJ6_initWords_0 11 rfl rfl)
theorem dJ6_initWords_14 : decode cJ6_initWords 14 = .ok (.return_, 1) := dk_177 (dk_at dksJ6_initWords_0 14 rfl rfl)
abbrev cJ6_wordIndex : ByteArray := prog_52_method_1_code
def yJ6_wordIndex : MethodName := ⟨RJ6, "wordIndex", "(I)I"⟩
def dkwJ6_wordIndex_0 : List UInt8 := [26, 16, 6, 122, 172]
abbrev dktJ6_wordIndex_0 : List UInt8 := dkwJ6_wordIndex_0 ++ []
theorem dksJ6_wordIndex_0 : cJ6_wordIndex.data.toList.drop 0 = dktJ6_wordIndex_0 := by decide +kernel
theorem dJ6_wordIndex_0 : decode cJ6_wordIndex 0 = .ok (.iload_n 0, 1) := dk_26 (dk_at dksJ6_wordIndex_0 0 rfl rfl)
theorem dJ6_wordIndex_1 : decode cJ6_wordIndex 1 = .ok (.bipush 6, 2) := dk_16 6 (dk_at dksJ6_wordIndex_0 1 rfl rfl)
theorem dJ6_wordIndex_3 : decode cJ6_wordIndex 3 = .ok (.ishr, 1) := dk_122 (dk_at dksJ6_wordIndex_0 3 rfl rfl)
theorem dJ6_wordIndex_4 : decode cJ6_wordIndex 4 = .ok (.ireturn, 1) := dk_172 (dk_at dksJ6_wordIndex_0 4 rfl rfl)
abbrev cJ6_get : ByteArray := prog_52_method_26_code
def yJ6_get : MethodName := ⟨RJ6, "get", "(I)Z"⟩
def dkwJ6_get_2 : List UInt8 := [42, 180, 0, 11, 28, 47, 10, 27, 121, 127, 9, 148, 153, 0, 7, 4, 167, 0, 4, 3, 172]
abbrev dktJ6_get_2 : List UInt8 := dkwJ6_get_2 ++ []
def dkwJ6_get_1 : List UInt8 := [182, 0, 45, 183, 0, 146, 191, 42, 182, 0, 56, 27, 184, 0, 52, 61, 28, 42, 180, 0, 7, 162, 0, 22]
abbrev dktJ6_get_1 : List UInt8 := dkwJ6_get_1 ++ dktJ6_get_2
def dkwJ6_get_0 : List UInt8 := [27, 156, 0, 30, 187, 0, 142, 89, 187, 0, 33, 89, 183, 0, 35, 18, 153, 182, 0, 38, 27, 182, 0, 42]
abbrev dktJ6_get_0 : List UInt8 := dkwJ6_get_0 ++ dktJ6_get_1
theorem dksJ6_get_0 : cJ6_get.data.toList.drop 0 = dktJ6_get_0 := by decide +kernel
theorem dksJ6_get_1 : cJ6_get.data.toList.drop 24 = dktJ6_get_1 := dk_seg dksJ6_get_0 24 rfl rfl
theorem dksJ6_get_2 : cJ6_get.data.toList.drop 48 = dktJ6_get_2 := dk_seg dksJ6_get_1 24 rfl rfl
theorem dJ6_get_0 : decode cJ6_get 0 = .ok (.iload_n 1, 1) := dk_27 (dk_at dksJ6_get_0 0 rfl rfl)
theorem dJ6_get_1 : decode cJ6_get 1 = .ok (.ifCond .ge 30, 3) := dk_156 0 30 (dk_at dksJ6_get_0 1 rfl rfl)
theorem dJ6_get_4 : decode cJ6_get 4 = .ok (.new 142, 3) := dk_187 0 142 (dk_at dksJ6_get_0 4 rfl rfl)
theorem dJ6_get_7 : decode cJ6_get 7 = .ok (.dup, 1) := dk_89 (dk_at dksJ6_get_0 7 rfl rfl)
theorem dJ6_get_8 : decode cJ6_get 8 = .ok (.new 33, 3) := dk_187 0 33 (dk_at dksJ6_get_0 8 rfl rfl)
theorem dJ6_get_11 : decode cJ6_get 11 = .ok (.dup, 1) := dk_89 (dk_at dksJ6_get_0 11 rfl rfl)
theorem dJ6_get_12 : decode cJ6_get 12 = .ok (.invokespecial 35, 3) := dk_183 0 35 (dk_at dksJ6_get_0 12 rfl rfl)
theorem dJ6_get_15 : decode cJ6_get 15 = .ok (.ldc 153, 2) := dk_18 153 (dk_at dksJ6_get_0 15 rfl rfl)
theorem dJ6_get_17 : decode cJ6_get 17 = .ok (.invokevirtual 38, 3) := dk_182 0 38 (dk_at dksJ6_get_0 17 rfl rfl)
theorem dJ6_get_20 : decode cJ6_get 20 = .ok (.iload_n 1, 1) := dk_27 (dk_at dksJ6_get_0 20 rfl rfl)
theorem dJ6_get_21 : decode cJ6_get 21 = .ok (.invokevirtual 42, 3) := dk_182 0 42 (dk_at dksJ6_get_0 21 rfl rfl)
theorem dJ6_get_24 : decode cJ6_get 24 = .ok (.invokevirtual 45, 3) := dk_182 0 45 (dk_at dksJ6_get_1 0 rfl rfl)
theorem dJ6_get_27 : decode cJ6_get 27 = .ok (.invokespecial 146, 3) := dk_183 0 146 (dk_at dksJ6_get_1 3 rfl rfl)
theorem dJ6_get_30 : decode cJ6_get 30 = .ok (.athrow, 1) := dk_191 (dk_at dksJ6_get_1 6 rfl rfl)
theorem dJ6_get_31 : decode cJ6_get 31 = .ok (.aload_n 0, 1) := dk_42 (dk_at dksJ6_get_1 7 rfl rfl)
theorem dJ6_get_32 : decode cJ6_get 32 = .ok (.invokevirtual 56, 3) := dk_182 0 56 (dk_at dksJ6_get_1 8 rfl rfl)
theorem dJ6_get_35 : decode cJ6_get 35 = .ok (.iload_n 1, 1) := dk_27 (dk_at dksJ6_get_1 11 rfl rfl)
theorem dJ6_get_36 : decode cJ6_get 36 = .ok (.invokestatic 52, 3) := dk_184 0 52 (dk_at dksJ6_get_1 12 rfl rfl)
theorem dJ6_get_39 : decode cJ6_get 39 = .ok (.istore_n 2, 1) := dk_61 (dk_at dksJ6_get_1 15 rfl rfl)
theorem dJ6_get_40 : decode cJ6_get 40 = .ok (.iload_n 2, 1) := dk_28 (dk_at dksJ6_get_1 16 rfl rfl)
theorem dJ6_get_41 : decode cJ6_get 41 = .ok (.aload_n 0, 1) := dk_42 (dk_at dksJ6_get_1 17 rfl rfl)
theorem dJ6_get_42 : decode cJ6_get 42 = .ok (.getfield 7, 3) := dk_180 0 7 (dk_at dksJ6_get_1 18 rfl rfl)
theorem dJ6_get_45 : decode cJ6_get 45 = .ok (.if_icmp .ge 22, 3) := dk_162 0 22 (dk_at dksJ6_get_1 21 rfl rfl)
theorem dJ6_get_48 : decode cJ6_get 48 = .ok (.aload_n 0, 1) := dk_42 (dk_at dksJ6_get_2 0 rfl rfl)
theorem dJ6_get_49 : decode cJ6_get 49 = .ok (.getfield 11, 3) := dk_180 0 11 (dk_at dksJ6_get_2 1 rfl rfl)
theorem dJ6_get_52 : decode cJ6_get 52 = .ok (.iload_n 2, 1) := dk_28 (dk_at dksJ6_get_2 4 rfl rfl)
theorem dJ6_get_53 : decode cJ6_get 53 = .ok (.laload, 1) := dk_47 (dk_at dksJ6_get_2 5 rfl rfl)
theorem dJ6_get_54 : decode cJ6_get 54 = .ok (.lconst 1, 1) := dk_10 (dk_at dksJ6_get_2 6 rfl rfl)
theorem dJ6_get_55 : decode cJ6_get 55 = .ok (.iload_n 1, 1) := dk_27 (dk_at dksJ6_get_2 7 rfl rfl)
theorem dJ6_get_56 : decode cJ6_get 56 = .ok (.lshl, 1) := dk_121 (dk_at dksJ6_get_2 8 rfl rfl)
theorem dJ6_get_57 : decode cJ6_get 57 = .ok (.land, 1) := dk_127 (dk_at dksJ6_get_2 9 rfl rfl)
theorem dJ6_get_58 : decode cJ6_get 58 = .ok (.lconst 0, 1) := dk_9 (dk_at dksJ6_get_2 10 rfl rfl)
theorem dJ6_get_59 : decode cJ6_get 59 = .ok (.lcmp, 1) := dk_148 (dk_at dksJ6_get_2 11 rfl rfl)
theorem dJ6_get_60 : decode cJ6_get 60 = .ok (.ifCond .eq 7, 3) := dk_153 0 7 (dk_at dksJ6_get_2 12 rfl rfl)
theorem dJ6_get_63 : decode cJ6_get 63 = .ok (.iconst 1, 1) := dk_4 (dk_at dksJ6_get_2 15 rfl rfl)
theorem dJ6_get_64 : decode cJ6_get 64 = .ok (.goto 4, 3) := dk_167 0 4 (dk_at dksJ6_get_2 16 rfl rfl)
theorem dJ6_get_67 : decode cJ6_get 67 = .ok (.iconst 0, 1) := dk_3 (dk_at dksJ6_get_2 19 rfl rfl)
theorem dJ6_get_68 : decode cJ6_get 68 = .ok (.ireturn, 1) := dk_172 (dk_at dksJ6_get_2 20 rfl rfl)
abbrev cJ6_checkInvariants : ByteArray := prog_52_method_2_code
def yJ6_checkInvariants : MethodName := ⟨RJ6, "checkInvariants", "()V"⟩
def dkwJ6_checkInvariants_4 : List UInt8 := [180, 0, 7, 47, 9, 148, 153, 0, 11, 187, 0, 15, 89, 183, 0, 17, 191, 177]
abbrev dktJ6_checkInvariants_4 : List UInt8 := dkwJ6_checkInvariants_4 ++ []
def dkwJ6_checkInvariants_3 : List UInt8 := [178, 0, 3, 154, 0, 37, 42, 180, 0, 7, 42, 180, 0, 11, 190, 159, 0, 25, 42, 180, 0, 11, 42]
abbrev dktJ6_checkInvariants_3 : List UInt8 := dkwJ6_checkInvariants_3 ++ dktJ6_checkInvariants_4
def dkwJ6_checkInvariants_2 : List UInt8 := [155, 0, 15, 42, 180, 0, 7, 42, 180, 0, 11, 190, 164, 0, 11, 187, 0, 15, 89, 183, 0, 17, 191]
abbrev dktJ6_checkInvariants_2 : List UInt8 := dkwJ6_checkInvariants_2 ++ dktJ6_checkInvariants_3
def dkwJ6_checkInvariants_1 : List UInt8 := [9, 148, 154, 0, 11, 187, 0, 15, 89, 183, 0, 17, 191, 178, 0, 3, 154, 0, 30, 42, 180, 0, 7]
abbrev dktJ6_checkInvariants_1 : List UInt8 := dkwJ6_checkInvariants_1 ++ dktJ6_checkInvariants_2
def dkwJ6_checkInvariants_0 : List UInt8 := [178, 0, 3, 154, 0, 34, 42, 180, 0, 7, 153, 0, 27, 42, 180, 0, 11, 42, 180, 0, 7, 4, 100, 47]
abbrev dktJ6_checkInvariants_0 : List UInt8 := dkwJ6_checkInvariants_0 ++ dktJ6_checkInvariants_1
theorem dksJ6_checkInvariants_0 : cJ6_checkInvariants.data.toList.drop 0 = dktJ6_checkInvariants_0 := by decide +kernel
theorem dksJ6_checkInvariants_1 : cJ6_checkInvariants.data.toList.drop 24 = dktJ6_checkInvariants_1 := dk_seg dksJ6_checkInvariants_0 24 rfl rfl
theorem dksJ6_checkInvariants_2 : cJ6_checkInvariants.data.toList.drop 47 = dktJ6_checkInvariants_2 := dk_seg dksJ6_checkInvariants_1 23 rfl rfl
theorem dksJ6_checkInvariants_3 : cJ6_checkInvariants.data.toList.drop 70 = dktJ6_checkInvariants_3 := dk_seg dksJ6_checkInvariants_2 23 rfl rfl
theorem dksJ6_checkInvariants_4 : cJ6_checkInvariants.data.toList.drop 93 = dktJ6_checkInvariants_4 := dk_seg dksJ6_checkInvariants_3 23 rfl rfl
theorem dJ6_checkInvariants_0 : decode cJ6_checkInvariants 0 = .ok (.getstatic 3, 3) := dk_178 0 3 (dk_at dksJ6_checkInvariants_0 0 rfl rfl)
theorem dJ6_checkInvariants_3 : decode cJ6_checkInvariants 3 = .ok (.ifCond .ne 34, 3) := dk_154 0 34 (dk_at dksJ6_checkInvariants_0 3 rfl rfl)
theorem dJ6_checkInvariants_6 : decode cJ6_checkInvariants 6 = .ok (.aload_n 0, 1) := dk_42 (dk_at dksJ6_checkInvariants_0 6 rfl rfl)
theorem dJ6_checkInvariants_7 : decode cJ6_checkInvariants 7 = .ok (.getfield 7, 3) := dk_180 0 7 (dk_at dksJ6_checkInvariants_0 7 rfl rfl)
theorem dJ6_checkInvariants_10 : decode cJ6_checkInvariants 10 = .ok (.ifCond .eq 27, 3) := dk_153 0 27 (dk_at dksJ6_checkInvariants_0 10 rfl rfl)
theorem dJ6_checkInvariants_13 : decode cJ6_checkInvariants 13 = .ok (.aload_n 0, 1) := dk_42 (dk_at dksJ6_checkInvariants_0 13 rfl rfl)
theorem dJ6_checkInvariants_14 : decode cJ6_checkInvariants 14 = .ok (.getfield 11, 3) := dk_180 0 11 (dk_at dksJ6_checkInvariants_0 14 rfl rfl)
theorem dJ6_checkInvariants_17 : decode cJ6_checkInvariants 17 = .ok (.aload_n 0, 1) := dk_42 (dk_at dksJ6_checkInvariants_0 17 rfl rfl)
theorem dJ6_checkInvariants_18 : decode cJ6_checkInvariants 18 = .ok (.getfield 7, 3) := dk_180 0 7 (dk_at dksJ6_checkInvariants_0 18 rfl rfl)
theorem dJ6_checkInvariants_21 : decode cJ6_checkInvariants 21 = .ok (.iconst 1, 1) := dk_4 (dk_at dksJ6_checkInvariants_0 21 rfl rfl)
theorem dJ6_checkInvariants_22 : decode cJ6_checkInvariants 22 = .ok (.isub, 1) := dk_100 (dk_at dksJ6_checkInvariants_0 22 rfl rfl)
theorem dJ6_checkInvariants_23 : decode cJ6_checkInvariants 23 = .ok (.laload, 1) := dk_47 (dk_at dksJ6_checkInvariants_0 23 rfl rfl)
theorem dJ6_checkInvariants_24 : decode cJ6_checkInvariants 24 = .ok (.lconst 0, 1) := dk_9 (dk_at dksJ6_checkInvariants_1 0 rfl rfl)
theorem dJ6_checkInvariants_25 : decode cJ6_checkInvariants 25 = .ok (.lcmp, 1) := dk_148 (dk_at dksJ6_checkInvariants_1 1 rfl rfl)
theorem dJ6_checkInvariants_26 : decode cJ6_checkInvariants 26 = .ok (.ifCond .ne 11, 3) := dk_154 0 11 (dk_at dksJ6_checkInvariants_1 2 rfl rfl)
theorem dJ6_checkInvariants_29 : decode cJ6_checkInvariants 29 = .ok (.new 15, 3) := dk_187 0 15 (dk_at dksJ6_checkInvariants_1 5 rfl rfl)
theorem dJ6_checkInvariants_32 : decode cJ6_checkInvariants 32 = .ok (.dup, 1) := dk_89 (dk_at dksJ6_checkInvariants_1 8 rfl rfl)
theorem dJ6_checkInvariants_33 : decode cJ6_checkInvariants 33 = .ok (.invokespecial 17, 3) := dk_183 0 17 (dk_at dksJ6_checkInvariants_1 9 rfl rfl)
theorem dJ6_checkInvariants_36 : decode cJ6_checkInvariants 36 = .ok (.athrow, 1) := dk_191 (dk_at dksJ6_checkInvariants_1 12 rfl rfl)
theorem dJ6_checkInvariants_37 : decode cJ6_checkInvariants 37 = .ok (.getstatic 3, 3) := dk_178 0 3 (dk_at dksJ6_checkInvariants_1 13 rfl rfl)
theorem dJ6_checkInvariants_40 : decode cJ6_checkInvariants 40 = .ok (.ifCond .ne 30, 3) := dk_154 0 30 (dk_at dksJ6_checkInvariants_1 16 rfl rfl)
theorem dJ6_checkInvariants_43 : decode cJ6_checkInvariants 43 = .ok (.aload_n 0, 1) := dk_42 (dk_at dksJ6_checkInvariants_1 19 rfl rfl)
theorem dJ6_checkInvariants_44 : decode cJ6_checkInvariants 44 = .ok (.getfield 7, 3) := dk_180 0 7 (dk_at dksJ6_checkInvariants_1 20 rfl rfl)
theorem dJ6_checkInvariants_47 : decode cJ6_checkInvariants 47 = .ok (.ifCond .lt 15, 3) := dk_155 0 15 (dk_at dksJ6_checkInvariants_2 0 rfl rfl)
theorem dJ6_checkInvariants_50 : decode cJ6_checkInvariants 50 = .ok (.aload_n 0, 1) := dk_42 (dk_at dksJ6_checkInvariants_2 3 rfl rfl)
theorem dJ6_checkInvariants_51 : decode cJ6_checkInvariants 51 = .ok (.getfield 7, 3) := dk_180 0 7 (dk_at dksJ6_checkInvariants_2 4 rfl rfl)
theorem dJ6_checkInvariants_54 : decode cJ6_checkInvariants 54 = .ok (.aload_n 0, 1) := dk_42 (dk_at dksJ6_checkInvariants_2 7 rfl rfl)
theorem dJ6_checkInvariants_55 : decode cJ6_checkInvariants 55 = .ok (.getfield 11, 3) := dk_180 0 11 (dk_at dksJ6_checkInvariants_2 8 rfl rfl)
theorem dJ6_checkInvariants_58 : decode cJ6_checkInvariants 58 = .ok (.arraylength, 1) := dk_190 (dk_at dksJ6_checkInvariants_2 11 rfl rfl)
theorem dJ6_checkInvariants_59 : decode cJ6_checkInvariants 59 = .ok (.if_icmp .le 11, 3) := dk_164 0 11 (dk_at dksJ6_checkInvariants_2 12 rfl rfl)
theorem dJ6_checkInvariants_62 : decode cJ6_checkInvariants 62 = .ok (.new 15, 3) := dk_187 0 15 (dk_at dksJ6_checkInvariants_2 15 rfl rfl)
theorem dJ6_checkInvariants_65 : decode cJ6_checkInvariants 65 = .ok (.dup, 1) := dk_89 (dk_at dksJ6_checkInvariants_2 18 rfl rfl)
theorem dJ6_checkInvariants_66 : decode cJ6_checkInvariants 66 = .ok (.invokespecial 17, 3) := dk_183 0 17 (dk_at dksJ6_checkInvariants_2 19 rfl rfl)
theorem dJ6_checkInvariants_69 : decode cJ6_checkInvariants 69 = .ok (.athrow, 1) := dk_191 (dk_at dksJ6_checkInvariants_2 22 rfl rfl)
theorem dJ6_checkInvariants_70 : decode cJ6_checkInvariants 70 = .ok (.getstatic 3, 3) := dk_178 0 3 (dk_at dksJ6_checkInvariants_3 0 rfl rfl)
theorem dJ6_checkInvariants_73 : decode cJ6_checkInvariants 73 = .ok (.ifCond .ne 37, 3) := dk_154 0 37 (dk_at dksJ6_checkInvariants_3 3 rfl rfl)
theorem dJ6_checkInvariants_76 : decode cJ6_checkInvariants 76 = .ok (.aload_n 0, 1) := dk_42 (dk_at dksJ6_checkInvariants_3 6 rfl rfl)
theorem dJ6_checkInvariants_77 : decode cJ6_checkInvariants 77 = .ok (.getfield 7, 3) := dk_180 0 7 (dk_at dksJ6_checkInvariants_3 7 rfl rfl)
theorem dJ6_checkInvariants_80 : decode cJ6_checkInvariants 80 = .ok (.aload_n 0, 1) := dk_42 (dk_at dksJ6_checkInvariants_3 10 rfl rfl)
theorem dJ6_checkInvariants_81 : decode cJ6_checkInvariants 81 = .ok (.getfield 11, 3) := dk_180 0 11 (dk_at dksJ6_checkInvariants_3 11 rfl rfl)
theorem dJ6_checkInvariants_84 : decode cJ6_checkInvariants 84 = .ok (.arraylength, 1) := dk_190 (dk_at dksJ6_checkInvariants_3 14 rfl rfl)
theorem dJ6_checkInvariants_85 : decode cJ6_checkInvariants 85 = .ok (.if_icmp .eq 25, 3) := dk_159 0 25 (dk_at dksJ6_checkInvariants_3 15 rfl rfl)
theorem dJ6_checkInvariants_88 : decode cJ6_checkInvariants 88 = .ok (.aload_n 0, 1) := dk_42 (dk_at dksJ6_checkInvariants_3 18 rfl rfl)
theorem dJ6_checkInvariants_89 : decode cJ6_checkInvariants 89 = .ok (.getfield 11, 3) := dk_180 0 11 (dk_at dksJ6_checkInvariants_3 19 rfl rfl)
theorem dJ6_checkInvariants_92 : decode cJ6_checkInvariants 92 = .ok (.aload_n 0, 1) := dk_42 (dk_at dksJ6_checkInvariants_3 22 rfl rfl)
theorem dJ6_checkInvariants_93 : decode cJ6_checkInvariants 93 = .ok (.getfield 7, 3) := dk_180 0 7 (dk_at dksJ6_checkInvariants_4 0 rfl rfl)
theorem dJ6_checkInvariants_96 : decode cJ6_checkInvariants 96 = .ok (.laload, 1) := dk_47 (dk_at dksJ6_checkInvariants_4 3 rfl rfl)
theorem dJ6_checkInvariants_97 : decode cJ6_checkInvariants 97 = .ok (.lconst 0, 1) := dk_9 (dk_at dksJ6_checkInvariants_4 4 rfl rfl)
theorem dJ6_checkInvariants_98 : decode cJ6_checkInvariants 98 = .ok (.lcmp, 1) := dk_148 (dk_at dksJ6_checkInvariants_4 5 rfl rfl)
theorem dJ6_checkInvariants_99 : decode cJ6_checkInvariants 99 = .ok (.ifCond .eq 11, 3) := dk_153 0 11 (dk_at dksJ6_checkInvariants_4 6 rfl rfl)
theorem dJ6_checkInvariants_102 : decode cJ6_checkInvariants 102 = .ok (.new 15, 3) := dk_187 0 15 (dk_at dksJ6_checkInvariants_4 9 rfl rfl)
theorem dJ6_checkInvariants_105 : decode cJ6_checkInvariants 105 = .ok (.dup, 1) := dk_89 (dk_at dksJ6_checkInvariants_4 12 rfl rfl)
theorem dJ6_checkInvariants_106 : decode cJ6_checkInvariants 106 = .ok (.invokespecial 17, 3) := dk_183 0 17 (dk_at dksJ6_checkInvariants_4 13 rfl rfl)
theorem dJ6_checkInvariants_109 : decode cJ6_checkInvariants 109 = .ok (.athrow, 1) := dk_191 (dk_at dksJ6_checkInvariants_4 16 rfl rfl)
theorem dJ6_checkInvariants_110 : decode cJ6_checkInvariants 110 = .ok (.return_, 1) := dk_177 (dk_at dksJ6_checkInvariants_4 17 rfl rfl)
abbrev cJ6_set : ByteArray := prog_52_method_19_code
def yJ6_set : MethodName := ⟨RJ6, "set", "(I)V"⟩
def dkwJ6_set_2 : List UInt8 := [10, 27, 121, 129, 80, 42, 182, 0, 56, 177]
abbrev dktJ6_set_2 : List UInt8 := dkwJ6_set_2 ++ []
def dkwJ6_set_1 : List UInt8 := [182, 0, 45, 183, 0, 146, 191, 27, 184, 0, 52, 61, 42, 28, 182, 0, 155, 42, 180, 0, 11, 28, 92, 47]
abbrev dktJ6_set_1 : List UInt8 := dkwJ6_set_1 ++ dktJ6_set_2
def dkwJ6_set_0 : List UInt8 := [27, 156, 0, 30, 187, 0, 142, 89, 187, 0, 33, 89, 183, 0, 35, 18, 153, 182, 0, 38, 27, 182, 0, 42]
abbrev dktJ6_set_0 : List UInt8 := dkwJ6_set_0 ++ dktJ6_set_1
theorem dksJ6_set_0 : cJ6_set.data.toList.drop 0 = dktJ6_set_0 := by decide +kernel
theorem dksJ6_set_1 : cJ6_set.data.toList.drop 24 = dktJ6_set_1 := dk_seg dksJ6_set_0 24 rfl rfl
theorem dksJ6_set_2 : cJ6_set.data.toList.drop 48 = dktJ6_set_2 := dk_seg dksJ6_set_1 24 rfl rfl
theorem dJ6_set_0 : decode cJ6_set 0 = .ok (.iload_n 1, 1) := dk_27 (dk_at dksJ6_set_0 0 rfl rfl)
theorem dJ6_set_1 : decode cJ6_set 1 = .ok (.ifCond .ge 30, 3) := dk_156 0 30 (dk_at dksJ6_set_0 1 rfl rfl)
theorem dJ6_set_4 : decode cJ6_set 4 = .ok (.new 142, 3) := dk_187 0 142 (dk_at dksJ6_set_0 4 rfl rfl)
theorem dJ6_set_7 : decode cJ6_set 7 = .ok (.dup, 1) := dk_89 (dk_at dksJ6_set_0 7 rfl rfl)
theorem dJ6_set_8 : decode cJ6_set 8 = .ok (.new 33, 3) := dk_187 0 33 (dk_at dksJ6_set_0 8 rfl rfl)
theorem dJ6_set_11 : decode cJ6_set 11 = .ok (.dup, 1) := dk_89 (dk_at dksJ6_set_0 11 rfl rfl)
theorem dJ6_set_12 : decode cJ6_set 12 = .ok (.invokespecial 35, 3) := dk_183 0 35 (dk_at dksJ6_set_0 12 rfl rfl)
theorem dJ6_set_15 : decode cJ6_set 15 = .ok (.ldc 153, 2) := dk_18 153 (dk_at dksJ6_set_0 15 rfl rfl)
theorem dJ6_set_17 : decode cJ6_set 17 = .ok (.invokevirtual 38, 3) := dk_182 0 38 (dk_at dksJ6_set_0 17 rfl rfl)
theorem dJ6_set_20 : decode cJ6_set 20 = .ok (.iload_n 1, 1) := dk_27 (dk_at dksJ6_set_0 20 rfl rfl)
theorem dJ6_set_21 : decode cJ6_set 21 = .ok (.invokevirtual 42, 3) := dk_182 0 42 (dk_at dksJ6_set_0 21 rfl rfl)
theorem dJ6_set_24 : decode cJ6_set 24 = .ok (.invokevirtual 45, 3) := dk_182 0 45 (dk_at dksJ6_set_1 0 rfl rfl)
theorem dJ6_set_27 : decode cJ6_set 27 = .ok (.invokespecial 146, 3) := dk_183 0 146 (dk_at dksJ6_set_1 3 rfl rfl)
theorem dJ6_set_30 : decode cJ6_set 30 = .ok (.athrow, 1) := dk_191 (dk_at dksJ6_set_1 6 rfl rfl)
theorem dJ6_set_31 : decode cJ6_set 31 = .ok (.iload_n 1, 1) := dk_27 (dk_at dksJ6_set_1 7 rfl rfl)
theorem dJ6_set_32 : decode cJ6_set 32 = .ok (.invokestatic 52, 3) := dk_184 0 52 (dk_at dksJ6_set_1 8 rfl rfl)
theorem dJ6_set_35 : decode cJ6_set 35 = .ok (.istore_n 2, 1) := dk_61 (dk_at dksJ6_set_1 11 rfl rfl)
theorem dJ6_set_36 : decode cJ6_set 36 = .ok (.aload_n 0, 1) := dk_42 (dk_at dksJ6_set_1 12 rfl rfl)
theorem dJ6_set_37 : decode cJ6_set 37 = .ok (.iload_n 2, 1) := dk_28 (dk_at dksJ6_set_1 13 rfl rfl)
theorem dJ6_set_38 : decode cJ6_set 38 = .ok (.invokevirtual 155, 3) := dk_182 0 155 (dk_at dksJ6_set_1 14 rfl rfl)
theorem dJ6_set_41 : decode cJ6_set 41 = .ok (.aload_n 0, 1) := dk_42 (dk_at dksJ6_set_1 17 rfl rfl)
theorem dJ6_set_42 : decode cJ6_set 42 = .ok (.getfield 11, 3) := dk_180 0 11 (dk_at dksJ6_set_1 18 rfl rfl)
theorem dJ6_set_45 : decode cJ6_set 45 = .ok (.iload_n 2, 1) := dk_28 (dk_at dksJ6_set_1 21 rfl rfl)
theorem dJ6_set_46 : decode cJ6_set 46 = .ok (.dup2, 1) := dk_92 (dk_at dksJ6_set_1 22 rfl rfl)
theorem dJ6_set_47 : decode cJ6_set 47 = .ok (.laload, 1) := dk_47 (dk_at dksJ6_set_1 23 rfl rfl)
theorem dJ6_set_48 : decode cJ6_set 48 = .ok (.lconst 1, 1) := dk_10 (dk_at dksJ6_set_2 0 rfl rfl)
theorem dJ6_set_49 : decode cJ6_set 49 = .ok (.iload_n 1, 1) := dk_27 (dk_at dksJ6_set_2 1 rfl rfl)
theorem dJ6_set_50 : decode cJ6_set 50 = .ok (.lshl, 1) := dk_121 (dk_at dksJ6_set_2 2 rfl rfl)
theorem dJ6_set_51 : decode cJ6_set 51 = .ok (.lor, 1) := dk_129 (dk_at dksJ6_set_2 3 rfl rfl)
theorem dJ6_set_52 : decode cJ6_set 52 = .ok (.lastore, 1) := dk_80 (dk_at dksJ6_set_2 4 rfl rfl)
theorem dJ6_set_53 : decode cJ6_set 53 = .ok (.aload_n 0, 1) := dk_42 (dk_at dksJ6_set_2 5 rfl rfl)
theorem dJ6_set_54 : decode cJ6_set 54 = .ok (.invokevirtual 56, 3) := dk_182 0 56 (dk_at dksJ6_set_2 6 rfl rfl)
theorem dJ6_set_57 : decode cJ6_set 57 = .ok (.return_, 1) := dk_177 (dk_at dksJ6_set_2 9 rfl rfl)
abbrev cJ6_expandTo : ByteArray := prog_52_method_15_code
def yJ6_expandTo : MethodName := ⟨RJ6, "expandTo", "(I)V"⟩
def dkwJ6_expandTo_0 : List UInt8 := [27, 4, 96, 61, 42, 180, 0, 7, 28, 162, 0, 13, 42, 28, 182, 0, 139, 42, 28, 181, 0, 7, 177]
abbrev dktJ6_expandTo_0 : List UInt8 := dkwJ6_expandTo_0 ++ []
theorem dksJ6_expandTo_0 : cJ6_expandTo.data.toList.drop 0 = dktJ6_expandTo_0 := by decide +kernel
theorem dJ6_expandTo_0 : decode cJ6_expandTo 0 = .ok (.iload_n 1, 1) := dk_27 (dk_at dksJ6_expandTo_0 0 rfl rfl)
theorem dJ6_expandTo_1 : decode cJ6_expandTo 1 = .ok (.iconst 1, 1) := dk_4 (dk_at dksJ6_expandTo_0 1 rfl rfl)
theorem dJ6_expandTo_2 : decode cJ6_expandTo 2 = .ok (.iadd, 1) := dk_96 (dk_at dksJ6_expandTo_0 2 rfl rfl)
theorem dJ6_expandTo_3 : decode cJ6_expandTo 3 = .ok (.istore_n 2, 1) := dk_61 (dk_at dksJ6_expandTo_0 3 rfl rfl)
theorem dJ6_expandTo_4 : decode cJ6_expandTo 4 = .ok (.aload_n 0, 1) := dk_42 (dk_at dksJ6_expandTo_0 4 rfl rfl)
theorem dJ6_expandTo_5 : decode cJ6_expandTo 5 = .ok (.getfield 7, 3) := dk_180 0 7 (dk_at dksJ6_expandTo_0 5 rfl rfl)
theorem dJ6_expandTo_8 : decode cJ6_expandTo 8 = .ok (.iload_n 2, 1) := dk_28 (dk_at dksJ6_expandTo_0 8 rfl rfl)
theorem dJ6_expandTo_9 : decode cJ6_expandTo 9 = .ok (.if_icmp .ge 13, 3) := dk_162 0 13 (dk_at dksJ6_expandTo_0 9 rfl rfl)
theorem dJ6_expandTo_12 : decode cJ6_expandTo 12 = .ok (.aload_n 0, 1) := dk_42 (dk_at dksJ6_expandTo_0 12 rfl rfl)
theorem dJ6_expandTo_13 : decode cJ6_expandTo 13 = .ok (.iload_n 2, 1) := dk_28 (dk_at dksJ6_expandTo_0 13 rfl rfl)
theorem dJ6_expandTo_14 : decode cJ6_expandTo 14 = .ok (.invokevirtual 139, 3) := dk_182 0 139 (dk_at dksJ6_expandTo_0 14 rfl rfl)
theorem dJ6_expandTo_17 : decode cJ6_expandTo 17 = .ok (.aload_n 0, 1) := dk_42 (dk_at dksJ6_expandTo_0 17 rfl rfl)
theorem dJ6_expandTo_18 : decode cJ6_expandTo 18 = .ok (.iload_n 2, 1) := dk_28 (dk_at dksJ6_expandTo_0 18 rfl rfl)
theorem dJ6_expandTo_19 : decode cJ6_expandTo 19 = .ok (.putfield 7, 3) := dk_181 0 7 (dk_at dksJ6_expandTo_0 19 rfl rfl)
theorem dJ6_expandTo_22 : decode cJ6_expandTo 22 = .ok (.return_, 1) := dk_177 (dk_at dksJ6_expandTo_0 22 rfl rfl)
abbrev cJ6_ensureCapacity : ByteArray := prog_52_method_14_code
def yJ6_ensureCapacity : MethodName := ⟨RJ6, "ensureCapacity", "(I)V"⟩
def dkwJ6_ensureCapacity_1 : List UInt8 := [180, 0, 11, 28, 184, 0, 59, 181, 0, 11, 42, 3, 181, 0, 24, 177]
abbrev dktJ6_ensureCapacity_1 : List UInt8 := dkwJ6_ensureCapacity_1 ++ []
def dkwJ6_ensureCapacity_0 : List UInt8 := [42, 180, 0, 11, 190, 27, 162, 0, 32, 5, 42, 180, 0, 11, 190, 104, 27, 184, 0, 133, 61, 42, 42]
abbrev dktJ6_ensureCapacity_0 : List UInt8 := dkwJ6_ensureCapacity_0 ++ dktJ6_ensureCapacity_1
theorem dksJ6_ensureCapacity_0 : cJ6_ensureCapacity.data.toList.drop 0 = dktJ6_ensureCapacity_0 := by decide +kernel
theorem dksJ6_ensureCapacity_1 : cJ6_ensureCapacity.data.toList.drop 23 = dktJ6_ensureCapacity_1 := dk_seg dksJ6_ensureCapacity_0 23 rfl rfl
theorem dJ6_ensureCapacity_0 : decode cJ6_ensureCapacity 0 = .ok (.aload_n 0, 1) := dk_42 (dk_at dksJ6_ensureCapacity_0 0 rfl rfl)
theorem dJ6_ensureCapacity_1 : decode cJ6_ensureCapacity 1 = .ok (.getfield 11, 3) := dk_180 0 11 (dk_at dksJ6_ensureCapacity_0 1 rfl rfl)
theorem dJ6_ensureCapacity_4 : decode cJ6_ensureCapacity 4 = .ok (.arraylength, 1) := dk_190 (dk_at dksJ6_ensureCapacity_0 4 rfl rfl)
theorem dJ6_ensureCapacity_5 : decode cJ6_ensureCapacity 5 = .ok (.iload_n 1, 1) := dk_27 (dk_at dksJ6_ensureCapacity_0 5 rfl rfl)
theorem dJ6_ensureCapacity_6 : decode cJ6_ensureCapacity 6 = .ok (.if_icmp .ge 32, 3) := dk_162 0 32 (dk_at dksJ6_ensureCapacity_0 6 rfl rfl)
theorem dJ6_ensureCapacity_9 : decode cJ6_ensureCapacity 9 = .ok (.iconst 2, 1) := dk_5 (dk_at dksJ6_ensureCapacity_0 9 rfl rfl)
theorem dJ6_ensureCapacity_10 : decode cJ6_ensureCapacity 10 = .ok (.aload_n 0, 1) := dk_42 (dk_at dksJ6_ensureCapacity_0 10 rfl rfl)
theorem dJ6_ensureCapacity_11 : decode cJ6_ensureCapacity 11 = .ok (.getfield 11, 3) := dk_180 0 11 (dk_at dksJ6_ensureCapacity_0 11 rfl rfl)
theorem dJ6_ensureCapacity_14 : decode cJ6_ensureCapacity 14 = .ok (.arraylength, 1) := dk_190 (dk_at dksJ6_ensureCapacity_0 14 rfl rfl)
theorem dJ6_ensureCapacity_15 : decode cJ6_ensureCapacity 15 = .ok (.imul, 1) := dk_104 (dk_at dksJ6_ensureCapacity_0 15 rfl rfl)
theorem dJ6_ensureCapacity_16 : decode cJ6_ensureCapacity 16 = .ok (.iload_n 1, 1) := dk_27 (dk_at dksJ6_ensureCapacity_0 16 rfl rfl)
theorem dJ6_ensureCapacity_17 : decode cJ6_ensureCapacity 17 = .ok (.invokestatic 133, 3) := dk_184 0 133 (dk_at dksJ6_ensureCapacity_0 17 rfl rfl)
theorem dJ6_ensureCapacity_20 : decode cJ6_ensureCapacity 20 = .ok (.istore_n 2, 1) := dk_61 (dk_at dksJ6_ensureCapacity_0 20 rfl rfl)
theorem dJ6_ensureCapacity_21 : decode cJ6_ensureCapacity 21 = .ok (.aload_n 0, 1) := dk_42 (dk_at dksJ6_ensureCapacity_0 21 rfl rfl)
theorem dJ6_ensureCapacity_22 : decode cJ6_ensureCapacity 22 = .ok (.aload_n 0, 1) := dk_42 (dk_at dksJ6_ensureCapacity_0 22 rfl rfl)
theorem dJ6_ensureCapacity_23 : decode cJ6_ensureCapacity 23 = .ok (.getfield 11, 3) := dk_180 0 11 (dk_at dksJ6_ensureCapacity_1 0 rfl rfl)
theorem dJ6_ensureCapacity_26 : decode cJ6_ensureCapacity 26 = .ok (.iload_n 2, 1) := dk_28 (dk_at dksJ6_ensureCapacity_1 3 rfl rfl)
theorem dJ6_ensureCapacity_27 : decode cJ6_ensureCapacity 27 = .ok (.invokestatic 59, 3) := dk_184 0 59 (dk_at dksJ6_ensureCapacity_1 4 rfl rfl)
theorem dJ6_ensureCapacity_30 : decode cJ6_ensureCapacity 30 = .ok (.putfield 11, 3) := dk_181 0 11 (dk_at dksJ6_ensureCapacity_1 7 rfl rfl)
theorem dJ6_ensureCapacity_33 : decode cJ6_ensureCapacity 33 = .ok (.aload_n 0, 1) := dk_42 (dk_at dksJ6_ensureCapacity_1 10 rfl rfl)
theorem dJ6_ensureCapacity_34 : decode cJ6_ensureCapacity 34 = .ok (.iconst 0, 1) := dk_3 (dk_at dksJ6_ensureCapacity_1 11 rfl rfl)
theorem dJ6_ensureCapacity_35 : decode cJ6_ensureCapacity 35 = .ok (.putfield 24, 3) := dk_181 0 24 (dk_at dksJ6_ensureCapacity_1 12 rfl rfl)
theorem dJ6_ensureCapacity_38 : decode cJ6_ensureCapacity 38 = .ok (.return_, 1) := dk_177 (dk_at dksJ6_ensureCapacity_1 15 rfl rfl)
abbrev cJ6_init_2 : ByteArray := prog_52_method_5_code
def yJ6_init_2 : MethodName := ⟨RJ6, "<init>", "(I)V"⟩
def dkwJ6_init_2_2 : List UInt8 := [27, 182, 0, 27, 42, 4, 181, 0, 24, 177]
abbrev dktJ6_init_2_2 : List UInt8 := dkwJ6_init_2_2 ++ []
def dkwJ6_init_2_1 : List UInt8 := [187, 0, 33, 89, 183, 0, 35, 18, 36, 182, 0, 38, 27, 182, 0, 42, 182, 0, 45, 183, 0, 49, 191, 42]
abbrev dktJ6_init_2_1 : List UInt8 := dkwJ6_init_2_1 ++ dktJ6_init_2_2
def dkwJ6_init_2_0 : List UInt8 := [42, 183, 0, 21, 42, 3, 181, 0, 7, 42, 3, 181, 0, 24, 27, 156, 0, 30, 187, 0, 31, 89]
abbrev dktJ6_init_2_0 : List UInt8 := dkwJ6_init_2_0 ++ dktJ6_init_2_1
theorem dksJ6_init_2_0 : cJ6_init_2.data.toList.drop 0 = dktJ6_init_2_0 := by decide +kernel
theorem dksJ6_init_2_1 : cJ6_init_2.data.toList.drop 22 = dktJ6_init_2_1 := dk_seg dksJ6_init_2_0 22 rfl rfl
theorem dksJ6_init_2_2 : cJ6_init_2.data.toList.drop 46 = dktJ6_init_2_2 := dk_seg dksJ6_init_2_1 24 rfl rfl
theorem dJ6_init_2_0 : decode cJ6_init_2 0 = .ok (.aload_n 0, 1) := dk_42 (dk_at dksJ6_init_2_0 0 rfl rfl)
theorem dJ6_init_2_1 : decode cJ6_init_2 1 = .ok (.invokespecial 21, 3) := dk_183 0 21 (dk_at dksJ6_init_2_0 1 rfl rfl)
theorem dJ6_init_2_4 : decode cJ6_init_2 4 = .ok (.aload_n 0, 1) := dk_42 (dk_at dksJ6_init_2_0 4 rfl rfl)
theorem dJ6_init_2_5 : decode cJ6_init_2 5 = .ok (.iconst 0, 1) := dk_3 (dk_at dksJ6_init_2_0 5 rfl rfl)
theorem dJ6_init_2_6 : decode cJ6_init_2 6 = .ok (.putfield 7, 3) := dk_181 0 7 (dk_at dksJ6_init_2_0 6 rfl rfl)
theorem dJ6_init_2_9 : decode cJ6_init_2 9 = .ok (.aload_n 0, 1) := dk_42 (dk_at dksJ6_init_2_0 9 rfl rfl)
theorem dJ6_init_2_10 : decode cJ6_init_2 10 = .ok (.iconst 0, 1) := dk_3 (dk_at dksJ6_init_2_0 10 rfl rfl)
theorem dJ6_init_2_11 : decode cJ6_init_2 11 = .ok (.putfield 24, 3) := dk_181 0 24 (dk_at dksJ6_init_2_0 11 rfl rfl)
theorem dJ6_init_2_14 : decode cJ6_init_2 14 = .ok (.iload_n 1, 1) := dk_27 (dk_at dksJ6_init_2_0 14 rfl rfl)
theorem dJ6_init_2_15 : decode cJ6_init_2 15 = .ok (.ifCond .ge 30, 3) := dk_156 0 30 (dk_at dksJ6_init_2_0 15 rfl rfl)
theorem dJ6_init_2_18 : decode cJ6_init_2 18 = .ok (.new 31, 3) := dk_187 0 31 (dk_at dksJ6_init_2_0 18 rfl rfl)
theorem dJ6_init_2_21 : decode cJ6_init_2 21 = .ok (.dup, 1) := dk_89 (dk_at dksJ6_init_2_0 21 rfl rfl)
theorem dJ6_init_2_22 : decode cJ6_init_2 22 = .ok (.new 33, 3) := dk_187 0 33 (dk_at dksJ6_init_2_1 0 rfl rfl)
theorem dJ6_init_2_25 : decode cJ6_init_2 25 = .ok (.dup, 1) := dk_89 (dk_at dksJ6_init_2_1 3 rfl rfl)
theorem dJ6_init_2_26 : decode cJ6_init_2 26 = .ok (.invokespecial 35, 3) := dk_183 0 35 (dk_at dksJ6_init_2_1 4 rfl rfl)
theorem dJ6_init_2_29 : decode cJ6_init_2 29 = .ok (.ldc 36, 2) := dk_18 36 (dk_at dksJ6_init_2_1 7 rfl rfl)
theorem dJ6_init_2_31 : decode cJ6_init_2 31 = .ok (.invokevirtual 38, 3) := dk_182 0 38 (dk_at dksJ6_init_2_1 9 rfl rfl)
theorem dJ6_init_2_34 : decode cJ6_init_2 34 = .ok (.iload_n 1, 1) := dk_27 (dk_at dksJ6_init_2_1 12 rfl rfl)
theorem dJ6_init_2_35 : decode cJ6_init_2 35 = .ok (.invokevirtual 42, 3) := dk_182 0 42 (dk_at dksJ6_init_2_1 13 rfl rfl)
theorem dJ6_init_2_38 : decode cJ6_init_2 38 = .ok (.invokevirtual 45, 3) := dk_182 0 45 (dk_at dksJ6_init_2_1 16 rfl rfl)
theorem dJ6_init_2_41 : decode cJ6_init_2 41 = .ok (.invokespecial 49, 3) := dk_183 0 49 (dk_at dksJ6_init_2_1 19 rfl rfl)
theorem dJ6_init_2_44 : decode cJ6_init_2 44 = .ok (.athrow, 1) := dk_191 (dk_at dksJ6_init_2_1 22 rfl rfl)
theorem dJ6_init_2_45 : decode cJ6_init_2 45 = .ok (.aload_n 0, 1) := dk_42 (dk_at dksJ6_init_2_1 23 rfl rfl)
theorem dJ6_init_2_46 : decode cJ6_init_2 46 = .ok (.iload_n 1, 1) := dk_27 (dk_at dksJ6_init_2_2 0 rfl rfl)
theorem dJ6_init_2_47 : decode cJ6_init_2 47 = .ok (.invokevirtual 27, 3) := dk_182 0 27 (dk_at dksJ6_init_2_2 1 rfl rfl)
theorem dJ6_init_2_50 : decode cJ6_init_2 50 = .ok (.aload_n 0, 1) := dk_42 (dk_at dksJ6_init_2_2 4 rfl rfl)
theorem dJ6_init_2_51 : decode cJ6_init_2 51 = .ok (.iconst 1, 1) := dk_4 (dk_at dksJ6_init_2_2 5 rfl rfl)
theorem dJ6_init_2_52 : decode cJ6_init_2 52 = .ok (.putfield 24, 3) := dk_181 0 24 (dk_at dksJ6_init_2_2 6 rfl rfl)
theorem dJ6_init_2_55 : decode cJ6_init_2 55 = .ok (.return_, 1) := dk_177 (dk_at dksJ6_init_2_2 9 rfl rfl)
abbrev cJ6_nextSetBit : ByteArray := prog_52_method_28_code
def yJ6_nextSetBit : MethodName := ⟨RJ6, "nextSetBit", "(I)I"⟩
def dkwJ6_nextSetBit_4 : List UInt8 := [28, 47, 66, 167, 255, 220]
abbrev dktJ6_nextSetBit_4 : List UInt8 := dkwJ6_nextSetBit_4 ++ []
def dkwJ6_nextSetBit_3 : List UInt8 := [104, 33, 184, 0, 182, 96, 172, 132, 2, 1, 28, 42, 180, 0, 7, 160, 0, 5, 2, 172, 42, 180, 0, 11]
abbrev dktJ6_nextSetBit_3 : List UInt8 := dkwJ6_nextSetBit_3 ++ dktJ6_nextSetBit_4
def dkwJ6_nextSetBit_2 : List UInt8 := [2, 172, 42, 180, 0, 11, 28, 47, 20, 0, 165, 27, 121, 127, 66, 33, 9, 148, 153, 0, 13, 28, 16, 64]
abbrev dktJ6_nextSetBit_2 : List UInt8 := dkwJ6_nextSetBit_2 ++ dktJ6_nextSetBit_3
def dkwJ6_nextSetBit_1 : List UInt8 := [182, 0, 45, 183, 0, 146, 191, 42, 182, 0, 56, 27, 184, 0, 52, 61, 28, 42, 180, 0, 7, 161, 0, 5]
abbrev dktJ6_nextSetBit_1 : List UInt8 := dkwJ6_nextSetBit_1 ++ dktJ6_nextSetBit_2
def dkwJ6_nextSetBit_0 : List UInt8 := [27, 156, 0, 30, 187, 0, 142, 89, 187, 0, 33, 89, 183, 0, 35, 18, 144, 182, 0, 38, 27, 182, 0, 42]
abbrev dktJ6_nextSetBit_0 : List UInt8 := dkwJ6_nextSetBit_0 ++ dktJ6_nextSetBit_1
theorem dksJ6_nextSetBit_0 : cJ6_nextSetBit.data.toList.drop 0 = dktJ6_nextSetBit_0 := by decide +kernel
theorem dksJ6_nextSetBit_1 : cJ6_nextSetBit.data.toList.drop 24 = dktJ6_nextSetBit_1 := dk_seg dksJ6_nextSetBit_0 24 rfl rfl
theorem dksJ6_nextSetBit_2 : cJ6_nextSetBit.data.toList.drop 48 = dktJ6_nextSetBit_2 := dk_seg dksJ6_nextSetBit_1 24 rfl rfl
theorem dksJ6_nextSetBit_3 : cJ6_nextSetBit.data.toList.drop 72 = dktJ6_nextSetBit_3 := dk_seg dksJ6_nextSetBit_2 24 rfl rfl
theorem dksJ6_nextSetBit_4 : cJ6_nextSetBit.data.toList.drop 96 = dktJ6_nextSetBit_4 := dk_seg dksJ6_nextSetBit_3 24 rfl rfl
theorem dJ6_nextSetBit_0 : decode cJ6_nextSetBit 0 = .ok (.iload_n 1, 1) := dk_27 (dk_at dksJ6_nextSetBit_0 0 rfl rfl)
theorem dJ6_nextSetBit_1 : decode cJ6_nextSetBit 1 = .ok (.ifCond .ge 30, 3) := dk_156 0 30 (dk_at dksJ6_nextSetBit_0 1 rfl rfl)
theorem dJ6_nextSetBit_4 : decode cJ6_nextSetBit 4 = .ok (.new 142, 3) := dk_187 0 142 (dk_at dksJ6_nextSetBit_0 4 rfl rfl)
theorem dJ6_nextSetBit_7 : decode cJ6_nextSetBit 7 = .ok (.dup, 1) := dk_89 (dk_at dksJ6_nextSetBit_0 7 rfl rfl)
theorem dJ6_nextSetBit_8 : decode cJ6_nextSetBit 8 = .ok (.new 33, 3) := dk_187 0 33 (dk_at dksJ6_nextSetBit_0 8 rfl rfl)
theorem dJ6_nextSetBit_11 : decode cJ6_nextSetBit 11 = .ok (.dup, 1) := dk_89 (dk_at dksJ6_nextSetBit_0 11 rfl rfl)
theorem dJ6_nextSetBit_12 : decode cJ6_nextSetBit 12 = .ok (.invokespecial 35, 3) := dk_183 0 35 (dk_at dksJ6_nextSetBit_0 12 rfl rfl)
theorem dJ6_nextSetBit_15 : decode cJ6_nextSetBit 15 = .ok (.ldc 144, 2) := dk_18 144 (dk_at dksJ6_nextSetBit_0 15 rfl rfl)
theorem dJ6_nextSetBit_17 : decode cJ6_nextSetBit 17 = .ok (.invokevirtual 38, 3) := dk_182 0 38 (dk_at dksJ6_nextSetBit_0 17 rfl rfl)
theorem dJ6_nextSetBit_20 : decode cJ6_nextSetBit 20 = .ok (.iload_n 1, 1) := dk_27 (dk_at dksJ6_nextSetBit_0 20 rfl rfl)
theorem dJ6_nextSetBit_21 : decode cJ6_nextSetBit 21 = .ok (.invokevirtual 42, 3) := dk_182 0 42 (dk_at dksJ6_nextSetBit_0 21 rfl rfl)
theorem dJ6_nextSetBit_24 : decode cJ6_nextSetBit 24 = .ok (.invokevirtual 45, 3) := dk_182 0 45 (dk_at dksJ6_nextSetBit_1 0 rfl rfl)
theorem dJ6_nextSetBit_27 : decode cJ6_nextSetBit 27 = .ok (.invokespecial 146, 3) := dk_183 0 146 (dk_at dksJ6_nextSetBit_1 3 rfl rfl)
theorem dJ6_nextSetBit_30 : decode cJ6_nextSetBit 30 = .ok (.athrow, 1) := dk_191 (dk_at dksJ6_nextSetBit_1 6 rfl rfl)
theorem dJ6_nextSetBit_31 : decode cJ6_nextSetBit 31 = .ok (.aload_n 0, 1) := dk_42 (dk_at dksJ6_nextSetBit_1 7 rfl rfl)
theorem dJ6_nextSetBit_32 : decode cJ6_nextSetBit 32 = .ok (.invokevirtual 56, 3) := dk_182 0 56 (dk_at dksJ6_nextSetBit_1 8 rfl rfl)
theorem dJ6_nextSetBit_35 : decode cJ6_nextSetBit 35 = .ok (.iload_n 1, 1) := dk_27 (dk_at dksJ6_nextSetBit_1 11 rfl rfl)
theorem dJ6_nextSetBit_36 : decode cJ6_nextSetBit 36 = .ok (.invokestatic 52, 3) := dk_184 0 52 (dk_at dksJ6_nextSetBit_1 12 rfl rfl)
theorem dJ6_nextSetBit_39 : decode cJ6_nextSetBit 39 = .ok (.istore_n 2, 1) := dk_61 (dk_at dksJ6_nextSetBit_1 15 rfl rfl)
theorem dJ6_nextSetBit_40 : decode cJ6_nextSetBit 40 = .ok (.iload_n 2, 1) := dk_28 (dk_at dksJ6_nextSetBit_1 16 rfl rfl)
theorem dJ6_nextSetBit_41 : decode cJ6_nextSetBit 41 = .ok (.aload_n 0, 1) := dk_42 (dk_at dksJ6_nextSetBit_1 17 rfl rfl)
theorem dJ6_nextSetBit_42 : decode cJ6_nextSetBit 42 = .ok (.getfield 7, 3) := dk_180 0 7 (dk_at dksJ6_nextSetBit_1 18 rfl rfl)
theorem dJ6_nextSetBit_45 : decode cJ6_nextSetBit 45 = .ok (.if_icmp .lt 5, 3) := dk_161 0 5 (dk_at dksJ6_nextSetBit_1 21 rfl rfl)
theorem dJ6_nextSetBit_48 : decode cJ6_nextSetBit 48 = .ok (.iconst (-1), 1) := dk_2 (dk_at dksJ6_nextSetBit_2 0 rfl rfl)
theorem dJ6_nextSetBit_49 : decode cJ6_nextSetBit 49 = .ok (.ireturn, 1) := dk_172 (dk_at dksJ6_nextSetBit_2 1 rfl rfl)
theorem dJ6_nextSetBit_50 : decode cJ6_nextSetBit 50 = .ok (.aload_n 0, 1) := dk_42 (dk_at dksJ6_nextSetBit_2 2 rfl rfl)
theorem dJ6_nextSetBit_51 : decode cJ6_nextSetBit 51 = .ok (.getfield 11, 3) := dk_180 0 11 (dk_at dksJ6_nextSetBit_2 3 rfl rfl)
theorem dJ6_nextSetBit_54 : decode cJ6_nextSetBit 54 = .ok (.iload_n 2, 1) := dk_28 (dk_at dksJ6_nextSetBit_2 6 rfl rfl)
theorem dJ6_nextSetBit_55 : decode cJ6_nextSetBit 55 = .ok (.laload, 1) := dk_47 (dk_at dksJ6_nextSetBit_2 7 rfl rfl)
theorem dJ6_nextSetBit_56 : decode cJ6_nextSetBit 56 = .ok (.ldc2_w 165, 3) := dk_20 0 165 (dk_at dksJ6_nextSetBit_2 8 rfl rfl)
theorem dJ6_nextSetBit_59 : decode cJ6_nextSetBit 59 = .ok (.iload_n 1, 1) := dk_27 (dk_at dksJ6_nextSetBit_2 11 rfl rfl)
theorem dJ6_nextSetBit_60 : decode cJ6_nextSetBit 60 = .ok (.lshl, 1) := dk_121 (dk_at dksJ6_nextSetBit_2 12 rfl rfl)
theorem dJ6_nextSetBit_61 : decode cJ6_nextSetBit 61 = .ok (.land, 1) := dk_127 (dk_at dksJ6_nextSetBit_2 13 rfl rfl)
theorem dJ6_nextSetBit_62 : decode cJ6_nextSetBit 62 = .ok (.lstore_n 3, 1) := dk_66 (dk_at dksJ6_nextSetBit_2 14 rfl rfl)
theorem dJ6_nextSetBit_63 : decode cJ6_nextSetBit 63 = .ok (.lload_n 3, 1) := dk_33 (dk_at dksJ6_nextSetBit_2 15 rfl rfl)
theorem dJ6_nextSetBit_64 : decode cJ6_nextSetBit 64 = .ok (.lconst 0, 1) := dk_9 (dk_at dksJ6_nextSetBit_2 16 rfl rfl)
theorem dJ6_nextSetBit_65 : decode cJ6_nextSetBit 65 = .ok (.lcmp, 1) := dk_148 (dk_at dksJ6_nextSetBit_2 17 rfl rfl)
theorem dJ6_nextSetBit_66 : decode cJ6_nextSetBit 66 = .ok (.ifCond .eq 13, 3) := dk_153 0 13 (dk_at dksJ6_nextSetBit_2 18 rfl rfl)
theorem dJ6_nextSetBit_69 : decode cJ6_nextSetBit 69 = .ok (.iload_n 2, 1) := dk_28 (dk_at dksJ6_nextSetBit_2 21 rfl rfl)
theorem dJ6_nextSetBit_70 : decode cJ6_nextSetBit 70 = .ok (.bipush 64, 2) := dk_16 64 (dk_at dksJ6_nextSetBit_2 22 rfl rfl)
theorem dJ6_nextSetBit_72 : decode cJ6_nextSetBit 72 = .ok (.imul, 1) := dk_104 (dk_at dksJ6_nextSetBit_3 0 rfl rfl)
theorem dJ6_nextSetBit_73 : decode cJ6_nextSetBit 73 = .ok (.lload_n 3, 1) := dk_33 (dk_at dksJ6_nextSetBit_3 1 rfl rfl)
theorem dJ6_nextSetBit_74 : decode cJ6_nextSetBit 74 = .ok (.invokestatic 182, 3) := dk_184 0 182 (dk_at dksJ6_nextSetBit_3 2 rfl rfl)
theorem dJ6_nextSetBit_77 : decode cJ6_nextSetBit 77 = .ok (.iadd, 1) := dk_96 (dk_at dksJ6_nextSetBit_3 5 rfl rfl)
theorem dJ6_nextSetBit_78 : decode cJ6_nextSetBit 78 = .ok (.ireturn, 1) := dk_172 (dk_at dksJ6_nextSetBit_3 6 rfl rfl)
theorem dJ6_nextSetBit_79 : decode cJ6_nextSetBit 79 = .ok (.iinc 2 1, 3) := dk_132 2 1 (dk_at dksJ6_nextSetBit_3 7 rfl rfl)
theorem dJ6_nextSetBit_82 : decode cJ6_nextSetBit 82 = .ok (.iload_n 2, 1) := dk_28 (dk_at dksJ6_nextSetBit_3 10 rfl rfl)
theorem dJ6_nextSetBit_83 : decode cJ6_nextSetBit 83 = .ok (.aload_n 0, 1) := dk_42 (dk_at dksJ6_nextSetBit_3 11 rfl rfl)
theorem dJ6_nextSetBit_84 : decode cJ6_nextSetBit 84 = .ok (.getfield 7, 3) := dk_180 0 7 (dk_at dksJ6_nextSetBit_3 12 rfl rfl)
theorem dJ6_nextSetBit_87 : decode cJ6_nextSetBit 87 = .ok (.if_icmp .ne 5, 3) := dk_160 0 5 (dk_at dksJ6_nextSetBit_3 15 rfl rfl)
theorem dJ6_nextSetBit_90 : decode cJ6_nextSetBit 90 = .ok (.iconst (-1), 1) := dk_2 (dk_at dksJ6_nextSetBit_3 18 rfl rfl)
theorem dJ6_nextSetBit_91 : decode cJ6_nextSetBit 91 = .ok (.ireturn, 1) := dk_172 (dk_at dksJ6_nextSetBit_3 19 rfl rfl)
theorem dJ6_nextSetBit_92 : decode cJ6_nextSetBit 92 = .ok (.aload_n 0, 1) := dk_42 (dk_at dksJ6_nextSetBit_3 20 rfl rfl)
theorem dJ6_nextSetBit_93 : decode cJ6_nextSetBit 93 = .ok (.getfield 11, 3) := dk_180 0 11 (dk_at dksJ6_nextSetBit_3 21 rfl rfl)
theorem dJ6_nextSetBit_96 : decode cJ6_nextSetBit 96 = .ok (.iload_n 2, 1) := dk_28 (dk_at dksJ6_nextSetBit_4 0 rfl rfl)
theorem dJ6_nextSetBit_97 : decode cJ6_nextSetBit 97 = .ok (.laload, 1) := dk_47 (dk_at dksJ6_nextSetBit_4 1 rfl rfl)
theorem dJ6_nextSetBit_98 : decode cJ6_nextSetBit 98 = .ok (.lstore_n 3, 1) := dk_66 (dk_at dksJ6_nextSetBit_4 2 rfl rfl)
theorem dJ6_nextSetBit_99 : decode cJ6_nextSetBit 99 = .ok (.goto (-36), 3) := dk_167 255 220 (dk_at dksJ6_nextSetBit_4 3 rfl rfl)
theorem q105 : (Jvm.Cond.initialized "java/util/BitSet") ∈ lw_all := lw_g (lw_at lw_m1 10 rfl) rfl
theorem q290 : (Jvm.Cond.instantiable "java/util/BitSet" (3 : Nat)) ∈ lw_all := lw_g (lw_at lw_m1 195 rfl) rfl
theorem q292 : (Jvm.Cond.instanceMethod ({ cls := "java/util/BitSet", name := "<init>", desc := "()V" } : Jvm.MethodName)) ∈ lw_all := lw_g (lw_at lw_m1 197 rfl) rfl
theorem q293 : (Jvm.Cond.code ({ cls := "java/util/BitSet", name := "<init>", desc := "()V" } : Jvm.MethodName) prog_52_method_4_code (1 : Nat) (Option.none : Option Jvm.ClassFile.FieldType)) ∈ lw_all := lw_g (lw_at lw_m1 198 rfl) rfl
theorem q294 : (Jvm.Cond.methodLink "java/util/BitSet" (21 : Nat) ({ cls := "java/lang/Object", name := "<init>", desc := "()V" } : Jvm.MethodName)) ∈ lw_all := lw_g (lw_at lw_m1 199 rfl) rfl
theorem q295 : (Jvm.Cond.methodLink "java/util/BitSet" (27 : Nat) ({ cls := "java/util/BitSet", name := "initWords", desc := "(I)V" } : Jvm.MethodName)) ∈ lw_all := lw_g (lw_at lw_m1 200 rfl) rfl
theorem q296 : (Jvm.Cond.privateMethod ({ cls := "java/util/BitSet", name := "initWords", desc := "(I)V" } : Jvm.MethodName)) ∈ lw_tbl := lw_at lw_m1 201 rfl
theorem q297 : (Jvm.Cond.instanceMethod ({ cls := "java/util/BitSet", name := "initWords", desc := "(I)V" } : Jvm.MethodName)) ∈ lw_all := lw_g (lw_at lw_m1 202 rfl) rfl
theorem q298 : (Jvm.Cond.code ({ cls := "java/util/BitSet", name := "initWords", desc := "(I)V" } : Jvm.MethodName) prog_52_method_6_code (2 : Nat) (Option.none : Option Jvm.ClassFile.FieldType)) ∈ lw_all := lw_g (lw_at lw_m1 203 rfl) rfl
theorem q299 : (Jvm.Cond.methodLink "java/util/BitSet" (52 : Nat) ({ cls := "java/util/BitSet", name := "wordIndex", desc := "(I)I" } : Jvm.MethodName)) ∈ lw_all := lw_g (lw_at lw_m1 204 rfl) rfl
theorem q300 : (Jvm.Cond.static ({ cls := "java/util/BitSet", name := "wordIndex", desc := "(I)I" } : Jvm.MethodName)) ∈ lw_all := lw_g (lw_at lw_m1 205 rfl) rfl
theorem q301 : (Jvm.Cond.code ({ cls := "java/util/BitSet", name := "wordIndex", desc := "(I)I" } : Jvm.MethodName) prog_52_method_1_code (1 : Nat) (Option.some Jvm.ClassFile.FieldType.int)) ∈ lw_all := lw_g (lw_at lw_m1 206 rfl) rfl
theorem q302 : (Jvm.Cond.fieldLink "java/util/BitSet" (11 : Nat) "java/util/BitSet" "words" "[J") ∈ lw_all := lw_g (lw_at lw_m1 207 rfl) rfl
theorem q303 : (Jvm.Cond.fieldLink "java/util/BitSet" (7 : Nat) "java/util/BitSet" "wordsInUse" "I") ∈ lw_all := lw_g (lw_at lw_m1 208 rfl) rfl
theorem q304 : (Jvm.Cond.fieldLink "java/util/BitSet" (24 : Nat) "java/util/BitSet" "sizeIsSticky" "Z") ∈ lw_all := lw_g (lw_at lw_m1 209 rfl) rfl
theorem q305 : (Jvm.Cond.lays "java/util/BitSet" "java/util/BitSet" "words" "[J") ∈ lw_all := lw_g (lw_at lw_m1 210 rfl) rfl
theorem q306 : (Jvm.Cond.soleField "java/util/BitSet" "words") ∈ lw_all := lw_g (lw_at lw_m1 211 rfl) rfl
theorem q307 : (Jvm.Cond.lays "java/util/BitSet" "java/util/BitSet" "wordsInUse" "I") ∈ lw_all := lw_g (lw_at lw_m1 212 rfl) rfl
theorem q308 : (Jvm.Cond.soleField "java/util/BitSet" "wordsInUse") ∈ lw_all := lw_g (lw_at lw_m1 213 rfl) rfl
theorem q309 : (Jvm.Cond.lays "java/util/BitSet" "java/util/BitSet" "sizeIsSticky" "Z") ∈ lw_all := lw_g (lw_at lw_m1 214 rfl) rfl
theorem q310 : (Jvm.Cond.soleField "java/util/BitSet" "sizeIsSticky") ∈ lw_all := lw_g (lw_at lw_m1 215 rfl) rfl
theorem q311 : (Jvm.Cond.superclass "java/util/BitSet" "java/lang/Object") ∈ lw_all := lw_g (lw_at lw_m1 216 rfl) rfl
theorem q472 : (Jvm.Cond.selects "java/util/BitSet" ({ cls := "java/lang/Object", name := "getClass", desc := "()Ljava/lang/Class;" } : Jvm.MethodName) ({ cls := "java/lang/Object", name := "getClass", desc := "()Ljava/lang/Class;" } : Jvm.MethodName)) ∈ lw_all := lw_g (lw_at lw_m2 137 rfl) rfl
theorem q1238 : (Jvm.Cond.instanceMethod ({ cls := "java/util/BitSet", name := "get", desc := "(I)Z" } : Jvm.MethodName)) ∈ lw_all := lw_g (lw_at lw_m5 183 rfl) rfl
theorem q1239 : (Jvm.Cond.selects "java/util/BitSet" ({ cls := "java/util/BitSet", name := "get", desc := "(I)Z" } : Jvm.MethodName) ({ cls := "java/util/BitSet", name := "get", desc := "(I)Z" } : Jvm.MethodName)) ∈ lw_all := lw_g (lw_at lw_m5 184 rfl) rfl
theorem q1240 : (Jvm.Cond.code ({ cls := "java/util/BitSet", name := "get", desc := "(I)Z" } : Jvm.MethodName) prog_52_method_26_code (3 : Nat) (Option.some Jvm.ClassFile.FieldType.boolean)) ∈ lw_all := lw_g (lw_at lw_m5 185 rfl) rfl
theorem q1241 : (Jvm.Cond.classLink "java/util/BitSet" (142 : Nat) "java/lang/IndexOutOfBoundsException") ∈ lw_all := lw_g (lw_at lw_m5 186 rfl) rfl
theorem q1242 : (Jvm.Cond.classLink "java/util/BitSet" (33 : Nat) "java/lang/StringBuilder") ∈ lw_all := lw_g (lw_at lw_m5 187 rfl) rfl
theorem q1243 : (Jvm.Cond.methodLink "java/util/BitSet" (35 : Nat) ({ cls := "java/lang/StringBuilder", name := "<init>", desc := "()V" } : Jvm.MethodName)) ∈ lw_all := lw_g (lw_at lw_m5 188 rfl) rfl
theorem q1244 : (Jvm.Cond.stringRef "java/util/BitSet" (153 : Nat) "bitIndex < 0: ") ∈ lw_tbl := lw_at lw_m5 189 rfl
theorem q1245 : (Jvm.Cond.methodLink "java/util/BitSet" (38 : Nat) ({ cls := "java/lang/StringBuilder", name := "append", desc := "(Ljava/lang/String;)Ljava/lang/StringBuilder;" } : Jvm.MethodName)) ∈ lw_all := lw_g (lw_at lw_m5 190 rfl) rfl
theorem q1246 : (Jvm.Cond.methodLink "java/util/BitSet" (42 : Nat) ({ cls := "java/lang/StringBuilder", name := "append", desc := "(I)Ljava/lang/StringBuilder;" } : Jvm.MethodName)) ∈ lw_all := lw_g (lw_at lw_m5 191 rfl) rfl
theorem q1247 : (Jvm.Cond.methodLink "java/util/BitSet" (45 : Nat) ({ cls := "java/lang/StringBuilder", name := "toString", desc := "()Ljava/lang/String;" } : Jvm.MethodName)) ∈ lw_all := lw_g (lw_at lw_m5 192 rfl) rfl
theorem q1248 : (Jvm.Cond.methodLink "java/util/BitSet" (146 : Nat) ({ cls := "java/lang/IndexOutOfBoundsException", name := "<init>", desc := "(Ljava/lang/String;)V" } : Jvm.MethodName)) ∈ lw_all := lw_g (lw_at lw_m5 193 rfl) rfl
theorem q1249 : (Jvm.Cond.methodLink "java/util/BitSet" (56 : Nat) ({ cls := "java/util/BitSet", name := "checkInvariants", desc := "()V" } : Jvm.MethodName)) ∈ lw_all := lw_g (lw_at lw_m5 194 rfl) rfl
theorem q1250 : (Jvm.Cond.privateMethod ({ cls := "java/util/BitSet", name := "checkInvariants", desc := "()V" } : Jvm.MethodName)) ∈ lw_tbl := lw_at lw_m5 195 rfl
theorem q1251 : (Jvm.Cond.instanceMethod ({ cls := "java/util/BitSet", name := "checkInvariants", desc := "()V" } : Jvm.MethodName)) ∈ lw_all := lw_g (lw_at lw_m5 196 rfl) rfl
theorem q1252 : (Jvm.Cond.code ({ cls := "java/util/BitSet", name := "checkInvariants", desc := "()V" } : Jvm.MethodName) prog_52_method_2_code (1 : Nat) (Option.none : Option Jvm.ClassFile.FieldType)) ∈ lw_all := lw_g (lw_at lw_m5 197 rfl) rfl
theorem q1253 : (Jvm.Cond.fieldLink "java/util/BitSet" (3 : Nat) "java/util/BitSet" "$assertionsDisabled" "Z") ∈ lw_all := lw_g (lw_at lw_m5 198 rfl) rfl
theorem q1254 : (Jvm.Cond.laysStatic "java/util/BitSet" "$assertionsDisabled" "Z") ∈ lw_tbl := lw_at lw_m5 199 rfl
theorem q1256 : (Jvm.Cond.instanceMethod ({ cls := "java/util/BitSet", name := "set", desc := "(I)V" } : Jvm.MethodName)) ∈ lw_all := lw_g (lw_at lw_m5 201 rfl) rfl
theorem q1257 : (Jvm.Cond.selects "java/util/BitSet" ({ cls := "java/util/BitSet", name := "set", desc := "(I)V" } : Jvm.MethodName) ({ cls := "java/util/BitSet", name := "set", desc := "(I)V" } : Jvm.MethodName)) ∈ lw_all := lw_g (lw_at lw_m5 202 rfl) rfl
theorem q1258 : (Jvm.Cond.code ({ cls := "java/util/BitSet", name := "set", desc := "(I)V" } : Jvm.MethodName) prog_52_method_19_code (3 : Nat) (Option.none : Option Jvm.ClassFile.FieldType)) ∈ lw_all := lw_g (lw_at lw_m5 203 rfl) rfl
theorem q1259 : (Jvm.Cond.methodLink "java/util/BitSet" (155 : Nat) ({ cls := "java/util/BitSet", name := "expandTo", desc := "(I)V" } : Jvm.MethodName)) ∈ lw_all := lw_g (lw_at lw_m5 204 rfl) rfl
theorem q1260 : (Jvm.Cond.privateMethod ({ cls := "java/util/BitSet", name := "expandTo", desc := "(I)V" } : Jvm.MethodName)) ∈ lw_tbl := lw_at lw_m5 205 rfl
theorem q1261 : (Jvm.Cond.instanceMethod ({ cls := "java/util/BitSet", name := "expandTo", desc := "(I)V" } : Jvm.MethodName)) ∈ lw_all := lw_g (lw_at lw_m5 206 rfl) rfl
theorem q1262 : (Jvm.Cond.code ({ cls := "java/util/BitSet", name := "expandTo", desc := "(I)V" } : Jvm.MethodName) prog_52_method_15_code (3 : Nat) (Option.none : Option Jvm.ClassFile.FieldType)) ∈ lw_all := lw_g (lw_at lw_m5 207 rfl) rfl
theorem q1263 : (Jvm.Cond.methodLink "java/util/BitSet" (139 : Nat) ({ cls := "java/util/BitSet", name := "ensureCapacity", desc := "(I)V" } : Jvm.MethodName)) ∈ lw_all := lw_g (lw_at lw_m5 208 rfl) rfl
theorem q1264 : (Jvm.Cond.privateMethod ({ cls := "java/util/BitSet", name := "ensureCapacity", desc := "(I)V" } : Jvm.MethodName)) ∈ lw_tbl := lw_at lw_m5 209 rfl
theorem q1265 : (Jvm.Cond.instanceMethod ({ cls := "java/util/BitSet", name := "ensureCapacity", desc := "(I)V" } : Jvm.MethodName)) ∈ lw_all := lw_g (lw_at lw_m5 210 rfl) rfl
theorem q1266 : (Jvm.Cond.code ({ cls := "java/util/BitSet", name := "ensureCapacity", desc := "(I)V" } : Jvm.MethodName) prog_52_method_14_code (3 : Nat) (Option.none : Option Jvm.ClassFile.FieldType)) ∈ lw_all := lw_g (lw_at lw_m5 211 rfl) rfl
theorem q1267 : (Jvm.Cond.methodLink "java/util/BitSet" (133 : Nat) ({ cls := "java/lang/Math", name := "max", desc := "(II)I" } : Jvm.MethodName)) ∈ lw_all := lw_g (lw_at lw_m5 212 rfl) rfl
theorem q1268 : (Jvm.Cond.methodLink "java/util/BitSet" (59 : Nat) ({ cls := "java/util/Arrays", name := "copyOf", desc := "([JI)[J" } : Jvm.MethodName)) ∈ lw_all := lw_g (lw_at lw_m5 213 rfl) rfl
theorem q1828 : (Jvm.Cond.instanceMethod ({ cls := "java/util/BitSet", name := "<init>", desc := "(I)V" } : Jvm.MethodName)) ∈ lw_all := lw_g (lw_at lw_m8 53 rfl) rfl
theorem q1829 : (Jvm.Cond.code ({ cls := "java/util/BitSet", name := "<init>", desc := "(I)V" } : Jvm.MethodName) prog_52_method_5_code (2 : Nat) (Option.none : Option Jvm.ClassFile.FieldType)) ∈ lw_all := lw_g (lw_at lw_m8 54 rfl) rfl
theorem q1883 : (Jvm.Cond.instanceMethod ({ cls := "java/util/BitSet", name := "nextSetBit", desc := "(I)I" } : Jvm.MethodName)) ∈ lw_all := lw_g (lw_at lw_m8 108 rfl) rfl
theorem q1884 : (Jvm.Cond.selects "java/util/BitSet" ({ cls := "java/util/BitSet", name := "nextSetBit", desc := "(I)I" } : Jvm.MethodName) ({ cls := "java/util/BitSet", name := "nextSetBit", desc := "(I)I" } : Jvm.MethodName)) ∈ lw_all := lw_g (lw_at lw_m8 109 rfl) rfl
theorem q1885 : (Jvm.Cond.code ({ cls := "java/util/BitSet", name := "nextSetBit", desc := "(I)I" } : Jvm.MethodName) prog_52_method_28_code (5 : Nat) (Option.some Jvm.ClassFile.FieldType.int)) ∈ lw_all := lw_g (lw_at lw_m8 110 rfl) rfl
theorem q1886 : (Jvm.Cond.stringRef "java/util/BitSet" (144 : Nat) "fromIndex < 0: ") ∈ lw_tbl := lw_at lw_m8 111 rfl
theorem q1887 : (Jvm.Cond.constantLong "java/util/BitSet" (165 : Nat) (-1 : Int64)) ∈ lw_all := lw_g (lw_at lw_m8 112 rfl) rfl
theorem q1888 : (Jvm.Cond.methodLink "java/util/BitSet" (182 : Nat) ({ cls := "java/lang/Long", name := "numberOfTrailingZeros", desc := "(J)I" } : Jvm.MethodName)) ∈ lw_all := lw_g (lw_at lw_m8 113 rfl) rfl
theorem q2698 : (Jvm.Cond.castable "java/util/BitSet" "java/lang/Object") ∈ lw_tbl := lw_at lw_m11 203 rfl
theorem in_J6 : ∀ w ∈ wsJ60, w ∈ lw_all := lw_in wsJ60 [305, 307, 309] (by decide +kernel) (by decide +kernel)

/-! java/util/List -/
set_option maxRecDepth 100000
def RJ7 : String := "java/util/List"
abbrev cJ7_of : ByteArray := prog_65_method_44_code
def yJ7_of : MethodName := ⟨RJ7, "of", "(Ljava/lang/Object;Ljava/lang/Object;Ljava/lang/Object;Ljava/lang/Object;Ljava/lang/Object;Ljava/lang/Object;Ljava/lang/Object;Ljava/lang/Object;)Ljava/util/List;"⟩
def dkwJ7_of_1 : List UInt8 := [25, 4, 83, 89, 8, 25, 5, 83, 89, 16, 6, 25, 6, 83, 89, 16, 7, 25, 7, 83, 184, 0, 105, 176]
abbrev dktJ7_of_1 : List UInt8 := dkwJ7_of_1 ++ []
def dkwJ7_of_0 : List UInt8 := [16, 8, 189, 0, 103, 89, 3, 42, 83, 89, 4, 43, 83, 89, 5, 44, 83, 89, 6, 45, 83, 89, 7]
abbrev dktJ7_of_0 : List UInt8 := dkwJ7_of_0 ++ dktJ7_of_1
theorem dksJ7_of_0 : cJ7_of.data.toList.drop 0 = dktJ7_of_0 := by decide +kernel
theorem dksJ7_of_1 : cJ7_of.data.toList.drop 23 = dktJ7_of_1 := dk_seg dksJ7_of_0 23 rfl rfl
theorem dJ7_of_0 : decode cJ7_of 0 = .ok (.bipush 8, 2) := dk_16 8 (dk_at dksJ7_of_0 0 rfl rfl)
theorem dJ7_of_2 : decode cJ7_of 2 = .ok (.anewarray 103, 3) := dk_189 0 103 (dk_at dksJ7_of_0 2 rfl rfl)
theorem dJ7_of_5 : decode cJ7_of 5 = .ok (.dup, 1) := dk_89 (dk_at dksJ7_of_0 5 rfl rfl)
theorem dJ7_of_6 : decode cJ7_of 6 = .ok (.iconst 0, 1) := dk_3 (dk_at dksJ7_of_0 6 rfl rfl)
theorem dJ7_of_7 : decode cJ7_of 7 = .ok (.aload_n 0, 1) := dk_42 (dk_at dksJ7_of_0 7 rfl rfl)
theorem dJ7_of_8 : decode cJ7_of 8 = .ok (.aastore, 1) := dk_83 (dk_at dksJ7_of_0 8 rfl rfl)
theorem dJ7_of_9 : decode cJ7_of 9 = .ok (.dup, 1) := dk_89 (dk_at dksJ7_of_0 9 rfl rfl)
theorem dJ7_of_10 : decode cJ7_of 10 = .ok (.iconst 1, 1) := dk_4 (dk_at dksJ7_of_0 10 rfl rfl)
theorem dJ7_of_11 : decode cJ7_of 11 = .ok (.aload_n 1, 1) := dk_43 (dk_at dksJ7_of_0 11 rfl rfl)
theorem dJ7_of_12 : decode cJ7_of 12 = .ok (.aastore, 1) := dk_83 (dk_at dksJ7_of_0 12 rfl rfl)
theorem dJ7_of_13 : decode cJ7_of 13 = .ok (.dup, 1) := dk_89 (dk_at dksJ7_of_0 13 rfl rfl)
theorem dJ7_of_14 : decode cJ7_of 14 = .ok (.iconst 2, 1) := dk_5 (dk_at dksJ7_of_0 14 rfl rfl)
theorem dJ7_of_15 : decode cJ7_of 15 = .ok (.aload_n 2, 1) := dk_44 (dk_at dksJ7_of_0 15 rfl rfl)
theorem dJ7_of_16 : decode cJ7_of 16 = .ok (.aastore, 1) := dk_83 (dk_at dksJ7_of_0 16 rfl rfl)
theorem dJ7_of_17 : decode cJ7_of 17 = .ok (.dup, 1) := dk_89 (dk_at dksJ7_of_0 17 rfl rfl)
theorem dJ7_of_18 : decode cJ7_of 18 = .ok (.iconst 3, 1) := dk_6 (dk_at dksJ7_of_0 18 rfl rfl)
theorem dJ7_of_19 : decode cJ7_of 19 = .ok (.aload_n 3, 1) := dk_45 (dk_at dksJ7_of_0 19 rfl rfl)
theorem dJ7_of_20 : decode cJ7_of 20 = .ok (.aastore, 1) := dk_83 (dk_at dksJ7_of_0 20 rfl rfl)
theorem dJ7_of_21 : decode cJ7_of 21 = .ok (.dup, 1) := dk_89 (dk_at dksJ7_of_0 21 rfl rfl)
theorem dJ7_of_22 : decode cJ7_of 22 = .ok (.iconst 4, 1) := dk_7 (dk_at dksJ7_of_0 22 rfl rfl)
theorem dJ7_of_23 : decode cJ7_of 23 = .ok (.aload 4, 2) := dk_25 4 (dk_at dksJ7_of_1 0 rfl rfl)
theorem dJ7_of_25 : decode cJ7_of 25 = .ok (.aastore, 1) := dk_83 (dk_at dksJ7_of_1 2 rfl rfl)
theorem dJ7_of_26 : decode cJ7_of 26 = .ok (.dup, 1) := dk_89 (dk_at dksJ7_of_1 3 rfl rfl)
theorem dJ7_of_27 : decode cJ7_of 27 = .ok (.iconst 5, 1) := dk_8 (dk_at dksJ7_of_1 4 rfl rfl)
theorem dJ7_of_28 : decode cJ7_of 28 = .ok (.aload 5, 2) := dk_25 5 (dk_at dksJ7_of_1 5 rfl rfl)
theorem dJ7_of_30 : decode cJ7_of 30 = .ok (.aastore, 1) := dk_83 (dk_at dksJ7_of_1 7 rfl rfl)
theorem dJ7_of_31 : decode cJ7_of 31 = .ok (.dup, 1) := dk_89 (dk_at dksJ7_of_1 8 rfl rfl)
theorem dJ7_of_32 : decode cJ7_of 32 = .ok (.bipush 6, 2) := dk_16 6 (dk_at dksJ7_of_1 9 rfl rfl)
theorem dJ7_of_34 : decode cJ7_of 34 = .ok (.aload 6, 2) := dk_25 6 (dk_at dksJ7_of_1 11 rfl rfl)
theorem dJ7_of_36 : decode cJ7_of 36 = .ok (.aastore, 1) := dk_83 (dk_at dksJ7_of_1 13 rfl rfl)
theorem dJ7_of_37 : decode cJ7_of 37 = .ok (.dup, 1) := dk_89 (dk_at dksJ7_of_1 14 rfl rfl)
theorem dJ7_of_38 : decode cJ7_of 38 = .ok (.bipush 7, 2) := dk_16 7 (dk_at dksJ7_of_1 15 rfl rfl)
theorem dJ7_of_40 : decode cJ7_of 40 = .ok (.aload 7, 2) := dk_25 7 (dk_at dksJ7_of_1 17 rfl rfl)
theorem dJ7_of_42 : decode cJ7_of 42 = .ok (.aastore, 1) := dk_83 (dk_at dksJ7_of_1 19 rfl rfl)
theorem dJ7_of_43 : decode cJ7_of 43 = .ok (.invokestatic 105, 3) := dk_184 0 105 (dk_at dksJ7_of_1 20 rfl rfl)
theorem dJ7_of_46 : decode cJ7_of 46 = .ok (.areturn, 1) := dk_176 (dk_at dksJ7_of_1 23 rfl rfl)
theorem q108 : (Jvm.Cond.initialized "java/util/List") ∈ lw_all := lw_g (lw_at lw_m1 13 rfl) rfl
theorem q437 : (Jvm.Cond.static ({ cls := "java/util/List", name := "of", desc := "(Ljava/lang/Object;Ljava/lang/Object;Ljava/lang/Object;Ljava/lang/Object;Ljava/lang/Object;Ljava/lang/Object;Ljava/lang/Object;Ljava/lang/Object;)Ljava/util/List;" } : Jvm.MethodName)) ∈ lw_all := lw_g (lw_at lw_m2 102 rfl) rfl
theorem q438 : (Jvm.Cond.code ({ cls := "java/util/List", name := "of", desc := "(Ljava/lang/Object;Ljava/lang/Object;Ljava/lang/Object;Ljava/lang/Object;Ljava/lang/Object;Ljava/lang/Object;Ljava/lang/Object;Ljava/lang/Object;)Ljava/util/List;" } : Jvm.MethodName) prog_65_method_44_code (8 : Nat) (Option.some (Jvm.ClassFile.FieldType.object "java/util/List"))) ∈ lw_all := lw_g (lw_at lw_m2 103 rfl) rfl
theorem q439 : (Jvm.Cond.classLink "java/util/List" (103 : Nat) "java/lang/Object") ∈ lw_all := lw_g (lw_at lw_m2 104 rfl) rfl
theorem q440 : (Jvm.Cond.methodLink "java/util/List" (105 : Nat) ({ cls := "java/util/ImmutableCollections", name := "listFromTrustedArray", desc := "([Ljava/lang/Object;)Ljava/util/List;" } : Jvm.MethodName)) ∈ lw_all := lw_g (lw_at lw_m2 105 rfl) rfl
theorem q854 : (Jvm.Cond.interfaceMethod "java/util/List" "java/util/List" "size" "()I") ∈ lw_tbl := lw_at lw_m4 39 rfl
theorem q855 : (Jvm.Cond.declares ({ cls := "java/util/List", name := "size", desc := "()I" } : Jvm.MethodName)) ∈ lw_tbl := lw_at lw_m4 40 rfl
theorem q882 : (Jvm.Cond.interfaceMethod "java/util/List" "java/util/List" "get" "(I)Ljava/lang/Object;") ∈ lw_tbl := lw_at lw_m4 67 rfl
theorem q883 : (Jvm.Cond.declares ({ cls := "java/util/List", name := "get", desc := "(I)Ljava/lang/Object;" } : Jvm.MethodName)) ∈ lw_tbl := lw_at lw_m4 68 rfl

/-! java/util/ImmutableCollections -/
set_option maxRecDepth 100000
def RJ8 : String := "java/util/ImmutableCollections"
abbrev cJ8_listFromTrustedArray : ByteArray := prog_56_method_5_code
def yJ8_listFromTrustedArray : MethodName := ⟨RJ8, "listFromTrustedArray", "([Ljava/lang/Object;)Ljava/util/List;"⟩
def dkwJ8_listFromTrustedArray_5 : List UInt8 := [3, 50, 42, 4, 50, 183, 0, 67, 167, 0, 12, 187, 0, 12, 89, 42, 3, 183, 0, 43, 176]
abbrev dktJ8_listFromTrustedArray_5 : List UInt8 := dkwJ8_listFromTrustedArray_5 ++ []
def dkwJ8_listFromTrustedArray_4 : List UInt8 := [178, 0, 60, 167, 0, 41, 187, 0, 10, 89, 42, 3, 50, 183, 0, 64, 167, 0, 28, 187, 0, 10, 89, 42]
abbrev dktJ8_listFromTrustedArray_4 : List UInt8 := dkwJ8_listFromTrustedArray_4 ++ dktJ8_listFromTrustedArray_5
def dkwJ8_listFromTrustedArray_3 : List UInt8 := [170, 0, 0, 0, 0, 61, 0, 0, 0, 0, 0, 0, 0, 2, 0, 0, 0, 26, 0, 0, 0, 32, 0, 0, 0, 45]
abbrev dktJ8_listFromTrustedArray_3 : List UInt8 := dkwJ8_listFromTrustedArray_3 ++ dktJ8_listFromTrustedArray_4
def dkwJ8_listFromTrustedArray_2 : List UInt8 := [132, 3, 1, 167, 255, 237, 42, 190]
abbrev dktJ8_listFromTrustedArray_2 : List UInt8 := dkwJ8_listFromTrustedArray_2 ++ dktJ8_listFromTrustedArray_3
def dkwJ8_listFromTrustedArray_1 : List UInt8 := [76, 43, 190, 61, 3, 62, 29, 28, 162, 0, 20, 43, 29, 50, 58, 4, 25, 4, 184, 0, 37, 87]
abbrev dktJ8_listFromTrustedArray_1 : List UInt8 := dkwJ8_listFromTrustedArray_1 ++ dktJ8_listFromTrustedArray_2
def dkwJ8_listFromTrustedArray_0 : List UInt8 := [178, 0, 46, 154, 0, 20, 42, 182, 0, 51, 18, 55, 165, 0, 11, 187, 0, 57, 89, 183, 0, 59, 191, 42]
abbrev dktJ8_listFromTrustedArray_0 : List UInt8 := dkwJ8_listFromTrustedArray_0 ++ dktJ8_listFromTrustedArray_1
theorem dksJ8_listFromTrustedArray_0 : cJ8_listFromTrustedArray.data.toList.drop 0 = dktJ8_listFromTrustedArray_0 := by decide +kernel
theorem dksJ8_listFromTrustedArray_1 : cJ8_listFromTrustedArray.data.toList.drop 24 = dktJ8_listFromTrustedArray_1 := dk_seg dksJ8_listFromTrustedArray_0 24 rfl rfl
theorem dksJ8_listFromTrustedArray_2 : cJ8_listFromTrustedArray.data.toList.drop 46 = dktJ8_listFromTrustedArray_2 := dk_seg dksJ8_listFromTrustedArray_1 22 rfl rfl
theorem dksJ8_listFromTrustedArray_3 : cJ8_listFromTrustedArray.data.toList.drop 54 = dktJ8_listFromTrustedArray_3 := dk_seg dksJ8_listFromTrustedArray_2 8 rfl rfl
theorem dksJ8_listFromTrustedArray_4 : cJ8_listFromTrustedArray.data.toList.drop 80 = dktJ8_listFromTrustedArray_4 := dk_seg dksJ8_listFromTrustedArray_3 26 rfl rfl
theorem dksJ8_listFromTrustedArray_5 : cJ8_listFromTrustedArray.data.toList.drop 104 = dktJ8_listFromTrustedArray_5 := dk_seg dksJ8_listFromTrustedArray_4 24 rfl rfl
theorem dJ8_listFromTrustedArray_0 : decode cJ8_listFromTrustedArray 0 = .ok (.getstatic 46, 3) := dk_178 0 46 (dk_at dksJ8_listFromTrustedArray_0 0 rfl rfl)
theorem dJ8_listFromTrustedArray_3 : decode cJ8_listFromTrustedArray 3 = .ok (.ifCond .ne 20, 3) := dk_154 0 20 (dk_at dksJ8_listFromTrustedArray_0 3 rfl rfl)
theorem dJ8_listFromTrustedArray_6 : decode cJ8_listFromTrustedArray 6 = .ok (.aload_n 0, 1) := dk_42 (dk_at dksJ8_listFromTrustedArray_0 6 rfl rfl)
theorem dJ8_listFromTrustedArray_7 : decode cJ8_listFromTrustedArray 7 = .ok (.invokevirtual 51, 3) := dk_182 0 51 (dk_at dksJ8_listFromTrustedArray_0 7 rfl rfl)
theorem dJ8_listFromTrustedArray_10 : decode cJ8_listFromTrustedArray 10 = .ok (.ldc 55, 2) := dk_18 55 (dk_at dksJ8_listFromTrustedArray_0 10 rfl rfl)
theorem dJ8_listFromTrustedArray_12 : decode cJ8_listFromTrustedArray 12 = .ok (.if_acmp .eq 11, 3) := dk_165 0 11 (dk_at dksJ8_listFromTrustedArray_0 12 rfl rfl)
theorem dJ8_listFromTrustedArray_15 : decode cJ8_listFromTrustedArray 15 = .ok (.new 57, 3) := dk_187 0 57 (dk_at dksJ8_listFromTrustedArray_0 15 rfl rfl)
theorem dJ8_listFromTrustedArray_18 : decode cJ8_listFromTrustedArray 18 = .ok (.dup, 1) := dk_89 (dk_at dksJ8_listFromTrustedArray_0 18 rfl rfl)
theorem dJ8_listFromTrustedArray_19 : decode cJ8_listFromTrustedArray 19 = .ok (.invokespecial 59, 3) := dk_183 0 59 (dk_at dksJ8_listFromTrustedArray_0 19 rfl rfl)
theorem dJ8_listFromTrustedArray_22 : decode cJ8_listFromTrustedArray 22 = .ok (.athrow, 1) := dk_191 (dk_at dksJ8_listFromTrustedArray_0 22 rfl rfl)
theorem dJ8_listFromTrustedArray_23 : decode cJ8_listFromTrustedArray 23 = .ok (.aload_n 0, 1) := dk_42 (dk_at dksJ8_listFromTrustedArray_0 23 rfl rfl)
theorem dJ8_listFromTrustedArray_24 : decode cJ8_listFromTrustedArray 24 = .ok (.astore_n 1, 1) := dk_76 (dk_at dksJ8_listFromTrustedArray_1 0 rfl rfl)
theorem dJ8_listFromTrustedArray_25 : decode cJ8_listFromTrustedArray 25 = .ok (.aload_n 1, 1) := dk_43 (dk_at dksJ8_listFromTrustedArray_1 1 rfl rfl)
theorem dJ8_listFromTrustedArray_26 : decode cJ8_listFromTrustedArray 26 = .ok (.arraylength, 1) := dk_190 (dk_at dksJ8_listFromTrustedArray_1 2 rfl rfl)
theorem dJ8_listFromTrustedArray_27 : decode cJ8_listFromTrustedArray 27 = .ok (.istore_n 2, 1) := dk_61 (dk_at dksJ8_listFromTrustedArray_1 3 rfl rfl)
theorem dJ8_listFromTrustedArray_28 : decode cJ8_listFromTrustedArray 28 = .ok (.iconst 0, 1) := dk_3 (dk_at dksJ8_listFromTrustedArray_1 4 rfl rfl)
theorem dJ8_listFromTrustedArray_29 : decode cJ8_listFromTrustedArray 29 = .ok (.istore_n 3, 1) := dk_62 (dk_at dksJ8_listFromTrustedArray_1 5 rfl rfl)
theorem dJ8_listFromTrustedArray_30 : decode cJ8_listFromTrustedArray 30 = .ok (.iload_n 3, 1) := dk_29 (dk_at dksJ8_listFromTrustedArray_1 6 rfl rfl)
theorem dJ8_listFromTrustedArray_31 : decode cJ8_listFromTrustedArray 31 = .ok (.iload_n 2, 1) := dk_28 (dk_at dksJ8_listFromTrustedArray_1 7 rfl rfl)
theorem dJ8_listFromTrustedArray_32 : decode cJ8_listFromTrustedArray 32 = .ok (.if_icmp .ge 20, 3) := dk_162 0 20 (dk_at dksJ8_listFromTrustedArray_1 8 rfl rfl)
theorem dJ8_listFromTrustedArray_35 : decode cJ8_listFromTrustedArray 35 = .ok (.aload_n 1, 1) := dk_43 (dk_at dksJ8_listFromTrustedArray_1 11 rfl rfl)
theorem dJ8_listFromTrustedArray_36 : decode cJ8_listFromTrustedArray 36 = .ok (.iload_n 3, 1) := dk_29 (dk_at dksJ8_listFromTrustedArray_1 12 rfl rfl)
theorem dJ8_listFromTrustedArray_37 : decode cJ8_listFromTrustedArray 37 = .ok (.aaload, 1) := dk_50 (dk_at dksJ8_listFromTrustedArray_1 13 rfl rfl)
theorem dJ8_listFromTrustedArray_38 : decode cJ8_listFromTrustedArray 38 = .ok (.astore 4, 2) := dk_58 4 (dk_at dksJ8_listFromTrustedArray_1 14 rfl rfl)
theorem dJ8_listFromTrustedArray_40 : decode cJ8_listFromTrustedArray 40 = .ok (.aload 4, 2) := dk_25 4 (dk_at dksJ8_listFromTrustedArray_1 16 rfl rfl)
theorem dJ8_listFromTrustedArray_42 : decode cJ8_listFromTrustedArray 42 = .ok (.invokestatic 37, 3) := dk_184 0 37 (dk_at dksJ8_listFromTrustedArray_1 18 rfl rfl)
theorem dJ8_listFromTrustedArray_45 : decode cJ8_listFromTrustedArray 45 = .ok (.pop, 1) := dk_87 (dk_at dksJ8_listFromTrustedArray_1 21 rfl rfl)
theorem dJ8_listFromTrustedArray_46 : decode cJ8_listFromTrustedArray 46 = .ok (.iinc 3 1, 3) := dk_132 3 1 (dk_at dksJ8_listFromTrustedArray_2 0 rfl rfl)
theorem dJ8_listFromTrustedArray_49 : decode cJ8_listFromTrustedArray 49 = .ok (.goto (-19), 3) := dk_167 255 237 (dk_at dksJ8_listFromTrustedArray_2 3 rfl rfl)
theorem dJ8_listFromTrustedArray_52 : decode cJ8_listFromTrustedArray 52 = .ok (.aload_n 0, 1) := dk_42 (dk_at dksJ8_listFromTrustedArray_2 6 rfl rfl)
theorem dJ8_listFromTrustedArray_53 : decode cJ8_listFromTrustedArray 53 = .ok (.arraylength, 1) := dk_190 (dk_at dksJ8_listFromTrustedArray_2 7 rfl rfl)
theorem dJ8_listFromTrustedArray_54 : decode cJ8_listFromTrustedArray 54 = .ok (.tableswitch 61 0 2 #[26, 32, 45], 26) := by decide +kernel
theorem dJ8_listFromTrustedArray_80 : decode cJ8_listFromTrustedArray 80 = .ok (.getstatic 60, 3) := dk_178 0 60 (dk_at dksJ8_listFromTrustedArray_4 0 rfl rfl)
theorem dJ8_listFromTrustedArray_83 : decode cJ8_listFromTrustedArray 83 = .ok (.goto 41, 3) := dk_167 0 41 (dk_at dksJ8_listFromTrustedArray_4 3 rfl rfl)
theorem dJ8_listFromTrustedArray_86 : decode cJ8_listFromTrustedArray 86 = .ok (.new 10, 3) := dk_187 0 10 (dk_at dksJ8_listFromTrustedArray_4 6 rfl rfl)
theorem dJ8_listFromTrustedArray_89 : decode cJ8_listFromTrustedArray 89 = .ok (.dup, 1) := dk_89 (dk_at dksJ8_listFromTrustedArray_4 9 rfl rfl)
theorem dJ8_listFromTrustedArray_90 : decode cJ8_listFromTrustedArray 90 = .ok (.aload_n 0, 1) := dk_42 (dk_at dksJ8_listFromTrustedArray_4 10 rfl rfl)
theorem dJ8_listFromTrustedArray_91 : decode cJ8_listFromTrustedArray 91 = .ok (.iconst 0, 1) := dk_3 (dk_at dksJ8_listFromTrustedArray_4 11 rfl rfl)
theorem dJ8_listFromTrustedArray_92 : decode cJ8_listFromTrustedArray 92 = .ok (.aaload, 1) := dk_50 (dk_at dksJ8_listFromTrustedArray_4 12 rfl rfl)
theorem dJ8_listFromTrustedArray_93 : decode cJ8_listFromTrustedArray 93 = .ok (.invokespecial 64, 3) := dk_183 0 64 (dk_at dksJ8_listFromTrustedArray_4 13 rfl rfl)
theorem dJ8_listFromTrustedArray_96 : decode cJ8_listFromTrustedArray 96 = .ok (.goto 28, 3) := dk_167 0 28 (dk_at dksJ8_listFromTrustedArray_4 16 rfl rfl)
theorem dJ8_listFromTrustedArray_99 : decode cJ8_listFromTrustedArray 99 = .ok (.new 10, 3) := dk_187 0 10 (dk_at dksJ8_listFromTrustedArray_4 19 rfl rfl)
theorem dJ8_listFromTrustedArray_102 : decode cJ8_listFromTrustedArray 102 = .ok (.dup, 1) := dk_89 (dk_at dksJ8_listFromTrustedArray_4 22 rfl rfl)
theorem dJ8_listFromTrustedArray_103 : decode cJ8_listFromTrustedArray 103 = .ok (.aload_n 0, 1) := dk_42 (dk_at dksJ8_listFromTrustedArray_4 23 rfl rfl)
theorem dJ8_listFromTrustedArray_104 : decode cJ8_listFromTrustedArray 104 = .ok (.iconst 0, 1) := dk_3 (dk_at dksJ8_listFromTrustedArray_5 0 rfl rfl)
theorem dJ8_listFromTrustedArray_105 : decode cJ8_listFromTrustedArray 105 = .ok (.aaload, 1) := dk_50 (dk_at dksJ8_listFromTrustedArray_5 1 rfl rfl)
theorem dJ8_listFromTrustedArray_106 : decode cJ8_listFromTrustedArray 106 = .ok (.aload_n 0, 1) := dk_42 (dk_at dksJ8_listFromTrustedArray_5 2 rfl rfl)
theorem dJ8_listFromTrustedArray_107 : decode cJ8_listFromTrustedArray 107 = .ok (.iconst 1, 1) := dk_4 (dk_at dksJ8_listFromTrustedArray_5 3 rfl rfl)
theorem dJ8_listFromTrustedArray_108 : decode cJ8_listFromTrustedArray 108 = .ok (.aaload, 1) := dk_50 (dk_at dksJ8_listFromTrustedArray_5 4 rfl rfl)
theorem dJ8_listFromTrustedArray_109 : decode cJ8_listFromTrustedArray 109 = .ok (.invokespecial 67, 3) := dk_183 0 67 (dk_at dksJ8_listFromTrustedArray_5 5 rfl rfl)
theorem dJ8_listFromTrustedArray_112 : decode cJ8_listFromTrustedArray 112 = .ok (.goto 12, 3) := dk_167 0 12 (dk_at dksJ8_listFromTrustedArray_5 8 rfl rfl)
theorem dJ8_listFromTrustedArray_115 : decode cJ8_listFromTrustedArray 115 = .ok (.new 12, 3) := dk_187 0 12 (dk_at dksJ8_listFromTrustedArray_5 11 rfl rfl)
theorem dJ8_listFromTrustedArray_118 : decode cJ8_listFromTrustedArray 118 = .ok (.dup, 1) := dk_89 (dk_at dksJ8_listFromTrustedArray_5 14 rfl rfl)
theorem dJ8_listFromTrustedArray_119 : decode cJ8_listFromTrustedArray 119 = .ok (.aload_n 0, 1) := dk_42 (dk_at dksJ8_listFromTrustedArray_5 15 rfl rfl)
theorem dJ8_listFromTrustedArray_120 : decode cJ8_listFromTrustedArray 120 = .ok (.iconst 0, 1) := dk_3 (dk_at dksJ8_listFromTrustedArray_5 16 rfl rfl)
theorem dJ8_listFromTrustedArray_121 : decode cJ8_listFromTrustedArray 121 = .ok (.invokespecial 43, 3) := dk_183 0 43 (dk_at dksJ8_listFromTrustedArray_5 17 rfl rfl)
theorem dJ8_listFromTrustedArray_124 : decode cJ8_listFromTrustedArray 124 = .ok (.areturn, 1) := dk_176 (dk_at dksJ8_listFromTrustedArray_5 20 rfl rfl)
theorem q109 : (Jvm.Cond.initialized "java/util/ImmutableCollections") ∈ lw_all := lw_g (lw_at lw_m1 14 rfl) rfl
theorem q441 : (Jvm.Cond.static ({ cls := "java/util/ImmutableCollections", name := "listFromTrustedArray", desc := "([Ljava/lang/Object;)Ljava/util/List;" } : Jvm.MethodName)) ∈ lw_all := lw_g (lw_at lw_m2 106 rfl) rfl
theorem q442 : (Jvm.Cond.code ({ cls := "java/util/ImmutableCollections", name := "listFromTrustedArray", desc := "([Ljava/lang/Object;)Ljava/util/List;" } : Jvm.MethodName) prog_56_method_5_code (5 : Nat) (Option.some (Jvm.ClassFile.FieldType.object "java/util/List"))) ∈ lw_all := lw_g (lw_at lw_m2 107 rfl) rfl
theorem q443 : (Jvm.Cond.fieldLink "java/util/ImmutableCollections" (46 : Nat) "java/util/ImmutableCollections" "$assertionsDisabled" "Z") ∈ lw_all := lw_g (lw_at lw_m2 108 rfl) rfl
theorem q444 : (Jvm.Cond.laysStatic "java/util/ImmutableCollections" "$assertionsDisabled" "Z") ∈ lw_tbl := lw_at lw_m2 109 rfl
theorem q445 : (Jvm.Cond.methodLink "java/util/ImmutableCollections" (51 : Nat) ({ cls := "java/lang/Object", name := "getClass", desc := "()Ljava/lang/Class;" } : Jvm.MethodName)) ∈ lw_all := lw_g (lw_at lw_m2 110 rfl) rfl
theorem q481 : (Jvm.Cond.classLink "java/util/ImmutableCollections" (55 : Nat) "[Ljava/lang/Object;") ∈ lw_all := lw_g (lw_at lw_m2 146 rfl) rfl
theorem q482 : (Jvm.Cond.methodLink "java/util/ImmutableCollections" (37 : Nat) ({ cls := "java/util/Objects", name := "requireNonNull", desc := "(Ljava/lang/Object;)Ljava/lang/Object;" } : Jvm.MethodName)) ∈ lw_all := lw_g (lw_at lw_m2 147 rfl) rfl
theorem q485 : (Jvm.Cond.fieldLink "java/util/ImmutableCollections" (60 : Nat) "java/util/ImmutableCollections" "EMPTY_LIST" "Ljava/util/ImmutableCollections$ListN;") ∈ lw_all := lw_g (lw_at lw_m2 150 rfl) rfl
theorem q486 : (Jvm.Cond.laysStatic "java/util/ImmutableCollections" "EMPTY_LIST" "Ljava/util/ImmutableCollections$ListN;") ∈ lw_tbl := lw_at lw_m2 151 rfl
theorem q487 : (Jvm.Cond.classLink "java/util/ImmutableCollections" (10 : Nat) "java/util/ImmutableCollections$List12") ∈ lw_all := lw_g (lw_at lw_m2 152 rfl) rfl
theorem q489 : (Jvm.Cond.methodLink "java/util/ImmutableCollections" (64 : Nat) ({ cls := "java/util/ImmutableCollections$List12", name := "<init>", desc := "(Ljava/lang/Object;)V" } : Jvm.MethodName)) ∈ lw_all := lw_g (lw_at lw_m2 154 rfl) rfl
theorem q501 : (Jvm.Cond.laysStatic "java/util/ImmutableCollections" "EMPTY" "Ljava/lang/Object;") ∈ lw_tbl := lw_at lw_m2 166 rfl
theorem q509 : (Jvm.Cond.methodLink "java/util/ImmutableCollections" (67 : Nat) ({ cls := "java/util/ImmutableCollections$List12", name := "<init>", desc := "(Ljava/lang/Object;Ljava/lang/Object;)V" } : Jvm.MethodName)) ∈ lw_all := lw_g (lw_at lw_m2 174 rfl) rfl
theorem q512 : (Jvm.Cond.classLink "java/util/ImmutableCollections" (12 : Nat) "java/util/ImmutableCollections$ListN") ∈ lw_all := lw_g (lw_at lw_m2 177 rfl) rfl
theorem q514 : (Jvm.Cond.methodLinkNest "java/util/ImmutableCollections" (43 : Nat) ({ cls := "java/util/ImmutableCollections$ListN", name := "<init>", desc := "([Ljava/lang/Object;Z)V" } : Jvm.MethodName) "java/util/ImmutableCollections") ∈ lw_tbl := lw_at lw_m2 179 rfl

/-! java/util/Objects -/
set_option maxRecDepth 100000
def RJ9 : String := "java/util/Objects"
abbrev cJ9_requireNonNull : ByteArray := prog_68_method_10_code
def yJ9_requireNonNull : MethodName := ⟨RJ9, "requireNonNull", "(Ljava/lang/Object;)Ljava/lang/Object;"⟩
def dkwJ9_requireNonNull_0 : List UInt8 := [42, 199, 0, 11, 187, 0, 84, 89, 183, 0, 86, 191, 42, 176]
abbrev dktJ9_requireNonNull_0 : List UInt8 := dkwJ9_requireNonNull_0 ++ []
theorem dksJ9_requireNonNull_0 : cJ9_requireNonNull.data.toList.drop 0 = dktJ9_requireNonNull_0 := by decide +kernel
theorem dJ9_requireNonNull_0 : decode cJ9_requireNonNull 0 = .ok (.aload_n 0, 1) := dk_42 (dk_at dksJ9_requireNonNull_0 0 rfl rfl)
theorem dJ9_requireNonNull_1 : decode cJ9_requireNonNull 1 = .ok (.ifnonnull 11, 3) := dk_199 0 11 (dk_at dksJ9_requireNonNull_0 1 rfl rfl)
theorem dJ9_requireNonNull_4 : decode cJ9_requireNonNull 4 = .ok (.new 84, 3) := dk_187 0 84 (dk_at dksJ9_requireNonNull_0 4 rfl rfl)
theorem dJ9_requireNonNull_7 : decode cJ9_requireNonNull 7 = .ok (.dup, 1) := dk_89 (dk_at dksJ9_requireNonNull_0 7 rfl rfl)
theorem dJ9_requireNonNull_8 : decode cJ9_requireNonNull 8 = .ok (.invokespecial 86, 3) := dk_183 0 86 (dk_at dksJ9_requireNonNull_0 8 rfl rfl)
theorem dJ9_requireNonNull_11 : decode cJ9_requireNonNull 11 = .ok (.athrow, 1) := dk_191 (dk_at dksJ9_requireNonNull_0 11 rfl rfl)
theorem dJ9_requireNonNull_12 : decode cJ9_requireNonNull 12 = .ok (.aload_n 0, 1) := dk_42 (dk_at dksJ9_requireNonNull_0 12 rfl rfl)
theorem dJ9_requireNonNull_13 : decode cJ9_requireNonNull 13 = .ok (.areturn, 1) := dk_176 (dk_at dksJ9_requireNonNull_0 13 rfl rfl)
abbrev cJ9_checkIndex : ByteArray := prog_68_method_17_code
def yJ9_checkIndex : MethodName := ⟨RJ9, "checkIndex", "(II)I"⟩
def dkwJ9_checkIndex_0 : List UInt8 := [26, 27, 1, 184, 0, 105, 172]
abbrev dktJ9_checkIndex_0 : List UInt8 := dkwJ9_checkIndex_0 ++ []
theorem dksJ9_checkIndex_0 : cJ9_checkIndex.data.toList.drop 0 = dktJ9_checkIndex_0 := by decide +kernel
theorem dJ9_checkIndex_0 : decode cJ9_checkIndex 0 = .ok (.iload_n 0, 1) := dk_26 (dk_at dksJ9_checkIndex_0 0 rfl rfl)
theorem dJ9_checkIndex_1 : decode cJ9_checkIndex 1 = .ok (.iload_n 1, 1) := dk_27 (dk_at dksJ9_checkIndex_0 1 rfl rfl)
theorem dJ9_checkIndex_2 : decode cJ9_checkIndex 2 = .ok (.aconst_null, 1) := dk_1 (dk_at dksJ9_checkIndex_0 2 rfl rfl)
theorem dJ9_checkIndex_3 : decode cJ9_checkIndex 3 = .ok (.invokestatic 105, 3) := dk_184 0 105 (dk_at dksJ9_checkIndex_0 3 rfl rfl)
theorem dJ9_checkIndex_6 : decode cJ9_checkIndex 6 = .ok (.ireturn, 1) := dk_172 (dk_at dksJ9_checkIndex_0 6 rfl rfl)
theorem q110 : (Jvm.Cond.initialized "java/util/Objects") ∈ lw_all := lw_g (lw_at lw_m1 15 rfl) rfl
theorem q483 : (Jvm.Cond.static ({ cls := "java/util/Objects", name := "requireNonNull", desc := "(Ljava/lang/Object;)Ljava/lang/Object;" } : Jvm.MethodName)) ∈ lw_all := lw_g (lw_at lw_m2 148 rfl) rfl
theorem q484 : (Jvm.Cond.code ({ cls := "java/util/Objects", name := "requireNonNull", desc := "(Ljava/lang/Object;)Ljava/lang/Object;" } : Jvm.MethodName) prog_68_method_10_code (1 : Nat) (Option.some (Jvm.ClassFile.FieldType.object "java/lang/Object"))) ∈ lw_all := lw_g (lw_at lw_m2 149 rfl) rfl
theorem q890 : (Jvm.Cond.static ({ cls := "java/util/Objects", name := "checkIndex", desc := "(II)I" } : Jvm.MethodName)) ∈ lw_all := lw_g (lw_at lw_m4 75 rfl) rfl
theorem q891 : (Jvm.Cond.code ({ cls := "java/util/Objects", name := "checkIndex", desc := "(II)I" } : Jvm.MethodName) prog_68_method_17_code (2 : Nat) (Option.some Jvm.ClassFile.FieldType.int)) ∈ lw_all := lw_g (lw_at lw_m4 76 rfl) rfl
theorem q892 : (Jvm.Cond.methodLink "java/util/Objects" (105 : Nat) ({ cls := "jdk/internal/util/Preconditions", name := "checkIndex", desc := "(IILjava/util/function/BiFunction;)I" } : Jvm.MethodName)) ∈ lw_all := lw_g (lw_at lw_m4 77 rfl) rfl

/-! java/util/ImmutableCollections$AbstractImmutableCollection -/
set_option maxRecDepth 100000
def RJ10 : String := "java/util/ImmutableCollections$AbstractImmutableCollection"
abbrev cJ10_init : ByteArray := prog_57_method_1_code
def yJ10_init : MethodName := ⟨RJ10, "<init>", "()V"⟩
theorem dJ10_init_0 : decode cJ10_init 0 = .ok (.aload_n 0, 1) := by decide +kernel
theorem dJ10_init_1 : decode cJ10_init 1 = .ok (.invokespecial 1, 3) := by decide +kernel
theorem dJ10_init_4 : decode cJ10_init 4 = .ok (.return_, 1) := by decide +kernel
theorem q111 : (Jvm.Cond.initialized "java/util/ImmutableCollections$AbstractImmutableCollection") ∈ lw_all := lw_g (lw_at lw_m1 16 rfl) rfl
theorem q496 : (Jvm.Cond.instanceMethod ({ cls := "java/util/ImmutableCollections$AbstractImmutableCollection", name := "<init>", desc := "()V" } : Jvm.MethodName)) ∈ lw_all := lw_g (lw_at lw_m2 161 rfl) rfl
theorem q497 : (Jvm.Cond.code ({ cls := "java/util/ImmutableCollections$AbstractImmutableCollection", name := "<init>", desc := "()V" } : Jvm.MethodName) prog_57_method_1_code (1 : Nat) (Option.none : Option Jvm.ClassFile.FieldType)) ∈ lw_all := lw_g (lw_at lw_m2 162 rfl) rfl
theorem q498 : (Jvm.Cond.methodLink "java/util/ImmutableCollections$AbstractImmutableCollection" (1 : Nat) ({ cls := "java/util/AbstractCollection", name := "<init>", desc := "()V" } : Jvm.MethodName)) ∈ lw_all := lw_g (lw_at lw_m2 163 rfl) rfl

/-! java/util/ImmutableCollections$AbstractImmutableList -/
set_option maxRecDepth 100000
def RJ11 : String := "java/util/ImmutableCollections$AbstractImmutableList"
abbrev cJ11_init : ByteArray := prog_58_method_1_code
def yJ11_init : MethodName := ⟨RJ11, "<init>", "()V"⟩
theorem dJ11_init_0 : decode cJ11_init 0 = .ok (.aload_n 0, 1) := by decide +kernel
theorem dJ11_init_1 : decode cJ11_init 1 = .ok (.invokespecial 1, 3) := by decide +kernel
theorem dJ11_init_4 : decode cJ11_init 4 = .ok (.return_, 1) := by decide +kernel
abbrev cJ11_outOfBounds : ByteArray := prog_58_method_17_code
def yJ11_outOfBounds : MethodName := ⟨RJ11, "outOfBounds", "(I)Ljava/lang/IndexOutOfBoundsException;"⟩
def dkwJ11_outOfBounds_1 : List UInt8 := [182, 0, 36, 42, 182, 0, 13, 182, 0, 40, 182, 0, 43, 183, 0, 47, 176]
abbrev dktJ11_outOfBounds_1 : List UInt8 := dkwJ11_outOfBounds_1 ++ []
def dkwJ11_outOfBounds_0 : List UInt8 := [187, 0, 29, 89, 187, 0, 31, 89, 183, 0, 33, 18, 116, 182, 0, 36, 27, 182, 0, 40, 18, 118]
abbrev dktJ11_outOfBounds_0 : List UInt8 := dkwJ11_outOfBounds_0 ++ dktJ11_outOfBounds_1
theorem dksJ11_outOfBounds_0 : cJ11_outOfBounds.data.toList.drop 0 = dktJ11_outOfBounds_0 := by decide +kernel
theorem dksJ11_outOfBounds_1 : cJ11_outOfBounds.data.toList.drop 22 = dktJ11_outOfBounds_1 := dk_seg dksJ11_outOfBounds_0 22 rfl rfl
theorem dJ11_outOfBounds_0 : decode cJ11_outOfBounds 0 = .ok (.new 29, 3) := dk_187 0 29 (dk_at dksJ11_outOfBounds_0 0 rfl rfl)
theorem dJ11_outOfBounds_3 : decode cJ11_outOfBounds 3 = .ok (.dup, 1) := dk_89 (dk_at dksJ11_outOfBounds_0 3 rfl rfl)
theorem dJ11_outOfBounds_4 : decode cJ11_outOfBounds 4 = .ok (.new 31, 3) := dk_187 0 31 (dk_at dksJ11_outOfBounds_0 4 rfl rfl)
theorem dJ11_outOfBounds_7 : decode cJ11_outOfBounds 7 = .ok (.dup, 1) := dk_89 (dk_at dksJ11_outOfBounds_0 7 rfl rfl)
theorem dJ11_outOfBounds_8 : decode cJ11_outOfBounds 8 = .ok (.invokespecial 33, 3) := dk_183 0 33 (dk_at dksJ11_outOfBounds_0 8 rfl rfl)
theorem dJ11_outOfBounds_11 : decode cJ11_outOfBounds 11 = .ok (.ldc 116, 2) := dk_18 116 (dk_at dksJ11_outOfBounds_0 11 rfl rfl)
theorem dJ11_outOfBounds_13 : decode cJ11_outOfBounds 13 = .ok (.invokevirtual 36, 3) := dk_182 0 36 (dk_at dksJ11_outOfBounds_0 13 rfl rfl)
theorem dJ11_outOfBounds_16 : decode cJ11_outOfBounds 16 = .ok (.iload_n 1, 1) := dk_27 (dk_at dksJ11_outOfBounds_0 16 rfl rfl)
theorem dJ11_outOfBounds_17 : decode cJ11_outOfBounds 17 = .ok (.invokevirtual 40, 3) := dk_182 0 40 (dk_at dksJ11_outOfBounds_0 17 rfl rfl)
theorem dJ11_outOfBounds_20 : decode cJ11_outOfBounds 20 = .ok (.ldc 118, 2) := dk_18 118 (dk_at dksJ11_outOfBounds_0 20 rfl rfl)
theorem dJ11_outOfBounds_22 : decode cJ11_outOfBounds 22 = .ok (.invokevirtual 36, 3) := dk_182 0 36 (dk_at dksJ11_outOfBounds_1 0 rfl rfl)
theorem dJ11_outOfBounds_25 : decode cJ11_outOfBounds 25 = .ok (.aload_n 0, 1) := dk_42 (dk_at dksJ11_outOfBounds_1 3 rfl rfl)
theorem dJ11_outOfBounds_26 : decode cJ11_outOfBounds 26 = .ok (.invokevirtual 13, 3) := dk_182 0 13 (dk_at dksJ11_outOfBounds_1 4 rfl rfl)
theorem dJ11_outOfBounds_29 : decode cJ11_outOfBounds 29 = .ok (.invokevirtual 40, 3) := dk_182 0 40 (dk_at dksJ11_outOfBounds_1 7 rfl rfl)
theorem dJ11_outOfBounds_32 : decode cJ11_outOfBounds 32 = .ok (.invokevirtual 43, 3) := dk_182 0 43 (dk_at dksJ11_outOfBounds_1 10 rfl rfl)
theorem dJ11_outOfBounds_35 : decode cJ11_outOfBounds 35 = .ok (.invokespecial 47, 3) := dk_183 0 47 (dk_at dksJ11_outOfBounds_1 13 rfl rfl)
theorem dJ11_outOfBounds_38 : decode cJ11_outOfBounds 38 = .ok (.areturn, 1) := dk_176 (dk_at dksJ11_outOfBounds_1 16 rfl rfl)
theorem q112 : (Jvm.Cond.initialized "java/util/ImmutableCollections$AbstractImmutableList") ∈ lw_all := lw_g (lw_at lw_m1 17 rfl) rfl
theorem q493 : (Jvm.Cond.instanceMethod ({ cls := "java/util/ImmutableCollections$AbstractImmutableList", name := "<init>", desc := "()V" } : Jvm.MethodName)) ∈ lw_all := lw_g (lw_at lw_m2 158 rfl) rfl
theorem q494 : (Jvm.Cond.code ({ cls := "java/util/ImmutableCollections$AbstractImmutableList", name := "<init>", desc := "()V" } : Jvm.MethodName) prog_58_method_1_code (1 : Nat) (Option.none : Option Jvm.ClassFile.FieldType)) ∈ lw_all := lw_g (lw_at lw_m2 159 rfl) rfl
theorem q495 : (Jvm.Cond.methodLink "java/util/ImmutableCollections$AbstractImmutableList" (1 : Nat) ({ cls := "java/util/ImmutableCollections$AbstractImmutableCollection", name := "<init>", desc := "()V" } : Jvm.MethodName)) ∈ lw_all := lw_g (lw_at lw_m2 160 rfl) rfl
theorem q904 : (Jvm.Cond.declares ({ cls := "java/util/ImmutableCollections$AbstractImmutableList", name := "outOfBounds", desc := "(I)Ljava/lang/IndexOutOfBoundsException;" } : Jvm.MethodName)) ∈ lw_tbl := lw_at lw_m4 89 rfl
theorem q906 : (Jvm.Cond.instanceMethod ({ cls := "java/util/ImmutableCollections$AbstractImmutableList", name := "outOfBounds", desc := "(I)Ljava/lang/IndexOutOfBoundsException;" } : Jvm.MethodName)) ∈ lw_all := lw_g (lw_at lw_m4 91 rfl) rfl
theorem q907 : (Jvm.Cond.code ({ cls := "java/util/ImmutableCollections$AbstractImmutableList", name := "outOfBounds", desc := "(I)Ljava/lang/IndexOutOfBoundsException;" } : Jvm.MethodName) prog_58_method_17_code (2 : Nat) (Option.some (Jvm.ClassFile.FieldType.object "java/lang/IndexOutOfBoundsException"))) ∈ lw_all := lw_g (lw_at lw_m4 92 rfl) rfl
theorem q908 : (Jvm.Cond.classLink "java/util/ImmutableCollections$AbstractImmutableList" (29 : Nat) "java/lang/IndexOutOfBoundsException") ∈ lw_all := lw_g (lw_at lw_m4 93 rfl) rfl
theorem q919 : (Jvm.Cond.classLink "java/util/ImmutableCollections$AbstractImmutableList" (31 : Nat) "java/lang/StringBuilder") ∈ lw_all := lw_g (lw_at lw_m4 104 rfl) rfl
theorem q920 : (Jvm.Cond.methodLink "java/util/ImmutableCollections$AbstractImmutableList" (33 : Nat) ({ cls := "java/lang/StringBuilder", name := "<init>", desc := "()V" } : Jvm.MethodName)) ∈ lw_all := lw_g (lw_at lw_m4 105 rfl) rfl
theorem q923 : (Jvm.Cond.stringRef "java/util/ImmutableCollections$AbstractImmutableList" (116 : Nat) "Index: ") ∈ lw_tbl := lw_at lw_m4 108 rfl
theorem q924 : (Jvm.Cond.methodLink "java/util/ImmutableCollections$AbstractImmutableList" (36 : Nat) ({ cls := "java/lang/StringBuilder", name := "append", desc := "(Ljava/lang/String;)Ljava/lang/StringBuilder;" } : Jvm.MethodName)) ∈ lw_all := lw_g (lw_at lw_m4 109 rfl) rfl
theorem q970 : (Jvm.Cond.methodLink "java/util/ImmutableCollections$AbstractImmutableList" (40 : Nat) ({ cls := "java/lang/StringBuilder", name := "append", desc := "(I)Ljava/lang/StringBuilder;" } : Jvm.MethodName)) ∈ lw_all := lw_g (lw_at lw_m4 155 rfl) rfl
theorem q995 : (Jvm.Cond.stringRef "java/util/ImmutableCollections$AbstractImmutableList" (118 : Nat) " Size: ") ∈ lw_tbl := lw_at lw_m4 180 rfl
theorem q996 : (Jvm.Cond.methodLink "java/util/ImmutableCollections$AbstractImmutableList" (13 : Nat) ({ cls := "java/util/ImmutableCollections$AbstractImmutableList", name := "size", desc := "()I" } : Jvm.MethodName)) ∈ lw_all := lw_g (lw_at lw_m4 181 rfl) rfl
theorem q997 : (Jvm.Cond.sameMethod "java/util/ImmutableCollections$AbstractImmutableList" "java/util/AbstractCollection" "size" "()I") ∈ lw_all := lw_g (lw_at lw_m4 182 rfl) rfl
theorem q1001 : (Jvm.Cond.methodLink "java/util/ImmutableCollections$AbstractImmutableList" (43 : Nat) ({ cls := "java/lang/StringBuilder", name := "toString", desc := "()Ljava/lang/String;" } : Jvm.MethodName)) ∈ lw_all := lw_g (lw_at lw_m4 186 rfl) rfl
theorem q1002 : (Jvm.Cond.methodLink "java/util/ImmutableCollections$AbstractImmutableList" (47 : Nat) ({ cls := "java/lang/IndexOutOfBoundsException", name := "<init>", desc := "(Ljava/lang/String;)V" } : Jvm.MethodName)) ∈ lw_all := lw_g (lw_at lw_m4 187 rfl) rfl

/-! java/util/ImmutableCollections$List12 -/
set_option maxRecDepth 100000
def RJ12 : String := "java/util/ImmutableCollections$List12"
def TJ12 : u_T := fun k => match k with
  | 0 => ("java/util/ImmutableCollections$List12", "e0", "Ljava/lang/Object;", true)
  | _ => ("java/util/ImmutableCollections$List12", "e1", "Ljava/lang/Object;", true)
def tyJ12 : Nat → FieldType := fun k => match k with
  | 0 => .object "java/lang/Object"
  | _ => .object "java/lang/Object"
abbrev wsJ120 : List Cond := u_ws RJ12 TJ12 2
theorem nmJ12 : ∀ a, a < 2 → ∀ b, b < 2 → a ≠ b → (TJ12 a).2.1 ≠ (TJ12 b).2.1 := by decide +kernel
theorem tyJ12_ok : ∀ k, k < 2 → parseFieldDescriptor (TJ12 k).2.2.1 = some (tyJ12 k) := by decide +kernel
abbrev cJ12_init : ByteArray := prog_59_method_1_code
def yJ12_init : MethodName := ⟨RJ12, "<init>", "(Ljava/lang/Object;)V"⟩
def dkwJ12_init_0 : List UInt8 := [42, 183, 0, 1, 42, 43, 184, 0, 7, 181, 0, 13, 42, 178, 0, 19, 181, 0, 24, 177]
abbrev dktJ12_init_0 : List UInt8 := dkwJ12_init_0 ++ []
theorem dksJ12_init_0 : cJ12_init.data.toList.drop 0 = dktJ12_init_0 := by decide +kernel
theorem dJ12_init_0 : decode cJ12_init 0 = .ok (.aload_n 0, 1) := dk_42 (dk_at dksJ12_init_0 0 rfl rfl)
theorem dJ12_init_1 : decode cJ12_init 1 = .ok (.invokespecial 1, 3) := dk_183 0 1 (dk_at dksJ12_init_0 1 rfl rfl)
theorem dJ12_init_4 : decode cJ12_init 4 = .ok (.aload_n 0, 1) := dk_42 (dk_at dksJ12_init_0 4 rfl rfl)
theorem dJ12_init_5 : decode cJ12_init 5 = .ok (.aload_n 1, 1) := dk_43 (dk_at dksJ12_init_0 5 rfl rfl)
theorem dJ12_init_6 : decode cJ12_init 6 = .ok (.invokestatic 7, 3) := dk_184 0 7 (dk_at dksJ12_init_0 6 rfl rfl)
theorem dJ12_init_9 : decode cJ12_init 9 = .ok (.putfield 13, 3) := dk_181 0 13 (dk_at dksJ12_init_0 9 rfl rfl)
theorem dJ12_init_12 : decode cJ12_init 12 = .ok (.aload_n 0, 1) := dk_42 (dk_at dksJ12_init_0 12 rfl rfl)
theorem dJ12_init_13 : decode cJ12_init 13 = .ok (.getstatic 19, 3) := dk_178 0 19 (dk_at dksJ12_init_0 13 rfl rfl)
theorem dJ12_init_16 : decode cJ12_init 16 = .ok (.putfield 24, 3) := dk_181 0 24 (dk_at dksJ12_init_0 16 rfl rfl)
theorem dJ12_init_19 : decode cJ12_init 19 = .ok (.return_, 1) := dk_177 (dk_at dksJ12_init_0 19 rfl rfl)
abbrev cJ12_init_2 : ByteArray := prog_59_method_2_code
def yJ12_init_2 : MethodName := ⟨RJ12, "<init>", "(Ljava/lang/Object;Ljava/lang/Object;)V"⟩
def dkwJ12_init_2_0 : List UInt8 := [42, 183, 0, 1, 42, 43, 184, 0, 7, 181, 0, 13, 42, 44, 184, 0, 7, 181, 0, 24, 177]
abbrev dktJ12_init_2_0 : List UInt8 := dkwJ12_init_2_0 ++ []
theorem dksJ12_init_2_0 : cJ12_init_2.data.toList.drop 0 = dktJ12_init_2_0 := by decide +kernel
theorem dJ12_init_2_0 : decode cJ12_init_2 0 = .ok (.aload_n 0, 1) := dk_42 (dk_at dksJ12_init_2_0 0 rfl rfl)
theorem dJ12_init_2_1 : decode cJ12_init_2 1 = .ok (.invokespecial 1, 3) := dk_183 0 1 (dk_at dksJ12_init_2_0 1 rfl rfl)
theorem dJ12_init_2_4 : decode cJ12_init_2 4 = .ok (.aload_n 0, 1) := dk_42 (dk_at dksJ12_init_2_0 4 rfl rfl)
theorem dJ12_init_2_5 : decode cJ12_init_2 5 = .ok (.aload_n 1, 1) := dk_43 (dk_at dksJ12_init_2_0 5 rfl rfl)
theorem dJ12_init_2_6 : decode cJ12_init_2 6 = .ok (.invokestatic 7, 3) := dk_184 0 7 (dk_at dksJ12_init_2_0 6 rfl rfl)
theorem dJ12_init_2_9 : decode cJ12_init_2 9 = .ok (.putfield 13, 3) := dk_181 0 13 (dk_at dksJ12_init_2_0 9 rfl rfl)
theorem dJ12_init_2_12 : decode cJ12_init_2 12 = .ok (.aload_n 0, 1) := dk_42 (dk_at dksJ12_init_2_0 12 rfl rfl)
theorem dJ12_init_2_13 : decode cJ12_init_2 13 = .ok (.aload_n 2, 1) := dk_44 (dk_at dksJ12_init_2_0 13 rfl rfl)
theorem dJ12_init_2_14 : decode cJ12_init_2 14 = .ok (.invokestatic 7, 3) := dk_184 0 7 (dk_at dksJ12_init_2_0 14 rfl rfl)
theorem dJ12_init_2_17 : decode cJ12_init_2 17 = .ok (.putfield 24, 3) := dk_181 0 24 (dk_at dksJ12_init_2_0 17 rfl rfl)
theorem dJ12_init_2_20 : decode cJ12_init_2 20 = .ok (.return_, 1) := dk_177 (dk_at dksJ12_init_2_0 20 rfl rfl)
abbrev cJ12_size : ByteArray := prog_59_method_3_code
def yJ12_size : MethodName := ⟨RJ12, "size", "()I"⟩
def dkwJ12_size_0 : List UInt8 := [42, 180, 0, 24, 178, 0, 19, 165, 0, 7, 5, 167, 0, 4, 4, 172]
abbrev dktJ12_size_0 : List UInt8 := dkwJ12_size_0 ++ []
theorem dksJ12_size_0 : cJ12_size.data.toList.drop 0 = dktJ12_size_0 := by decide +kernel
theorem dJ12_size_0 : decode cJ12_size 0 = .ok (.aload_n 0, 1) := dk_42 (dk_at dksJ12_size_0 0 rfl rfl)
theorem dJ12_size_1 : decode cJ12_size 1 = .ok (.getfield 24, 3) := dk_180 0 24 (dk_at dksJ12_size_0 1 rfl rfl)
theorem dJ12_size_4 : decode cJ12_size 4 = .ok (.getstatic 19, 3) := dk_178 0 19 (dk_at dksJ12_size_0 4 rfl rfl)
theorem dJ12_size_7 : decode cJ12_size 7 = .ok (.if_acmp .eq 7, 3) := dk_165 0 7 (dk_at dksJ12_size_0 7 rfl rfl)
theorem dJ12_size_10 : decode cJ12_size 10 = .ok (.iconst 2, 1) := dk_5 (dk_at dksJ12_size_0 10 rfl rfl)
theorem dJ12_size_11 : decode cJ12_size 11 = .ok (.goto 4, 3) := dk_167 0 4 (dk_at dksJ12_size_0 11 rfl rfl)
theorem dJ12_size_14 : decode cJ12_size 14 = .ok (.iconst 1, 1) := dk_4 (dk_at dksJ12_size_0 14 rfl rfl)
theorem dJ12_size_15 : decode cJ12_size 15 = .ok (.ireturn, 1) := dk_172 (dk_at dksJ12_size_0 15 rfl rfl)
abbrev cJ12_get : ByteArray := prog_59_method_5_code
def yJ12_get : MethodName := ⟨RJ12, "get", "(I)Ljava/lang/Object;"⟩
def dkwJ12_get_1 : List UInt8 := [42, 180, 0, 24, 176, 42, 27, 182, 0, 27, 191]
abbrev dktJ12_get_1 : List UInt8 := dkwJ12_get_1 ++ []
def dkwJ12_get_0 : List UInt8 := [27, 154, 0, 8, 42, 180, 0, 13, 176, 27, 4, 160, 0, 18, 42, 180, 0, 24, 178, 0, 19, 165, 0, 8]
abbrev dktJ12_get_0 : List UInt8 := dkwJ12_get_0 ++ dktJ12_get_1
theorem dksJ12_get_0 : cJ12_get.data.toList.drop 0 = dktJ12_get_0 := by decide +kernel
theorem dksJ12_get_1 : cJ12_get.data.toList.drop 24 = dktJ12_get_1 := dk_seg dksJ12_get_0 24 rfl rfl
theorem dJ12_get_0 : decode cJ12_get 0 = .ok (.iload_n 1, 1) := dk_27 (dk_at dksJ12_get_0 0 rfl rfl)
theorem dJ12_get_1 : decode cJ12_get 1 = .ok (.ifCond .ne 8, 3) := dk_154 0 8 (dk_at dksJ12_get_0 1 rfl rfl)
theorem dJ12_get_4 : decode cJ12_get 4 = .ok (.aload_n 0, 1) := dk_42 (dk_at dksJ12_get_0 4 rfl rfl)
theorem dJ12_get_5 : decode cJ12_get 5 = .ok (.getfield 13, 3) := dk_180 0 13 (dk_at dksJ12_get_0 5 rfl rfl)
theorem dJ12_get_8 : decode cJ12_get 8 = .ok (.areturn, 1) := dk_176 (dk_at dksJ12_get_0 8 rfl rfl)
theorem dJ12_get_9 : decode cJ12_get 9 = .ok (.iload_n 1, 1) := dk_27 (dk_at dksJ12_get_0 9 rfl rfl)
theorem dJ12_get_10 : decode cJ12_get 10 = .ok (.iconst 1, 1) := dk_4 (dk_at dksJ12_get_0 10 rfl rfl)
theorem dJ12_get_11 : decode cJ12_get 11 = .ok (.if_icmp .ne 18, 3) := dk_160 0 18 (dk_at dksJ12_get_0 11 rfl rfl)
theorem dJ12_get_14 : decode cJ12_get 14 = .ok (.aload_n 0, 1) := dk_42 (dk_at dksJ12_get_0 14 rfl rfl)
theorem dJ12_get_15 : decode cJ12_get 15 = .ok (.getfield 24, 3) := dk_180 0 24 (dk_at dksJ12_get_0 15 rfl rfl)
theorem dJ12_get_18 : decode cJ12_get 18 = .ok (.getstatic 19, 3) := dk_178 0 19 (dk_at dksJ12_get_0 18 rfl rfl)
theorem dJ12_get_21 : decode cJ12_get 21 = .ok (.if_acmp .eq 8, 3) := dk_165 0 8 (dk_at dksJ12_get_0 21 rfl rfl)
theorem dJ12_get_24 : decode cJ12_get 24 = .ok (.aload_n 0, 1) := dk_42 (dk_at dksJ12_get_1 0 rfl rfl)
theorem dJ12_get_25 : decode cJ12_get 25 = .ok (.getfield 24, 3) := dk_180 0 24 (dk_at dksJ12_get_1 1 rfl rfl)
theorem dJ12_get_28 : decode cJ12_get 28 = .ok (.areturn, 1) := dk_176 (dk_at dksJ12_get_1 4 rfl rfl)
theorem dJ12_get_29 : decode cJ12_get 29 = .ok (.aload_n 0, 1) := dk_42 (dk_at dksJ12_get_1 5 rfl rfl)
theorem dJ12_get_30 : decode cJ12_get 30 = .ok (.iload_n 1, 1) := dk_27 (dk_at dksJ12_get_1 6 rfl rfl)
theorem dJ12_get_31 : decode cJ12_get 31 = .ok (.invokevirtual 27, 3) := dk_182 0 27 (dk_at dksJ12_get_1 7 rfl rfl)
theorem dJ12_get_34 : decode cJ12_get 34 = .ok (.athrow, 1) := dk_191 (dk_at dksJ12_get_1 10 rfl rfl)
theorem q113 : (Jvm.Cond.initialized "java/util/ImmutableCollections$List12") ∈ lw_all := lw_g (lw_at lw_m1 18 rfl) rfl
theorem q474 : (Jvm.Cond.selects "java/util/ImmutableCollections$List12" ({ cls := "java/lang/Object", name := "getClass", desc := "()Ljava/lang/Class;" } : Jvm.MethodName) ({ cls := "java/lang/Object", name := "getClass", desc := "()Ljava/lang/Class;" } : Jvm.MethodName)) ∈ lw_all := lw_g (lw_at lw_m2 139 rfl) rfl
theorem q488 : (Jvm.Cond.instantiable "java/util/ImmutableCollections$List12" (2 : Nat)) ∈ lw_all := lw_g (lw_at lw_m2 153 rfl) rfl
theorem q490 : (Jvm.Cond.instanceMethod ({ cls := "java/util/ImmutableCollections$List12", name := "<init>", desc := "(Ljava/lang/Object;)V" } : Jvm.MethodName)) ∈ lw_all := lw_g (lw_at lw_m2 155 rfl) rfl
theorem q491 : (Jvm.Cond.code ({ cls := "java/util/ImmutableCollections$List12", name := "<init>", desc := "(Ljava/lang/Object;)V" } : Jvm.MethodName) prog_59_method_1_code (2 : Nat) (Option.none : Option Jvm.ClassFile.FieldType)) ∈ lw_all := lw_g (lw_at lw_m2 156 rfl) rfl
theorem q492 : (Jvm.Cond.methodLink "java/util/ImmutableCollections$List12" (1 : Nat) ({ cls := "java/util/ImmutableCollections$AbstractImmutableList", name := "<init>", desc := "()V" } : Jvm.MethodName)) ∈ lw_all := lw_g (lw_at lw_m2 157 rfl) rfl
theorem q499 : (Jvm.Cond.methodLink "java/util/ImmutableCollections$List12" (7 : Nat) ({ cls := "java/util/Objects", name := "requireNonNull", desc := "(Ljava/lang/Object;)Ljava/lang/Object;" } : Jvm.MethodName)) ∈ lw_all := lw_g (lw_at lw_m2 164 rfl) rfl
theorem q500 : (Jvm.Cond.fieldLinkNest "java/util/ImmutableCollections$List12" (19 : Nat) "java/util/ImmutableCollections" "EMPTY" "Ljava/lang/Object;" "java/util/ImmutableCollections") ∈ lw_tbl := lw_at lw_m2 165 rfl
theorem q502 : (Jvm.Cond.fieldLink "java/util/ImmutableCollections$List12" (13 : Nat) "java/util/ImmutableCollections$List12" "e0" "Ljava/lang/Object;") ∈ lw_all := lw_g (lw_at lw_m2 167 rfl) rfl
theorem q503 : (Jvm.Cond.fieldLink "java/util/ImmutableCollections$List12" (24 : Nat) "java/util/ImmutableCollections$List12" "e1" "Ljava/lang/Object;") ∈ lw_all := lw_g (lw_at lw_m2 168 rfl) rfl
theorem q504 : (Jvm.Cond.laysFinal "java/util/ImmutableCollections$List12" "java/util/ImmutableCollections$List12" "e0" "Ljava/lang/Object;") ∈ lw_all := lw_g (lw_at lw_m2 169 rfl) rfl
theorem q505 : (Jvm.Cond.soleField "java/util/ImmutableCollections$List12" "e0") ∈ lw_all := lw_g (lw_at lw_m2 170 rfl) rfl
theorem q506 : (Jvm.Cond.laysFinal "java/util/ImmutableCollections$List12" "java/util/ImmutableCollections$List12" "e1" "Ljava/lang/Object;") ∈ lw_all := lw_g (lw_at lw_m2 171 rfl) rfl
theorem q507 : (Jvm.Cond.soleField "java/util/ImmutableCollections$List12" "e1") ∈ lw_all := lw_g (lw_at lw_m2 172 rfl) rfl
theorem q508 : (Jvm.Cond.superclass "java/util/ImmutableCollections$List12" "java/util/ImmutableCollections$AbstractImmutableList") ∈ lw_all := lw_g (lw_at lw_m2 173 rfl) rfl
theorem q510 : (Jvm.Cond.instanceMethod ({ cls := "java/util/ImmutableCollections$List12", name := "<init>", desc := "(Ljava/lang/Object;Ljava/lang/Object;)V" } : Jvm.MethodName)) ∈ lw_all := lw_g (lw_at lw_m2 175 rfl) rfl
theorem q511 : (Jvm.Cond.code ({ cls := "java/util/ImmutableCollections$List12", name := "<init>", desc := "(Ljava/lang/Object;Ljava/lang/Object;)V" } : Jvm.MethodName) prog_59_method_2_code (3 : Nat) (Option.none : Option Jvm.ClassFile.FieldType)) ∈ lw_all := lw_g (lw_at lw_m2 176 rfl) rfl
theorem q862 : (Jvm.Cond.castable "java/util/ImmutableCollections$List12" "java/util/List") ∈ lw_tbl := lw_at lw_m4 47 rfl
theorem q863 : (Jvm.Cond.selects "java/util/ImmutableCollections$List12" ({ cls := "java/util/List", name := "size", desc := "()I" } : Jvm.MethodName) ({ cls := "java/util/ImmutableCollections$List12", name := "size", desc := "()I" } : Jvm.MethodName)) ∈ lw_all := lw_g (lw_at lw_m4 48 rfl) rfl
theorem q864 : (Jvm.Cond.unhidden "java/util/ImmutableCollections$List12" "size" "()I") ∈ lw_tbl := lw_at lw_m4 49 rfl
theorem q865 : (Jvm.Cond.instanceMethod ({ cls := "java/util/ImmutableCollections$List12", name := "size", desc := "()I" } : Jvm.MethodName)) ∈ lw_all := lw_g (lw_at lw_m4 50 rfl) rfl
theorem q866 : (Jvm.Cond.publicMethod ({ cls := "java/util/ImmutableCollections$List12", name := "size", desc := "()I" } : Jvm.MethodName)) ∈ lw_tbl := lw_at lw_m4 51 rfl
theorem q867 : (Jvm.Cond.code ({ cls := "java/util/ImmutableCollections$List12", name := "size", desc := "()I" } : Jvm.MethodName) prog_59_method_3_code (1 : Nat) (Option.some Jvm.ClassFile.FieldType.int)) ∈ lw_all := lw_g (lw_at lw_m4 52 rfl) rfl
theorem q897 : (Jvm.Cond.selects "java/util/ImmutableCollections$List12" ({ cls := "java/util/List", name := "get", desc := "(I)Ljava/lang/Object;" } : Jvm.MethodName) ({ cls := "java/util/ImmutableCollections$List12", name := "get", desc := "(I)Ljava/lang/Object;" } : Jvm.MethodName)) ∈ lw_all := lw_g (lw_at lw_m4 82 rfl) rfl
theorem q898 : (Jvm.Cond.unhidden "java/util/ImmutableCollections$List12" "get" "(I)Ljava/lang/Object;") ∈ lw_tbl := lw_at lw_m4 83 rfl
theorem q899 : (Jvm.Cond.instanceMethod ({ cls := "java/util/ImmutableCollections$List12", name := "get", desc := "(I)Ljava/lang/Object;" } : Jvm.MethodName)) ∈ lw_all := lw_g (lw_at lw_m4 84 rfl) rfl
theorem q900 : (Jvm.Cond.publicMethod ({ cls := "java/util/ImmutableCollections$List12", name := "get", desc := "(I)Ljava/lang/Object;" } : Jvm.MethodName)) ∈ lw_tbl := lw_at lw_m4 85 rfl
theorem q901 : (Jvm.Cond.code ({ cls := "java/util/ImmutableCollections$List12", name := "get", desc := "(I)Ljava/lang/Object;" } : Jvm.MethodName) prog_59_method_5_code (2 : Nat) (Option.some (Jvm.ClassFile.FieldType.object "java/lang/Object"))) ∈ lw_all := lw_g (lw_at lw_m4 86 rfl) rfl
theorem q902 : (Jvm.Cond.methodLink "java/util/ImmutableCollections$List12" (27 : Nat) ({ cls := "java/util/ImmutableCollections$List12", name := "outOfBounds", desc := "(I)Ljava/lang/IndexOutOfBoundsException;" } : Jvm.MethodName)) ∈ lw_all := lw_g (lw_at lw_m4 87 rfl) rfl
theorem q903 : (Jvm.Cond.sameMethod "java/util/ImmutableCollections$List12" "java/util/ImmutableCollections$AbstractImmutableList" "outOfBounds" "(I)Ljava/lang/IndexOutOfBoundsException;") ∈ lw_all := lw_g (lw_at lw_m4 88 rfl) rfl
theorem q905 : (Jvm.Cond.selects "java/util/ImmutableCollections$List12" ({ cls := "java/util/ImmutableCollections$List12", name := "outOfBounds", desc := "(I)Ljava/lang/IndexOutOfBoundsException;" } : Jvm.MethodName) ({ cls := "java/util/ImmutableCollections$AbstractImmutableList", name := "outOfBounds", desc := "(I)Ljava/lang/IndexOutOfBoundsException;" } : Jvm.MethodName)) ∈ lw_all := lw_g (lw_at lw_m4 90 rfl) rfl
theorem q999 : (Jvm.Cond.selects "java/util/ImmutableCollections$List12" ({ cls := "java/util/ImmutableCollections$AbstractImmutableList", name := "size", desc := "()I" } : Jvm.MethodName) ({ cls := "java/util/ImmutableCollections$List12", name := "size", desc := "()I" } : Jvm.MethodName)) ∈ lw_all := lw_g (lw_at lw_m4 184 rfl) rfl
theorem q2708 : (Jvm.Cond.castable "java/util/ImmutableCollections$List12" "java/lang/Object") ∈ lw_tbl := lw_at lw_m11 213 rfl
theorem in_J12 : ∀ w ∈ wsJ120, w ∈ lw_all := lw_in wsJ120 [504, 506] (by decide +kernel) (by decide +kernel)

/-! java/util/ImmutableCollections$ListN -/
set_option maxRecDepth 100000
def RJ13 : String := "java/util/ImmutableCollections$ListN"
def TJ13 : u_T := fun k => match k with
  | 0 => ("java/util/ImmutableCollections$ListN", "elements", "[Ljava/lang/Object;", true)
  | _ => ("java/util/ImmutableCollections$ListN", "allowNulls", "Z", true)
def tyJ13 : Nat → FieldType := fun k => match k with
  | 0 => .array (.object "java/lang/Object")
  | _ => .boolean
abbrev wsJ130 : List Cond := u_ws RJ13 TJ13 2
theorem nmJ13 : ∀ a, a < 2 → ∀ b, b < 2 → a ≠ b → (TJ13 a).2.1 ≠ (TJ13 b).2.1 := by decide +kernel
theorem tyJ13_ok : ∀ k, k < 2 → parseFieldDescriptor (TJ13 k).2.2.1 = some (tyJ13 k) := by decide +kernel
abbrev cJ13_init : ByteArray := prog_60_method_1_code
def yJ13_init : MethodName := ⟨RJ13, "<init>", "([Ljava/lang/Object;Z)V"⟩
def dkwJ13_init_0 : List UInt8 := [42, 183, 0, 1, 42, 43, 181, 0, 7, 42, 28, 181, 0, 13, 177]
abbrev dktJ13_init_0 : List UInt8 := dkwJ13_init_0 ++ []
theorem dksJ13_init_0 : cJ13_init.data.toList.drop 0 = dktJ13_init_0 := by decide +kernel
theorem dJ13_init_0 : decode cJ13_init 0 = .ok (.aload_n 0, 1) := dk_42 (dk_at dksJ13_init_0 0 rfl rfl)
theorem dJ13_init_1 : decode cJ13_init 1 = .ok (.invokespecial 1, 3) := dk_183 0 1 (dk_at dksJ13_init_0 1 rfl rfl)
theorem dJ13_init_4 : decode cJ13_init 4 = .ok (.aload_n 0, 1) := dk_42 (dk_at dksJ13_init_0 4 rfl rfl)
theorem dJ13_init_5 : decode cJ13_init 5 = .ok (.aload_n 1, 1) := dk_43 (dk_at dksJ13_init_0 5 rfl rfl)
theorem dJ13_init_6 : decode cJ13_init 6 = .ok (.putfield 7, 3) := dk_181 0 7 (dk_at dksJ13_init_0 6 rfl rfl)
theorem dJ13_init_9 : decode cJ13_init 9 = .ok (.aload_n 0, 1) := dk_42 (dk_at dksJ13_init_0 9 rfl rfl)
theorem dJ13_init_10 : decode cJ13_init 10 = .ok (.iload_n 2, 1) := dk_28 (dk_at dksJ13_init_0 10 rfl rfl)
theorem dJ13_init_11 : decode cJ13_init 11 = .ok (.putfield 13, 3) := dk_181 0 13 (dk_at dksJ13_init_0 11 rfl rfl)
theorem dJ13_init_14 : decode cJ13_init 14 = .ok (.return_, 1) := dk_177 (dk_at dksJ13_init_0 14 rfl rfl)
abbrev cJ13_size : ByteArray := prog_60_method_3_code
def yJ13_size : MethodName := ⟨RJ13, "size", "()I"⟩
def dkwJ13_size_0 : List UInt8 := [42, 180, 0, 7, 190, 172]
abbrev dktJ13_size_0 : List UInt8 := dkwJ13_size_0 ++ []
theorem dksJ13_size_0 : cJ13_size.data.toList.drop 0 = dktJ13_size_0 := by decide +kernel
theorem dJ13_size_0 : decode cJ13_size 0 = .ok (.aload_n 0, 1) := dk_42 (dk_at dksJ13_size_0 0 rfl rfl)
theorem dJ13_size_1 : decode cJ13_size 1 = .ok (.getfield 7, 3) := dk_180 0 7 (dk_at dksJ13_size_0 1 rfl rfl)
theorem dJ13_size_4 : decode cJ13_size 4 = .ok (.arraylength, 1) := dk_190 (dk_at dksJ13_size_0 4 rfl rfl)
theorem dJ13_size_5 : decode cJ13_size 5 = .ok (.ireturn, 1) := dk_172 (dk_at dksJ13_size_0 5 rfl rfl)
abbrev cJ13_get : ByteArray := prog_60_method_4_code
def yJ13_get : MethodName := ⟨RJ13, "get", "(I)Ljava/lang/Object;"⟩
def dkwJ13_get_0 : List UInt8 := [42, 180, 0, 7, 27, 50, 176]
abbrev dktJ13_get_0 : List UInt8 := dkwJ13_get_0 ++ []
theorem dksJ13_get_0 : cJ13_get.data.toList.drop 0 = dktJ13_get_0 := by decide +kernel
theorem dJ13_get_0 : decode cJ13_get 0 = .ok (.aload_n 0, 1) := dk_42 (dk_at dksJ13_get_0 0 rfl rfl)
theorem dJ13_get_1 : decode cJ13_get 1 = .ok (.getfield 7, 3) := dk_180 0 7 (dk_at dksJ13_get_0 1 rfl rfl)
theorem dJ13_get_4 : decode cJ13_get 4 = .ok (.iload_n 1, 1) := dk_27 (dk_at dksJ13_get_0 4 rfl rfl)
theorem dJ13_get_5 : decode cJ13_get 5 = .ok (.aaload, 1) := dk_50 (dk_at dksJ13_get_0 5 rfl rfl)
theorem dJ13_get_6 : decode cJ13_get 6 = .ok (.areturn, 1) := dk_176 (dk_at dksJ13_get_0 6 rfl rfl)
theorem q114 : (Jvm.Cond.initialized "java/util/ImmutableCollections$ListN") ∈ lw_all := lw_g (lw_at lw_m1 19 rfl) rfl
theorem q475 : (Jvm.Cond.selects "java/util/ImmutableCollections$ListN" ({ cls := "java/lang/Object", name := "getClass", desc := "()Ljava/lang/Class;" } : Jvm.MethodName) ({ cls := "java/lang/Object", name := "getClass", desc := "()Ljava/lang/Class;" } : Jvm.MethodName)) ∈ lw_all := lw_g (lw_at lw_m2 140 rfl) rfl
theorem q513 : (Jvm.Cond.instantiable "java/util/ImmutableCollections$ListN" (2 : Nat)) ∈ lw_all := lw_g (lw_at lw_m2 178 rfl) rfl
theorem q515 : (Jvm.Cond.instanceMethod ({ cls := "java/util/ImmutableCollections$ListN", name := "<init>", desc := "([Ljava/lang/Object;Z)V" } : Jvm.MethodName)) ∈ lw_all := lw_g (lw_at lw_m2 180 rfl) rfl
theorem q516 : (Jvm.Cond.code ({ cls := "java/util/ImmutableCollections$ListN", name := "<init>", desc := "([Ljava/lang/Object;Z)V" } : Jvm.MethodName) prog_60_method_1_code (3 : Nat) (Option.none : Option Jvm.ClassFile.FieldType)) ∈ lw_all := lw_g (lw_at lw_m2 181 rfl) rfl
theorem q517 : (Jvm.Cond.methodLink "java/util/ImmutableCollections$ListN" (1 : Nat) ({ cls := "java/util/ImmutableCollections$AbstractImmutableList", name := "<init>", desc := "()V" } : Jvm.MethodName)) ∈ lw_all := lw_g (lw_at lw_m2 182 rfl) rfl
theorem q518 : (Jvm.Cond.fieldLink "java/util/ImmutableCollections$ListN" (7 : Nat) "java/util/ImmutableCollections$ListN" "elements" "[Ljava/lang/Object;") ∈ lw_all := lw_g (lw_at lw_m2 183 rfl) rfl
theorem q519 : (Jvm.Cond.fieldLink "java/util/ImmutableCollections$ListN" (13 : Nat) "java/util/ImmutableCollections$ListN" "allowNulls" "Z") ∈ lw_all := lw_g (lw_at lw_m2 184 rfl) rfl
theorem q520 : (Jvm.Cond.laysFinal "java/util/ImmutableCollections$ListN" "java/util/ImmutableCollections$ListN" "elements" "[Ljava/lang/Object;") ∈ lw_all := lw_g (lw_at lw_m2 185 rfl) rfl
theorem q521 : (Jvm.Cond.soleField "java/util/ImmutableCollections$ListN" "elements") ∈ lw_all := lw_g (lw_at lw_m2 186 rfl) rfl
theorem q522 : (Jvm.Cond.laysFinal "java/util/ImmutableCollections$ListN" "java/util/ImmutableCollections$ListN" "allowNulls" "Z") ∈ lw_all := lw_g (lw_at lw_m2 187 rfl) rfl
theorem q523 : (Jvm.Cond.soleField "java/util/ImmutableCollections$ListN" "allowNulls") ∈ lw_all := lw_g (lw_at lw_m2 188 rfl) rfl
theorem q524 : (Jvm.Cond.superclass "java/util/ImmutableCollections$ListN" "java/util/ImmutableCollections$AbstractImmutableList") ∈ lw_all := lw_g (lw_at lw_m2 189 rfl) rfl
theorem q868 : (Jvm.Cond.castable "java/util/ImmutableCollections$ListN" "java/util/List") ∈ lw_tbl := lw_at lw_m4 53 rfl
theorem q869 : (Jvm.Cond.selects "java/util/ImmutableCollections$ListN" ({ cls := "java/util/List", name := "size", desc := "()I" } : Jvm.MethodName) ({ cls := "java/util/ImmutableCollections$ListN", name := "size", desc := "()I" } : Jvm.MethodName)) ∈ lw_all := lw_g (lw_at lw_m4 54 rfl) rfl
theorem q870 : (Jvm.Cond.unhidden "java/util/ImmutableCollections$ListN" "size" "()I") ∈ lw_tbl := lw_at lw_m4 55 rfl
theorem q871 : (Jvm.Cond.instanceMethod ({ cls := "java/util/ImmutableCollections$ListN", name := "size", desc := "()I" } : Jvm.MethodName)) ∈ lw_all := lw_g (lw_at lw_m4 56 rfl) rfl
theorem q872 : (Jvm.Cond.publicMethod ({ cls := "java/util/ImmutableCollections$ListN", name := "size", desc := "()I" } : Jvm.MethodName)) ∈ lw_tbl := lw_at lw_m4 57 rfl
theorem q873 : (Jvm.Cond.code ({ cls := "java/util/ImmutableCollections$ListN", name := "size", desc := "()I" } : Jvm.MethodName) prog_60_method_3_code (1 : Nat) (Option.some Jvm.ClassFile.FieldType.int)) ∈ lw_all := lw_g (lw_at lw_m4 58 rfl) rfl
theorem q1000 : (Jvm.Cond.selects "java/util/ImmutableCollections$ListN" ({ cls := "java/util/ImmutableCollections$AbstractImmutableList", name := "size", desc := "()I" } : Jvm.MethodName) ({ cls := "java/util/ImmutableCollections$ListN", name := "size", desc := "()I" } : Jvm.MethodName)) ∈ lw_all := lw_g (lw_at lw_m4 185 rfl) rfl
theorem q1016 : (Jvm.Cond.selects "java/util/ImmutableCollections$ListN" ({ cls := "java/util/List", name := "get", desc := "(I)Ljava/lang/Object;" } : Jvm.MethodName) ({ cls := "java/util/ImmutableCollections$ListN", name := "get", desc := "(I)Ljava/lang/Object;" } : Jvm.MethodName)) ∈ lw_all := lw_g (lw_at lw_m4 201 rfl) rfl
theorem q1017 : (Jvm.Cond.unhidden "java/util/ImmutableCollections$ListN" "get" "(I)Ljava/lang/Object;") ∈ lw_tbl := lw_at lw_m4 202 rfl
theorem q1018 : (Jvm.Cond.instanceMethod ({ cls := "java/util/ImmutableCollections$ListN", name := "get", desc := "(I)Ljava/lang/Object;" } : Jvm.MethodName)) ∈ lw_all := lw_g (lw_at lw_m4 203 rfl) rfl
theorem q1019 : (Jvm.Cond.publicMethod ({ cls := "java/util/ImmutableCollections$ListN", name := "get", desc := "(I)Ljava/lang/Object;" } : Jvm.MethodName)) ∈ lw_tbl := lw_at lw_m4 204 rfl
theorem q1020 : (Jvm.Cond.code ({ cls := "java/util/ImmutableCollections$ListN", name := "get", desc := "(I)Ljava/lang/Object;" } : Jvm.MethodName) prog_60_method_4_code (2 : Nat) (Option.some (Jvm.ClassFile.FieldType.object "java/lang/Object"))) ∈ lw_all := lw_g (lw_at lw_m4 205 rfl) rfl
theorem q2707 : (Jvm.Cond.castable "java/util/ImmutableCollections$ListN" "java/lang/Object") ∈ lw_tbl := lw_at lw_m11 212 rfl
theorem in_J13 : ∀ w ∈ wsJ130, w ∈ lw_all := lw_in wsJ130 [520, 522] (by decide +kernel) (by decide +kernel)

/-! java/lang/AbstractStringBuilder -/
set_option maxRecDepth 100000
def RJ14 : String := "java/lang/AbstractStringBuilder"
abbrev cJ14_init : ByteArray := prog_18_method_2_code
def yJ14_init : MethodName := ⟨RJ14, "<init>", "(I)V"⟩
def dkwJ14_init_1 : List UInt8 := [167, 0, 16, 42, 27, 184, 0, 26, 181, 0, 15, 42, 4, 181, 0, 22, 177]
abbrev dktJ14_init_1 : List UInt8 := dkwJ14_init_1 ++ []
def dkwJ14_init_0 : List UInt8 := [42, 183, 0, 3, 178, 0, 18, 153, 0, 18, 42, 27, 188, 8, 181, 0, 15, 42, 3, 181, 0, 22]
abbrev dktJ14_init_0 : List UInt8 := dkwJ14_init_0 ++ dktJ14_init_1
theorem dksJ14_init_0 : cJ14_init.data.toList.drop 0 = dktJ14_init_0 := by decide +kernel
theorem dksJ14_init_1 : cJ14_init.data.toList.drop 22 = dktJ14_init_1 := dk_seg dksJ14_init_0 22 rfl rfl
theorem dJ14_init_0 : decode cJ14_init 0 = .ok (.aload_n 0, 1) := dk_42 (dk_at dksJ14_init_0 0 rfl rfl)
theorem dJ14_init_1 : decode cJ14_init 1 = .ok (.invokespecial 3, 3) := dk_183 0 3 (dk_at dksJ14_init_0 1 rfl rfl)
theorem dJ14_init_4 : decode cJ14_init 4 = .ok (.getstatic 18, 3) := dk_178 0 18 (dk_at dksJ14_init_0 4 rfl rfl)
theorem dJ14_init_7 : decode cJ14_init 7 = .ok (.ifCond .eq 18, 3) := dk_153 0 18 (dk_at dksJ14_init_0 7 rfl rfl)
theorem dJ14_init_10 : decode cJ14_init 10 = .ok (.aload_n 0, 1) := dk_42 (dk_at dksJ14_init_0 10 rfl rfl)
theorem dJ14_init_11 : decode cJ14_init 11 = .ok (.iload_n 1, 1) := dk_27 (dk_at dksJ14_init_0 11 rfl rfl)
theorem dJ14_init_12 : decode cJ14_init 12 = .ok (.newarray .byte, 2) := dk_188_8 (dk_at dksJ14_init_0 12 rfl rfl)
theorem dJ14_init_14 : decode cJ14_init 14 = .ok (.putfield 15, 3) := dk_181 0 15 (dk_at dksJ14_init_0 14 rfl rfl)
theorem dJ14_init_17 : decode cJ14_init 17 = .ok (.aload_n 0, 1) := dk_42 (dk_at dksJ14_init_0 17 rfl rfl)
theorem dJ14_init_18 : decode cJ14_init 18 = .ok (.iconst 0, 1) := dk_3 (dk_at dksJ14_init_0 18 rfl rfl)
theorem dJ14_init_19 : decode cJ14_init 19 = .ok (.putfield 22, 3) := dk_181 0 22 (dk_at dksJ14_init_0 19 rfl rfl)
theorem dJ14_init_22 : decode cJ14_init 22 = .ok (.goto 16, 3) := dk_167 0 16 (dk_at dksJ14_init_1 0 rfl rfl)
theorem dJ14_init_25 : decode cJ14_init 25 = .ok (.aload_n 0, 1) := dk_42 (dk_at dksJ14_init_1 3 rfl rfl)
theorem dJ14_init_26 : decode cJ14_init 26 = .ok (.iload_n 1, 1) := dk_27 (dk_at dksJ14_init_1 4 rfl rfl)
theorem dJ14_init_27 : decode cJ14_init 27 = .ok (.invokestatic 26, 3) := dk_184 0 26 (dk_at dksJ14_init_1 5 rfl rfl)
theorem dJ14_init_30 : decode cJ14_init 30 = .ok (.putfield 15, 3) := dk_181 0 15 (dk_at dksJ14_init_1 8 rfl rfl)
theorem dJ14_init_33 : decode cJ14_init 33 = .ok (.aload_n 0, 1) := dk_42 (dk_at dksJ14_init_1 11 rfl rfl)
theorem dJ14_init_34 : decode cJ14_init 34 = .ok (.iconst 1, 1) := dk_4 (dk_at dksJ14_init_1 12 rfl rfl)
theorem dJ14_init_35 : decode cJ14_init 35 = .ok (.putfield 22, 3) := dk_181 0 22 (dk_at dksJ14_init_1 13 rfl rfl)
theorem dJ14_init_38 : decode cJ14_init 38 = .ok (.return_, 1) := dk_177 (dk_at dksJ14_init_1 16 rfl rfl)
abbrev cJ14_append : ByteArray := prog_18_method_31_code
def yJ14_append : MethodName := ⟨RJ14, "append", "(C)Ljava/lang/AbstractStringBuilder;"⟩
def dkwJ14_append_3 : List UInt8 := [181, 0, 79, 27, 184, 0, 197, 42, 176]
abbrev dktJ14_append_3 : List UInt8 := dkwJ14_append_3 ++ []
def dkwJ14_append_2 : List UInt8 := [182, 0, 83, 153, 0, 7, 42, 182, 0, 195, 42, 180, 0, 15, 42, 89, 180, 0, 79, 90, 4, 96]
abbrev dktJ14_append_2 : List UInt8 := dkwJ14_append_2 ++ dktJ14_append_3
def dkwJ14_append_1 : List UInt8 := [42, 180, 0, 15, 42, 89, 180, 0, 79, 90, 4, 96, 181, 0, 79, 27, 145, 84, 167, 0, 33, 42]
abbrev dktJ14_append_1 : List UInt8 := dkwJ14_append_1 ++ dktJ14_append_2
def dkwJ14_append_0 : List UInt8 := [42, 42, 180, 0, 79, 4, 96, 182, 0, 100, 42, 182, 0, 83, 153, 0, 31, 27, 184, 0, 191, 153, 0, 24]
abbrev dktJ14_append_0 : List UInt8 := dkwJ14_append_0 ++ dktJ14_append_1
theorem dksJ14_append_0 : cJ14_append.data.toList.drop 0 = dktJ14_append_0 := by decide +kernel
theorem dksJ14_append_1 : cJ14_append.data.toList.drop 24 = dktJ14_append_1 := dk_seg dksJ14_append_0 24 rfl rfl
theorem dksJ14_append_2 : cJ14_append.data.toList.drop 46 = dktJ14_append_2 := dk_seg dksJ14_append_1 22 rfl rfl
theorem dksJ14_append_3 : cJ14_append.data.toList.drop 68 = dktJ14_append_3 := dk_seg dksJ14_append_2 22 rfl rfl
theorem dJ14_append_0 : decode cJ14_append 0 = .ok (.aload_n 0, 1) := dk_42 (dk_at dksJ14_append_0 0 rfl rfl)
theorem dJ14_append_1 : decode cJ14_append 1 = .ok (.aload_n 0, 1) := dk_42 (dk_at dksJ14_append_0 1 rfl rfl)
theorem dJ14_append_2 : decode cJ14_append 2 = .ok (.getfield 79, 3) := dk_180 0 79 (dk_at dksJ14_append_0 2 rfl rfl)
theorem dJ14_append_5 : decode cJ14_append 5 = .ok (.iconst 1, 1) := dk_4 (dk_at dksJ14_append_0 5 rfl rfl)
theorem dJ14_append_6 : decode cJ14_append 6 = .ok (.iadd, 1) := dk_96 (dk_at dksJ14_append_0 6 rfl rfl)
theorem dJ14_append_7 : decode cJ14_append 7 = .ok (.invokevirtual 100, 3) := dk_182 0 100 (dk_at dksJ14_append_0 7 rfl rfl)
theorem dJ14_append_10 : decode cJ14_append 10 = .ok (.aload_n 0, 1) := dk_42 (dk_at dksJ14_append_0 10 rfl rfl)
theorem dJ14_append_11 : decode cJ14_append 11 = .ok (.invokevirtual 83, 3) := dk_182 0 83 (dk_at dksJ14_append_0 11 rfl rfl)
theorem dJ14_append_14 : decode cJ14_append 14 = .ok (.ifCond .eq 31, 3) := dk_153 0 31 (dk_at dksJ14_append_0 14 rfl rfl)
theorem dJ14_append_17 : decode cJ14_append 17 = .ok (.iload_n 1, 1) := dk_27 (dk_at dksJ14_append_0 17 rfl rfl)
theorem dJ14_append_18 : decode cJ14_append 18 = .ok (.invokestatic 191, 3) := dk_184 0 191 (dk_at dksJ14_append_0 18 rfl rfl)
theorem dJ14_append_21 : decode cJ14_append 21 = .ok (.ifCond .eq 24, 3) := dk_153 0 24 (dk_at dksJ14_append_0 21 rfl rfl)
theorem dJ14_append_24 : decode cJ14_append 24 = .ok (.aload_n 0, 1) := dk_42 (dk_at dksJ14_append_1 0 rfl rfl)
theorem dJ14_append_25 : decode cJ14_append 25 = .ok (.getfield 15, 3) := dk_180 0 15 (dk_at dksJ14_append_1 1 rfl rfl)
theorem dJ14_append_28 : decode cJ14_append 28 = .ok (.aload_n 0, 1) := dk_42 (dk_at dksJ14_append_1 4 rfl rfl)
theorem dJ14_append_29 : decode cJ14_append 29 = .ok (.dup, 1) := dk_89 (dk_at dksJ14_append_1 5 rfl rfl)
theorem dJ14_append_30 : decode cJ14_append 30 = .ok (.getfield 79, 3) := dk_180 0 79 (dk_at dksJ14_append_1 6 rfl rfl)
theorem dJ14_append_33 : decode cJ14_append 33 = .ok (.dup_x1, 1) := dk_90 (dk_at dksJ14_append_1 9 rfl rfl)
theorem dJ14_append_34 : decode cJ14_append 34 = .ok (.iconst 1, 1) := dk_4 (dk_at dksJ14_append_1 10 rfl rfl)
theorem dJ14_append_35 : decode cJ14_append 35 = .ok (.iadd, 1) := dk_96 (dk_at dksJ14_append_1 11 rfl rfl)
theorem dJ14_append_36 : decode cJ14_append 36 = .ok (.putfield 79, 3) := dk_181 0 79 (dk_at dksJ14_append_1 12 rfl rfl)
theorem dJ14_append_39 : decode cJ14_append 39 = .ok (.iload_n 1, 1) := dk_27 (dk_at dksJ14_append_1 15 rfl rfl)
theorem dJ14_append_40 : decode cJ14_append 40 = .ok (.i2b, 1) := dk_145 (dk_at dksJ14_append_1 16 rfl rfl)
theorem dJ14_append_41 : decode cJ14_append 41 = .ok (.bastore, 1) := dk_84 (dk_at dksJ14_append_1 17 rfl rfl)
theorem dJ14_append_42 : decode cJ14_append 42 = .ok (.goto 33, 3) := dk_167 0 33 (dk_at dksJ14_append_1 18 rfl rfl)
theorem dJ14_append_45 : decode cJ14_append 45 = .ok (.aload_n 0, 1) := dk_42 (dk_at dksJ14_append_1 21 rfl rfl)
theorem dJ14_append_46 : decode cJ14_append 46 = .ok (.invokevirtual 83, 3) := dk_182 0 83 (dk_at dksJ14_append_2 0 rfl rfl)
theorem dJ14_append_49 : decode cJ14_append 49 = .ok (.ifCond .eq 7, 3) := dk_153 0 7 (dk_at dksJ14_append_2 3 rfl rfl)
theorem dJ14_append_52 : decode cJ14_append 52 = .ok (.aload_n 0, 1) := dk_42 (dk_at dksJ14_append_2 6 rfl rfl)
theorem dJ14_append_53 : decode cJ14_append 53 = .ok (.invokevirtual 195, 3) := dk_182 0 195 (dk_at dksJ14_append_2 7 rfl rfl)
theorem dJ14_append_56 : decode cJ14_append 56 = .ok (.aload_n 0, 1) := dk_42 (dk_at dksJ14_append_2 10 rfl rfl)
theorem dJ14_append_57 : decode cJ14_append 57 = .ok (.getfield 15, 3) := dk_180 0 15 (dk_at dksJ14_append_2 11 rfl rfl)
theorem dJ14_append_60 : decode cJ14_append 60 = .ok (.aload_n 0, 1) := dk_42 (dk_at dksJ14_append_2 14 rfl rfl)
theorem dJ14_append_61 : decode cJ14_append 61 = .ok (.dup, 1) := dk_89 (dk_at dksJ14_append_2 15 rfl rfl)
theorem dJ14_append_62 : decode cJ14_append 62 = .ok (.getfield 79, 3) := dk_180 0 79 (dk_at dksJ14_append_2 16 rfl rfl)
theorem dJ14_append_65 : decode cJ14_append 65 = .ok (.dup_x1, 1) := dk_90 (dk_at dksJ14_append_2 19 rfl rfl)
theorem dJ14_append_66 : decode cJ14_append 66 = .ok (.iconst 1, 1) := dk_4 (dk_at dksJ14_append_2 20 rfl rfl)
theorem dJ14_append_67 : decode cJ14_append 67 = .ok (.iadd, 1) := dk_96 (dk_at dksJ14_append_2 21 rfl rfl)
theorem dJ14_append_68 : decode cJ14_append 68 = .ok (.putfield 79, 3) := dk_181 0 79 (dk_at dksJ14_append_3 0 rfl rfl)
theorem dJ14_append_71 : decode cJ14_append 71 = .ok (.iload_n 1, 1) := dk_27 (dk_at dksJ14_append_3 3 rfl rfl)
theorem dJ14_append_72 : decode cJ14_append 72 = .ok (.invokestatic 197, 3) := dk_184 0 197 (dk_at dksJ14_append_3 4 rfl rfl)
theorem dJ14_append_75 : decode cJ14_append 75 = .ok (.aload_n 0, 1) := dk_42 (dk_at dksJ14_append_3 7 rfl rfl)
theorem dJ14_append_76 : decode cJ14_append 76 = .ok (.areturn, 1) := dk_176 (dk_at dksJ14_append_3 8 rfl rfl)
abbrev cJ14_ensureCapacityInternal : ByteArray := prog_18_method_9_code
def yJ14_ensureCapacityInternal : MethodName := ⟨RJ14, "ensureCapacityInternal", "(I)V"⟩
def dkwJ14_ensureCapacityInternal_1 : List UInt8 := [182, 0, 104, 42, 180, 0, 22, 120, 184, 0, 108, 181, 0, 15, 177]
abbrev dktJ14_ensureCapacityInternal_1 : List UInt8 := dkwJ14_ensureCapacityInternal_1 ++ []
def dkwJ14_ensureCapacityInternal_0 : List UInt8 := [42, 180, 0, 15, 190, 42, 180, 0, 22, 122, 61, 27, 28, 100, 158, 0, 24, 42, 42, 180, 0, 15, 42, 27]
abbrev dktJ14_ensureCapacityInternal_0 : List UInt8 := dkwJ14_ensureCapacityInternal_0 ++ dktJ14_ensureCapacityInternal_1
theorem dksJ14_ensureCapacityInternal_0 : cJ14_ensureCapacityInternal.data.toList.drop 0 = dktJ14_ensureCapacityInternal_0 := by decide +kernel
theorem dksJ14_ensureCapacityInternal_1 : cJ14_ensureCapacityInternal.data.toList.drop 24 = dktJ14_ensureCapacityInternal_1 := dk_seg dksJ14_ensureCapacityInternal_0 24 rfl rfl
theorem dJ14_ensureCapacityInternal_0 : decode cJ14_ensureCapacityInternal 0 = .ok (.aload_n 0, 1) := dk_42 (dk_at dksJ14_ensureCapacityInternal_0 0 rfl rfl)
theorem dJ14_ensureCapacityInternal_1 : decode cJ14_ensureCapacityInternal 1 = .ok (.getfield 15, 3) := dk_180 0 15 (dk_at dksJ14_ensureCapacityInternal_0 1 rfl rfl)
theorem dJ14_ensureCapacityInternal_4 : decode cJ14_ensureCapacityInternal 4 = .ok (.arraylength, 1) := dk_190 (dk_at dksJ14_ensureCapacityInternal_0 4 rfl rfl)
theorem dJ14_ensureCapacityInternal_5 : decode cJ14_ensureCapacityInternal 5 = .ok (.aload_n 0, 1) := dk_42 (dk_at dksJ14_ensureCapacityInternal_0 5 rfl rfl)
theorem dJ14_ensureCapacityInternal_6 : decode cJ14_ensureCapacityInternal 6 = .ok (.getfield 22, 3) := dk_180 0 22 (dk_at dksJ14_ensureCapacityInternal_0 6 rfl rfl)
theorem dJ14_ensureCapacityInternal_9 : decode cJ14_ensureCapacityInternal 9 = .ok (.ishr, 1) := dk_122 (dk_at dksJ14_ensureCapacityInternal_0 9 rfl rfl)
theorem dJ14_ensureCapacityInternal_10 : decode cJ14_ensureCapacityInternal 10 = .ok (.istore_n 2, 1) := dk_61 (dk_at dksJ14_ensureCapacityInternal_0 10 rfl rfl)
theorem dJ14_ensureCapacityInternal_11 : decode cJ14_ensureCapacityInternal 11 = .ok (.iload_n 1, 1) := dk_27 (dk_at dksJ14_ensureCapacityInternal_0 11 rfl rfl)
theorem dJ14_ensureCapacityInternal_12 : decode cJ14_ensureCapacityInternal 12 = .ok (.iload_n 2, 1) := dk_28 (dk_at dksJ14_ensureCapacityInternal_0 12 rfl rfl)
theorem dJ14_ensureCapacityInternal_13 : decode cJ14_ensureCapacityInternal 13 = .ok (.isub, 1) := dk_100 (dk_at dksJ14_ensureCapacityInternal_0 13 rfl rfl)
theorem dJ14_ensureCapacityInternal_14 : decode cJ14_ensureCapacityInternal 14 = .ok (.ifCond .le 24, 3) := dk_158 0 24 (dk_at dksJ14_ensureCapacityInternal_0 14 rfl rfl)
theorem dJ14_ensureCapacityInternal_17 : decode cJ14_ensureCapacityInternal 17 = .ok (.aload_n 0, 1) := dk_42 (dk_at dksJ14_ensureCapacityInternal_0 17 rfl rfl)
theorem dJ14_ensureCapacityInternal_18 : decode cJ14_ensureCapacityInternal 18 = .ok (.aload_n 0, 1) := dk_42 (dk_at dksJ14_ensureCapacityInternal_0 18 rfl rfl)
theorem dJ14_ensureCapacityInternal_19 : decode cJ14_ensureCapacityInternal 19 = .ok (.getfield 15, 3) := dk_180 0 15 (dk_at dksJ14_ensureCapacityInternal_0 19 rfl rfl)
theorem dJ14_ensureCapacityInternal_22 : decode cJ14_ensureCapacityInternal 22 = .ok (.aload_n 0, 1) := dk_42 (dk_at dksJ14_ensureCapacityInternal_0 22 rfl rfl)
theorem dJ14_ensureCapacityInternal_23 : decode cJ14_ensureCapacityInternal 23 = .ok (.iload_n 1, 1) := dk_27 (dk_at dksJ14_ensureCapacityInternal_0 23 rfl rfl)
theorem dJ14_ensureCapacityInternal_24 : decode cJ14_ensureCapacityInternal 24 = .ok (.invokevirtual 104, 3) := dk_182 0 104 (dk_at dksJ14_ensureCapacityInternal_1 0 rfl rfl)
theorem dJ14_ensureCapacityInternal_27 : decode cJ14_ensureCapacityInternal 27 = .ok (.aload_n 0, 1) := dk_42 (dk_at dksJ14_ensureCapacityInternal_1 3 rfl rfl)
theorem dJ14_ensureCapacityInternal_28 : decode cJ14_ensureCapacityInternal 28 = .ok (.getfield 22, 3) := dk_180 0 22 (dk_at dksJ14_ensureCapacityInternal_1 4 rfl rfl)
theorem dJ14_ensureCapacityInternal_31 : decode cJ14_ensureCapacityInternal 31 = .ok (.ishl, 1) := dk_120 (dk_at dksJ14_ensureCapacityInternal_1 7 rfl rfl)
theorem dJ14_ensureCapacityInternal_32 : decode cJ14_ensureCapacityInternal 32 = .ok (.invokestatic 108, 3) := dk_184 0 108 (dk_at dksJ14_ensureCapacityInternal_1 8 rfl rfl)
theorem dJ14_ensureCapacityInternal_35 : decode cJ14_ensureCapacityInternal 35 = .ok (.putfield 15, 3) := dk_181 0 15 (dk_at dksJ14_ensureCapacityInternal_1 11 rfl rfl)
theorem dJ14_ensureCapacityInternal_38 : decode cJ14_ensureCapacityInternal 38 = .ok (.return_, 1) := dk_177 (dk_at dksJ14_ensureCapacityInternal_1 14 rfl rfl)
abbrev cJ14_newCapacity : ByteArray := prog_18_method_10_code
def yJ14_newCapacity : MethodName := ⟨RJ14, "newCapacity", "(I)I"⟩
def dkwJ14_newCapacity_2 : List UInt8 := [183, 0, 124, 191, 21, 5, 42, 180, 0, 22, 122, 172]
abbrev dktJ14_newCapacity_2 : List UInt8 := dkwJ14_newCapacity_2 ++ []
def dkwJ14_newCapacity_1 : List UInt8 := [180, 0, 22, 120, 96, 184, 0, 114, 54, 5, 21, 5, 18, 39, 160, 0, 13, 187, 0, 120, 89, 18, 122]
abbrev dktJ14_newCapacity_1 : List UInt8 := dkwJ14_newCapacity_1 ++ dktJ14_newCapacity_2
def dkwJ14_newCapacity_0 : List UInt8 := [42, 180, 0, 15, 190, 61, 27, 42, 180, 0, 22, 120, 62, 29, 28, 100, 54, 4, 28, 21, 4, 28, 5, 42]
abbrev dktJ14_newCapacity_0 : List UInt8 := dkwJ14_newCapacity_0 ++ dktJ14_newCapacity_1
theorem dksJ14_newCapacity_0 : cJ14_newCapacity.data.toList.drop 0 = dktJ14_newCapacity_0 := by decide +kernel
theorem dksJ14_newCapacity_1 : cJ14_newCapacity.data.toList.drop 24 = dktJ14_newCapacity_1 := dk_seg dksJ14_newCapacity_0 24 rfl rfl
theorem dksJ14_newCapacity_2 : cJ14_newCapacity.data.toList.drop 47 = dktJ14_newCapacity_2 := dk_seg dksJ14_newCapacity_1 23 rfl rfl
theorem dJ14_newCapacity_0 : decode cJ14_newCapacity 0 = .ok (.aload_n 0, 1) := dk_42 (dk_at dksJ14_newCapacity_0 0 rfl rfl)
theorem dJ14_newCapacity_1 : decode cJ14_newCapacity 1 = .ok (.getfield 15, 3) := dk_180 0 15 (dk_at dksJ14_newCapacity_0 1 rfl rfl)
theorem dJ14_newCapacity_4 : decode cJ14_newCapacity 4 = .ok (.arraylength, 1) := dk_190 (dk_at dksJ14_newCapacity_0 4 rfl rfl)
theorem dJ14_newCapacity_5 : decode cJ14_newCapacity 5 = .ok (.istore_n 2, 1) := dk_61 (dk_at dksJ14_newCapacity_0 5 rfl rfl)
theorem dJ14_newCapacity_6 : decode cJ14_newCapacity 6 = .ok (.iload_n 1, 1) := dk_27 (dk_at dksJ14_newCapacity_0 6 rfl rfl)
theorem dJ14_newCapacity_7 : decode cJ14_newCapacity 7 = .ok (.aload_n 0, 1) := dk_42 (dk_at dksJ14_newCapacity_0 7 rfl rfl)
theorem dJ14_newCapacity_8 : decode cJ14_newCapacity 8 = .ok (.getfield 22, 3) := dk_180 0 22 (dk_at dksJ14_newCapacity_0 8 rfl rfl)
theorem dJ14_newCapacity_11 : decode cJ14_newCapacity 11 = .ok (.ishl, 1) := dk_120 (dk_at dksJ14_newCapacity_0 11 rfl rfl)
theorem dJ14_newCapacity_12 : decode cJ14_newCapacity 12 = .ok (.istore_n 3, 1) := dk_62 (dk_at dksJ14_newCapacity_0 12 rfl rfl)
theorem dJ14_newCapacity_13 : decode cJ14_newCapacity 13 = .ok (.iload_n 3, 1) := dk_29 (dk_at dksJ14_newCapacity_0 13 rfl rfl)
theorem dJ14_newCapacity_14 : decode cJ14_newCapacity 14 = .ok (.iload_n 2, 1) := dk_28 (dk_at dksJ14_newCapacity_0 14 rfl rfl)
theorem dJ14_newCapacity_15 : decode cJ14_newCapacity 15 = .ok (.isub, 1) := dk_100 (dk_at dksJ14_newCapacity_0 15 rfl rfl)
theorem dJ14_newCapacity_16 : decode cJ14_newCapacity 16 = .ok (.istore 4, 2) := dk_54 4 (dk_at dksJ14_newCapacity_0 16 rfl rfl)
theorem dJ14_newCapacity_18 : decode cJ14_newCapacity 18 = .ok (.iload_n 2, 1) := dk_28 (dk_at dksJ14_newCapacity_0 18 rfl rfl)
theorem dJ14_newCapacity_19 : decode cJ14_newCapacity 19 = .ok (.iload 4, 2) := dk_21 4 (dk_at dksJ14_newCapacity_0 19 rfl rfl)
theorem dJ14_newCapacity_21 : decode cJ14_newCapacity 21 = .ok (.iload_n 2, 1) := dk_28 (dk_at dksJ14_newCapacity_0 21 rfl rfl)
theorem dJ14_newCapacity_22 : decode cJ14_newCapacity 22 = .ok (.iconst 2, 1) := dk_5 (dk_at dksJ14_newCapacity_0 22 rfl rfl)
theorem dJ14_newCapacity_23 : decode cJ14_newCapacity 23 = .ok (.aload_n 0, 1) := dk_42 (dk_at dksJ14_newCapacity_0 23 rfl rfl)
theorem dJ14_newCapacity_24 : decode cJ14_newCapacity 24 = .ok (.getfield 22, 3) := dk_180 0 22 (dk_at dksJ14_newCapacity_1 0 rfl rfl)
theorem dJ14_newCapacity_27 : decode cJ14_newCapacity 27 = .ok (.ishl, 1) := dk_120 (dk_at dksJ14_newCapacity_1 3 rfl rfl)
theorem dJ14_newCapacity_28 : decode cJ14_newCapacity 28 = .ok (.iadd, 1) := dk_96 (dk_at dksJ14_newCapacity_1 4 rfl rfl)
theorem dJ14_newCapacity_29 : decode cJ14_newCapacity 29 = .ok (.invokestatic 114, 3) := dk_184 0 114 (dk_at dksJ14_newCapacity_1 5 rfl rfl)
theorem dJ14_newCapacity_32 : decode cJ14_newCapacity 32 = .ok (.istore 5, 2) := dk_54 5 (dk_at dksJ14_newCapacity_1 8 rfl rfl)
theorem dJ14_newCapacity_34 : decode cJ14_newCapacity 34 = .ok (.iload 5, 2) := dk_21 5 (dk_at dksJ14_newCapacity_1 10 rfl rfl)
theorem dJ14_newCapacity_36 : decode cJ14_newCapacity 36 = .ok (.ldc 39, 2) := dk_18 39 (dk_at dksJ14_newCapacity_1 12 rfl rfl)
theorem dJ14_newCapacity_38 : decode cJ14_newCapacity 38 = .ok (.if_icmp .ne 13, 3) := dk_160 0 13 (dk_at dksJ14_newCapacity_1 14 rfl rfl)
theorem dJ14_newCapacity_41 : decode cJ14_newCapacity 41 = .ok (.new 120, 3) := dk_187 0 120 (dk_at dksJ14_newCapacity_1 17 rfl rfl)
theorem dJ14_newCapacity_44 : decode cJ14_newCapacity 44 = .ok (.dup, 1) := dk_89 (dk_at dksJ14_newCapacity_1 20 rfl rfl)
theorem dJ14_newCapacity_45 : decode cJ14_newCapacity 45 = .ok (.ldc 122, 2) := dk_18 122 (dk_at dksJ14_newCapacity_1 21 rfl rfl)
theorem dJ14_newCapacity_47 : decode cJ14_newCapacity 47 = .ok (.invokespecial 124, 3) := dk_183 0 124 (dk_at dksJ14_newCapacity_2 0 rfl rfl)
theorem dJ14_newCapacity_50 : decode cJ14_newCapacity 50 = .ok (.athrow, 1) := dk_191 (dk_at dksJ14_newCapacity_2 3 rfl rfl)
theorem dJ14_newCapacity_51 : decode cJ14_newCapacity 51 = .ok (.iload 5, 2) := dk_21 5 (dk_at dksJ14_newCapacity_2 4 rfl rfl)
theorem dJ14_newCapacity_53 : decode cJ14_newCapacity 53 = .ok (.aload_n 0, 1) := dk_42 (dk_at dksJ14_newCapacity_2 6 rfl rfl)
theorem dJ14_newCapacity_54 : decode cJ14_newCapacity 54 = .ok (.getfield 22, 3) := dk_180 0 22 (dk_at dksJ14_newCapacity_2 7 rfl rfl)
theorem dJ14_newCapacity_57 : decode cJ14_newCapacity 57 = .ok (.ishr, 1) := dk_122 (dk_at dksJ14_newCapacity_2 10 rfl rfl)
theorem dJ14_newCapacity_58 : decode cJ14_newCapacity 58 = .ok (.ireturn, 1) := dk_172 (dk_at dksJ14_newCapacity_2 11 rfl rfl)
abbrev cJ14_isLatin1 : ByteArray := prog_18_method_68_code
def yJ14_isLatin1 : MethodName := ⟨RJ14, "isLatin1", "()Z"⟩
def dkwJ14_isLatin1_0 : List UInt8 := [178, 0, 18, 153, 0, 14, 42, 180, 0, 22, 154, 0, 7, 4, 167, 0, 4, 3, 172]
abbrev dktJ14_isLatin1_0 : List UInt8 := dkwJ14_isLatin1_0 ++ []
theorem dksJ14_isLatin1_0 : cJ14_isLatin1.data.toList.drop 0 = dktJ14_isLatin1_0 := by decide +kernel
theorem dJ14_isLatin1_0 : decode cJ14_isLatin1 0 = .ok (.getstatic 18, 3) := dk_178 0 18 (dk_at dksJ14_isLatin1_0 0 rfl rfl)
theorem dJ14_isLatin1_3 : decode cJ14_isLatin1 3 = .ok (.ifCond .eq 14, 3) := dk_153 0 14 (dk_at dksJ14_isLatin1_0 3 rfl rfl)
theorem dJ14_isLatin1_6 : decode cJ14_isLatin1 6 = .ok (.aload_n 0, 1) := dk_42 (dk_at dksJ14_isLatin1_0 6 rfl rfl)
theorem dJ14_isLatin1_7 : decode cJ14_isLatin1 7 = .ok (.getfield 22, 3) := dk_180 0 22 (dk_at dksJ14_isLatin1_0 7 rfl rfl)
theorem dJ14_isLatin1_10 : decode cJ14_isLatin1 10 = .ok (.ifCond .ne 7, 3) := dk_154 0 7 (dk_at dksJ14_isLatin1_0 10 rfl rfl)
theorem dJ14_isLatin1_13 : decode cJ14_isLatin1 13 = .ok (.iconst 1, 1) := dk_4 (dk_at dksJ14_isLatin1_0 13 rfl rfl)
theorem dJ14_isLatin1_14 : decode cJ14_isLatin1 14 = .ok (.goto 4, 3) := dk_167 0 4 (dk_at dksJ14_isLatin1_0 14 rfl rfl)
theorem dJ14_isLatin1_17 : decode cJ14_isLatin1 17 = .ok (.iconst 0, 1) := dk_3 (dk_at dksJ14_isLatin1_0 17 rfl rfl)
theorem dJ14_isLatin1_18 : decode cJ14_isLatin1 18 = .ok (.ireturn, 1) := dk_172 (dk_at dksJ14_isLatin1_0 18 rfl rfl)
abbrev cJ14_inflate : ByteArray := prog_18_method_11_code
def yJ14_inflate : MethodName := ⟨RJ14, "inflate", "()V"⟩
def dkwJ14_inflate_1 : List UInt8 := [42, 180, 0, 79, 184, 0, 125, 42, 43, 181, 0, 15, 42, 4, 181, 0, 22, 177]
abbrev dktJ14_inflate_1 : List UInt8 := dkwJ14_inflate_1 ++ []
def dkwJ14_inflate_0 : List UInt8 := [42, 182, 0, 83, 154, 0, 4, 177, 42, 180, 0, 15, 190, 184, 0, 26, 76, 42, 180, 0, 15, 3, 43, 3]
abbrev dktJ14_inflate_0 : List UInt8 := dkwJ14_inflate_0 ++ dktJ14_inflate_1
theorem dksJ14_inflate_0 : cJ14_inflate.data.toList.drop 0 = dktJ14_inflate_0 := by decide +kernel
theorem dksJ14_inflate_1 : cJ14_inflate.data.toList.drop 24 = dktJ14_inflate_1 := dk_seg dksJ14_inflate_0 24 rfl rfl
theorem dJ14_inflate_0 : decode cJ14_inflate 0 = .ok (.aload_n 0, 1) := dk_42 (dk_at dksJ14_inflate_0 0 rfl rfl)
theorem dJ14_inflate_1 : decode cJ14_inflate 1 = .ok (.invokevirtual 83, 3) := dk_182 0 83 (dk_at dksJ14_inflate_0 1 rfl rfl)
theorem dJ14_inflate_4 : decode cJ14_inflate 4 = .ok (.ifCond .ne 4, 3) := dk_154 0 4 (dk_at dksJ14_inflate_0 4 rfl rfl)
theorem dJ14_inflate_7 : decode cJ14_inflate 7 = .ok (.return_, 1) := dk_177 (dk_at dksJ14_inflate_0 7 rfl rfl)
theorem dJ14_inflate_8 : decode cJ14_inflate 8 = .ok (.aload_n 0, 1) := dk_42 (dk_at dksJ14_inflate_0 8 rfl rfl)
theorem dJ14_inflate_9 : decode cJ14_inflate 9 = .ok (.getfield 15, 3) := dk_180 0 15 (dk_at dksJ14_inflate_0 9 rfl rfl)
theorem dJ14_inflate_12 : decode cJ14_inflate 12 = .ok (.arraylength, 1) := dk_190 (dk_at dksJ14_inflate_0 12 rfl rfl)
theorem dJ14_inflate_13 : decode cJ14_inflate 13 = .ok (.invokestatic 26, 3) := dk_184 0 26 (dk_at dksJ14_inflate_0 13 rfl rfl)
theorem dJ14_inflate_16 : decode cJ14_inflate 16 = .ok (.astore_n 1, 1) := dk_76 (dk_at dksJ14_inflate_0 16 rfl rfl)
theorem dJ14_inflate_17 : decode cJ14_inflate 17 = .ok (.aload_n 0, 1) := dk_42 (dk_at dksJ14_inflate_0 17 rfl rfl)
theorem dJ14_inflate_18 : decode cJ14_inflate 18 = .ok (.getfield 15, 3) := dk_180 0 15 (dk_at dksJ14_inflate_0 18 rfl rfl)
theorem dJ14_inflate_21 : decode cJ14_inflate 21 = .ok (.iconst 0, 1) := dk_3 (dk_at dksJ14_inflate_0 21 rfl rfl)
theorem dJ14_inflate_22 : decode cJ14_inflate 22 = .ok (.aload_n 1, 1) := dk_43 (dk_at dksJ14_inflate_0 22 rfl rfl)
theorem dJ14_inflate_23 : decode cJ14_inflate 23 = .ok (.iconst 0, 1) := dk_3 (dk_at dksJ14_inflate_0 23 rfl rfl)
theorem dJ14_inflate_24 : decode cJ14_inflate 24 = .ok (.aload_n 0, 1) := dk_42 (dk_at dksJ14_inflate_1 0 rfl rfl)
theorem dJ14_inflate_25 : decode cJ14_inflate 25 = .ok (.getfield 79, 3) := dk_180 0 79 (dk_at dksJ14_inflate_1 1 rfl rfl)
theorem dJ14_inflate_28 : decode cJ14_inflate 28 = .ok (.invokestatic 125, 3) := dk_184 0 125 (dk_at dksJ14_inflate_1 4 rfl rfl)
theorem dJ14_inflate_31 : decode cJ14_inflate 31 = .ok (.aload_n 0, 1) := dk_42 (dk_at dksJ14_inflate_1 7 rfl rfl)
theorem dJ14_inflate_32 : decode cJ14_inflate 32 = .ok (.aload_n 1, 1) := dk_43 (dk_at dksJ14_inflate_1 8 rfl rfl)
theorem dJ14_inflate_33 : decode cJ14_inflate 33 = .ok (.putfield 15, 3) := dk_181 0 15 (dk_at dksJ14_inflate_1 9 rfl rfl)
theorem dJ14_inflate_36 : decode cJ14_inflate 36 = .ok (.aload_n 0, 1) := dk_42 (dk_at dksJ14_inflate_1 12 rfl rfl)
theorem dJ14_inflate_37 : decode cJ14_inflate 37 = .ok (.iconst 1, 1) := dk_4 (dk_at dksJ14_inflate_1 13 rfl rfl)
theorem dJ14_inflate_38 : decode cJ14_inflate 38 = .ok (.putfield 22, 3) := dk_181 0 22 (dk_at dksJ14_inflate_1 14 rfl rfl)
theorem dJ14_inflate_41 : decode cJ14_inflate 41 = .ok (.return_, 1) := dk_177 (dk_at dksJ14_inflate_1 17 rfl rfl)
abbrev cJ14_getValue : ByteArray := prog_18_method_64_code
def yJ14_getValue : MethodName := ⟨RJ14, "getValue", "()[B"⟩
theorem dJ14_getValue_0 : decode cJ14_getValue 0 = .ok (.aload_n 0, 1) := by decide +kernel
theorem dJ14_getValue_1 : decode cJ14_getValue 1 = .ok (.getfield 15, 3) := by decide +kernel
theorem dJ14_getValue_4 : decode cJ14_getValue 4 = .ok (.areturn, 1) := by decide +kernel
abbrev cJ14_length : ByteArray := prog_18_method_6_code
def yJ14_length : MethodName := ⟨RJ14, "length", "()I"⟩
theorem dJ14_length_0 : decode cJ14_length 0 = .ok (.aload_n 0, 1) := by decide +kernel
theorem dJ14_length_1 : decode cJ14_length 1 = .ok (.getfield 79, 3) := by decide +kernel
theorem dJ14_length_4 : decode cJ14_length 4 = .ok (.ireturn, 1) := by decide +kernel
abbrev cJ14_append_2 : ByteArray := prog_18_method_22_code
def yJ14_append_2 : MethodName := ⟨RJ14, "append", "(Ljava/lang/String;)Ljava/lang/AbstractStringBuilder;"⟩
def dkwJ14_append_2_1 : List UInt8 := [42, 42, 180, 0, 79, 43, 182, 0, 208, 42, 89, 180, 0, 79, 28, 96, 181, 0, 79, 42, 176]
abbrev dktJ14_append_2_1 : List UInt8 := dkwJ14_append_2_1 ++ []
def dkwJ14_append_2_0 : List UInt8 := [43, 199, 0, 8, 42, 182, 0, 204, 176, 43, 182, 0, 32, 61, 42, 42, 180, 0, 79, 28, 96, 182, 0, 100]
abbrev dktJ14_append_2_0 : List UInt8 := dkwJ14_append_2_0 ++ dktJ14_append_2_1
theorem dksJ14_append_2_0 : cJ14_append_2.data.toList.drop 0 = dktJ14_append_2_0 := by decide +kernel
theorem dksJ14_append_2_1 : cJ14_append_2.data.toList.drop 24 = dktJ14_append_2_1 := dk_seg dksJ14_append_2_0 24 rfl rfl
theorem dJ14_append_2_0 : decode cJ14_append_2 0 = .ok (.aload_n 1, 1) := dk_43 (dk_at dksJ14_append_2_0 0 rfl rfl)
theorem dJ14_append_2_1 : decode cJ14_append_2 1 = .ok (.ifnonnull 8, 3) := dk_199 0 8 (dk_at dksJ14_append_2_0 1 rfl rfl)
theorem dJ14_append_2_4 : decode cJ14_append_2 4 = .ok (.aload_n 0, 1) := dk_42 (dk_at dksJ14_append_2_0 4 rfl rfl)
theorem dJ14_append_2_5 : decode cJ14_append_2 5 = .ok (.invokevirtual 204, 3) := dk_182 0 204 (dk_at dksJ14_append_2_0 5 rfl rfl)
theorem dJ14_append_2_8 : decode cJ14_append_2 8 = .ok (.areturn, 1) := dk_176 (dk_at dksJ14_append_2_0 8 rfl rfl)
theorem dJ14_append_2_9 : decode cJ14_append_2 9 = .ok (.aload_n 1, 1) := dk_43 (dk_at dksJ14_append_2_0 9 rfl rfl)
theorem dJ14_append_2_10 : decode cJ14_append_2 10 = .ok (.invokevirtual 32, 3) := dk_182 0 32 (dk_at dksJ14_append_2_0 10 rfl rfl)
theorem dJ14_append_2_13 : decode cJ14_append_2 13 = .ok (.istore_n 2, 1) := dk_61 (dk_at dksJ14_append_2_0 13 rfl rfl)
theorem dJ14_append_2_14 : decode cJ14_append_2 14 = .ok (.aload_n 0, 1) := dk_42 (dk_at dksJ14_append_2_0 14 rfl rfl)
theorem dJ14_append_2_15 : decode cJ14_append_2 15 = .ok (.aload_n 0, 1) := dk_42 (dk_at dksJ14_append_2_0 15 rfl rfl)
theorem dJ14_append_2_16 : decode cJ14_append_2 16 = .ok (.getfield 79, 3) := dk_180 0 79 (dk_at dksJ14_append_2_0 16 rfl rfl)
theorem dJ14_append_2_19 : decode cJ14_append_2 19 = .ok (.iload_n 2, 1) := dk_28 (dk_at dksJ14_append_2_0 19 rfl rfl)
theorem dJ14_append_2_20 : decode cJ14_append_2 20 = .ok (.iadd, 1) := dk_96 (dk_at dksJ14_append_2_0 20 rfl rfl)
theorem dJ14_append_2_21 : decode cJ14_append_2 21 = .ok (.invokevirtual 100, 3) := dk_182 0 100 (dk_at dksJ14_append_2_0 21 rfl rfl)
theorem dJ14_append_2_24 : decode cJ14_append_2 24 = .ok (.aload_n 0, 1) := dk_42 (dk_at dksJ14_append_2_1 0 rfl rfl)
theorem dJ14_append_2_25 : decode cJ14_append_2 25 = .ok (.aload_n 0, 1) := dk_42 (dk_at dksJ14_append_2_1 1 rfl rfl)
theorem dJ14_append_2_26 : decode cJ14_append_2 26 = .ok (.getfield 79, 3) := dk_180 0 79 (dk_at dksJ14_append_2_1 2 rfl rfl)
theorem dJ14_append_2_29 : decode cJ14_append_2 29 = .ok (.aload_n 1, 1) := dk_43 (dk_at dksJ14_append_2_1 5 rfl rfl)
theorem dJ14_append_2_30 : decode cJ14_append_2 30 = .ok (.invokevirtual 208, 3) := dk_182 0 208 (dk_at dksJ14_append_2_1 6 rfl rfl)
theorem dJ14_append_2_33 : decode cJ14_append_2 33 = .ok (.aload_n 0, 1) := dk_42 (dk_at dksJ14_append_2_1 9 rfl rfl)
theorem dJ14_append_2_34 : decode cJ14_append_2 34 = .ok (.dup, 1) := dk_89 (dk_at dksJ14_append_2_1 10 rfl rfl)
theorem dJ14_append_2_35 : decode cJ14_append_2 35 = .ok (.getfield 79, 3) := dk_180 0 79 (dk_at dksJ14_append_2_1 11 rfl rfl)
theorem dJ14_append_2_38 : decode cJ14_append_2 38 = .ok (.iload_n 2, 1) := dk_28 (dk_at dksJ14_append_2_1 14 rfl rfl)
theorem dJ14_append_2_39 : decode cJ14_append_2 39 = .ok (.iadd, 1) := dk_96 (dk_at dksJ14_append_2_1 15 rfl rfl)
theorem dJ14_append_2_40 : decode cJ14_append_2 40 = .ok (.putfield 79, 3) := dk_181 0 79 (dk_at dksJ14_append_2_1 16 rfl rfl)
theorem dJ14_append_2_43 : decode cJ14_append_2 43 = .ok (.aload_n 0, 1) := dk_42 (dk_at dksJ14_append_2_1 19 rfl rfl)
theorem dJ14_append_2_44 : decode cJ14_append_2 44 = .ok (.areturn, 1) := dk_176 (dk_at dksJ14_append_2_1 20 rfl rfl)
abbrev cJ14_appendNull : ByteArray := prog_18_method_26_code
def yJ14_appendNull : MethodName := ⟨RJ14, "appendNull", "()Ljava/lang/AbstractStringBuilder;"⟩
def dkwJ14_appendNull_3 : List UInt8 := [184, 0, 226, 60, 42, 27, 181, 0, 79, 42, 176]
abbrev dktJ14_appendNull_3 : List UInt8 := dkwJ14_appendNull_3 ++ []
def dkwJ14_appendNull_2 : List UInt8 := [16, 108, 84, 44, 27, 132, 1, 1, 16, 108, 84, 167, 0, 17, 44, 27, 16, 110, 16, 117, 16, 108, 16, 108]
abbrev dktJ14_appendNull_2 : List UInt8 := dkwJ14_appendNull_2 ++ dktJ14_appendNull_3
def dkwJ14_appendNull_1 : List UInt8 := [153, 0, 38, 44, 27, 132, 1, 1, 16, 110, 84, 44, 27, 132, 1, 1, 16, 117, 84, 44, 27, 132, 1, 1]
abbrev dktJ14_appendNull_1 : List UInt8 := dkwJ14_appendNull_1 ++ dktJ14_appendNull_2
def dkwJ14_appendNull_0 : List UInt8 := [42, 42, 180, 0, 79, 7, 96, 182, 0, 100, 42, 180, 0, 79, 60, 42, 180, 0, 15, 77, 42, 182, 0, 83]
abbrev dktJ14_appendNull_0 : List UInt8 := dkwJ14_appendNull_0 ++ dktJ14_appendNull_1
theorem dksJ14_appendNull_0 : cJ14_appendNull.data.toList.drop 0 = dktJ14_appendNull_0 := by decide +kernel
theorem dksJ14_appendNull_1 : cJ14_appendNull.data.toList.drop 24 = dktJ14_appendNull_1 := dk_seg dksJ14_appendNull_0 24 rfl rfl
theorem dksJ14_appendNull_2 : cJ14_appendNull.data.toList.drop 48 = dktJ14_appendNull_2 := dk_seg dksJ14_appendNull_1 24 rfl rfl
theorem dksJ14_appendNull_3 : cJ14_appendNull.data.toList.drop 72 = dktJ14_appendNull_3 := dk_seg dksJ14_appendNull_2 24 rfl rfl
theorem dJ14_appendNull_0 : decode cJ14_appendNull 0 = .ok (.aload_n 0, 1) := dk_42 (dk_at dksJ14_appendNull_0 0 rfl rfl)
theorem dJ14_appendNull_1 : decode cJ14_appendNull 1 = .ok (.aload_n 0, 1) := dk_42 (dk_at dksJ14_appendNull_0 1 rfl rfl)
theorem dJ14_appendNull_2 : decode cJ14_appendNull 2 = .ok (.getfield 79, 3) := dk_180 0 79 (dk_at dksJ14_appendNull_0 2 rfl rfl)
theorem dJ14_appendNull_5 : decode cJ14_appendNull 5 = .ok (.iconst 4, 1) := dk_7 (dk_at dksJ14_appendNull_0 5 rfl rfl)
theorem dJ14_appendNull_6 : decode cJ14_appendNull 6 = .ok (.iadd, 1) := dk_96 (dk_at dksJ14_appendNull_0 6 rfl rfl)
theorem dJ14_appendNull_7 : decode cJ14_appendNull 7 = .ok (.invokevirtual 100, 3) := dk_182 0 100 (dk_at dksJ14_appendNull_0 7 rfl rfl)
theorem dJ14_appendNull_10 : decode cJ14_appendNull 10 = .ok (.aload_n 0, 1) := dk_42 (dk_at dksJ14_appendNull_0 10 rfl rfl)
theorem dJ14_appendNull_11 : decode cJ14_appendNull 11 = .ok (.getfield 79, 3) := dk_180 0 79 (dk_at dksJ14_appendNull_0 11 rfl rfl)
theorem dJ14_appendNull_14 : decode cJ14_appendNull 14 = .ok (.istore_n 1, 1) := dk_60 (dk_at dksJ14_appendNull_0 14 rfl rfl)
theorem dJ14_appendNull_15 : decode cJ14_appendNull 15 = .ok (.aload_n 0, 1) := dk_42 (dk_at dksJ14_appendNull_0 15 rfl rfl)
theorem dJ14_appendNull_16 : decode cJ14_appendNull 16 = .ok (.getfield 15, 3) := dk_180 0 15 (dk_at dksJ14_appendNull_0 16 rfl rfl)
theorem dJ14_appendNull_19 : decode cJ14_appendNull 19 = .ok (.astore_n 2, 1) := dk_77 (dk_at dksJ14_appendNull_0 19 rfl rfl)
theorem dJ14_appendNull_20 : decode cJ14_appendNull 20 = .ok (.aload_n 0, 1) := dk_42 (dk_at dksJ14_appendNull_0 20 rfl rfl)
theorem dJ14_appendNull_21 : decode cJ14_appendNull 21 = .ok (.invokevirtual 83, 3) := dk_182 0 83 (dk_at dksJ14_appendNull_0 21 rfl rfl)
theorem dJ14_appendNull_24 : decode cJ14_appendNull 24 = .ok (.ifCond .eq 38, 3) := dk_153 0 38 (dk_at dksJ14_appendNull_1 0 rfl rfl)
theorem dJ14_appendNull_27 : decode cJ14_appendNull 27 = .ok (.aload_n 2, 1) := dk_44 (dk_at dksJ14_appendNull_1 3 rfl rfl)
theorem dJ14_appendNull_28 : decode cJ14_appendNull 28 = .ok (.iload_n 1, 1) := dk_27 (dk_at dksJ14_appendNull_1 4 rfl rfl)
theorem dJ14_appendNull_29 : decode cJ14_appendNull 29 = .ok (.iinc 1 1, 3) := dk_132 1 1 (dk_at dksJ14_appendNull_1 5 rfl rfl)
theorem dJ14_appendNull_32 : decode cJ14_appendNull 32 = .ok (.bipush 110, 2) := dk_16 110 (dk_at dksJ14_appendNull_1 8 rfl rfl)
theorem dJ14_appendNull_34 : decode cJ14_appendNull 34 = .ok (.bastore, 1) := dk_84 (dk_at dksJ14_appendNull_1 10 rfl rfl)
theorem dJ14_appendNull_35 : decode cJ14_appendNull 35 = .ok (.aload_n 2, 1) := dk_44 (dk_at dksJ14_appendNull_1 11 rfl rfl)
theorem dJ14_appendNull_36 : decode cJ14_appendNull 36 = .ok (.iload_n 1, 1) := dk_27 (dk_at dksJ14_appendNull_1 12 rfl rfl)
theorem dJ14_appendNull_37 : decode cJ14_appendNull 37 = .ok (.iinc 1 1, 3) := dk_132 1 1 (dk_at dksJ14_appendNull_1 13 rfl rfl)
theorem dJ14_appendNull_40 : decode cJ14_appendNull 40 = .ok (.bipush 117, 2) := dk_16 117 (dk_at dksJ14_appendNull_1 16 rfl rfl)
theorem dJ14_appendNull_42 : decode cJ14_appendNull 42 = .ok (.bastore, 1) := dk_84 (dk_at dksJ14_appendNull_1 18 rfl rfl)
theorem dJ14_appendNull_43 : decode cJ14_appendNull 43 = .ok (.aload_n 2, 1) := dk_44 (dk_at dksJ14_appendNull_1 19 rfl rfl)
theorem dJ14_appendNull_44 : decode cJ14_appendNull 44 = .ok (.iload_n 1, 1) := dk_27 (dk_at dksJ14_appendNull_1 20 rfl rfl)
theorem dJ14_appendNull_45 : decode cJ14_appendNull 45 = .ok (.iinc 1 1, 3) := dk_132 1 1 (dk_at dksJ14_appendNull_1 21 rfl rfl)
theorem dJ14_appendNull_48 : decode cJ14_appendNull 48 = .ok (.bipush 108, 2) := dk_16 108 (dk_at dksJ14_appendNull_2 0 rfl rfl)
theorem dJ14_appendNull_50 : decode cJ14_appendNull 50 = .ok (.bastore, 1) := dk_84 (dk_at dksJ14_appendNull_2 2 rfl rfl)
theorem dJ14_appendNull_51 : decode cJ14_appendNull 51 = .ok (.aload_n 2, 1) := dk_44 (dk_at dksJ14_appendNull_2 3 rfl rfl)
theorem dJ14_appendNull_52 : decode cJ14_appendNull 52 = .ok (.iload_n 1, 1) := dk_27 (dk_at dksJ14_appendNull_2 4 rfl rfl)
theorem dJ14_appendNull_53 : decode cJ14_appendNull 53 = .ok (.iinc 1 1, 3) := dk_132 1 1 (dk_at dksJ14_appendNull_2 5 rfl rfl)
theorem dJ14_appendNull_56 : decode cJ14_appendNull 56 = .ok (.bipush 108, 2) := dk_16 108 (dk_at dksJ14_appendNull_2 8 rfl rfl)
theorem dJ14_appendNull_58 : decode cJ14_appendNull 58 = .ok (.bastore, 1) := dk_84 (dk_at dksJ14_appendNull_2 10 rfl rfl)
theorem dJ14_appendNull_59 : decode cJ14_appendNull 59 = .ok (.goto 17, 3) := dk_167 0 17 (dk_at dksJ14_appendNull_2 11 rfl rfl)
theorem dJ14_appendNull_62 : decode cJ14_appendNull 62 = .ok (.aload_n 2, 1) := dk_44 (dk_at dksJ14_appendNull_2 14 rfl rfl)
theorem dJ14_appendNull_63 : decode cJ14_appendNull 63 = .ok (.iload_n 1, 1) := dk_27 (dk_at dksJ14_appendNull_2 15 rfl rfl)
theorem dJ14_appendNull_64 : decode cJ14_appendNull 64 = .ok (.bipush 110, 2) := dk_16 110 (dk_at dksJ14_appendNull_2 16 rfl rfl)
theorem dJ14_appendNull_66 : decode cJ14_appendNull 66 = .ok (.bipush 117, 2) := dk_16 117 (dk_at dksJ14_appendNull_2 18 rfl rfl)
theorem dJ14_appendNull_68 : decode cJ14_appendNull 68 = .ok (.bipush 108, 2) := dk_16 108 (dk_at dksJ14_appendNull_2 20 rfl rfl)
theorem dJ14_appendNull_70 : decode cJ14_appendNull 70 = .ok (.bipush 108, 2) := dk_16 108 (dk_at dksJ14_appendNull_2 22 rfl rfl)
theorem dJ14_appendNull_72 : decode cJ14_appendNull 72 = .ok (.invokestatic 226, 3) := dk_184 0 226 (dk_at dksJ14_appendNull_3 0 rfl rfl)
theorem dJ14_appendNull_75 : decode cJ14_appendNull 75 = .ok (.istore_n 1, 1) := dk_60 (dk_at dksJ14_appendNull_3 3 rfl rfl)
theorem dJ14_appendNull_76 : decode cJ14_appendNull 76 = .ok (.aload_n 0, 1) := dk_42 (dk_at dksJ14_appendNull_3 4 rfl rfl)
theorem dJ14_appendNull_77 : decode cJ14_appendNull 77 = .ok (.iload_n 1, 1) := dk_27 (dk_at dksJ14_appendNull_3 5 rfl rfl)
theorem dJ14_appendNull_78 : decode cJ14_appendNull 78 = .ok (.putfield 79, 3) := dk_181 0 79 (dk_at dksJ14_appendNull_3 6 rfl rfl)
theorem dJ14_appendNull_81 : decode cJ14_appendNull 81 = .ok (.aload_n 0, 1) := dk_42 (dk_at dksJ14_appendNull_3 9 rfl rfl)
theorem dJ14_appendNull_82 : decode cJ14_appendNull 82 = .ok (.areturn, 1) := dk_176 (dk_at dksJ14_appendNull_3 10 rfl rfl)
abbrev cJ14_putStringAt : ByteArray := prog_18_method_73_code
def yJ14_putStringAt : MethodName := ⟨RJ14, "putStringAt", "(ILjava/lang/String;)V"⟩
def dkwJ14_putStringAt_0 : List UInt8 := [42, 44, 182, 1, 141, 44, 42, 180, 0, 15, 27, 42, 180, 0, 22, 182, 1, 143, 177]
abbrev dktJ14_putStringAt_0 : List UInt8 := dkwJ14_putStringAt_0 ++ []
theorem dksJ14_putStringAt_0 : cJ14_putStringAt.data.toList.drop 0 = dktJ14_putStringAt_0 := by decide +kernel
theorem dJ14_putStringAt_0 : decode cJ14_putStringAt 0 = .ok (.aload_n 0, 1) := dk_42 (dk_at dksJ14_putStringAt_0 0 rfl rfl)
theorem dJ14_putStringAt_1 : decode cJ14_putStringAt 1 = .ok (.aload_n 2, 1) := dk_44 (dk_at dksJ14_putStringAt_0 1 rfl rfl)
theorem dJ14_putStringAt_2 : decode cJ14_putStringAt 2 = .ok (.invokevirtual 397, 3) := dk_182 1 141 (dk_at dksJ14_putStringAt_0 2 rfl rfl)
theorem dJ14_putStringAt_5 : decode cJ14_putStringAt 5 = .ok (.aload_n 2, 1) := dk_44 (dk_at dksJ14_putStringAt_0 5 rfl rfl)
theorem dJ14_putStringAt_6 : decode cJ14_putStringAt 6 = .ok (.aload_n 0, 1) := dk_42 (dk_at dksJ14_putStringAt_0 6 rfl rfl)
theorem dJ14_putStringAt_7 : decode cJ14_putStringAt 7 = .ok (.getfield 15, 3) := dk_180 0 15 (dk_at dksJ14_putStringAt_0 7 rfl rfl)
theorem dJ14_putStringAt_10 : decode cJ14_putStringAt 10 = .ok (.iload_n 1, 1) := dk_27 (dk_at dksJ14_putStringAt_0 10 rfl rfl)
theorem dJ14_putStringAt_11 : decode cJ14_putStringAt 11 = .ok (.aload_n 0, 1) := dk_42 (dk_at dksJ14_putStringAt_0 11 rfl rfl)
theorem dJ14_putStringAt_12 : decode cJ14_putStringAt 12 = .ok (.getfield 22, 3) := dk_180 0 22 (dk_at dksJ14_putStringAt_0 12 rfl rfl)
theorem dJ14_putStringAt_15 : decode cJ14_putStringAt 15 = .ok (.invokevirtual 399, 3) := dk_182 1 143 (dk_at dksJ14_putStringAt_0 15 rfl rfl)
theorem dJ14_putStringAt_18 : decode cJ14_putStringAt 18 = .ok (.return_, 1) := dk_177 (dk_at dksJ14_putStringAt_0 18 rfl rfl)
abbrev cJ14_inflateIfNeededFor : ByteArray := prog_18_method_71_code
def yJ14_inflateIfNeededFor : MethodName := ⟨RJ14, "inflateIfNeededFor", "(Ljava/lang/String;)V"⟩
def dkwJ14_inflateIfNeededFor_0 : List UInt8 := [178, 0, 18, 153, 0, 18, 42, 180, 0, 22, 43, 182, 0, 40, 159, 0, 7, 42, 182, 0, 195, 177]
abbrev dktJ14_inflateIfNeededFor_0 : List UInt8 := dkwJ14_inflateIfNeededFor_0 ++ []
theorem dksJ14_inflateIfNeededFor_0 : cJ14_inflateIfNeededFor.data.toList.drop 0 = dktJ14_inflateIfNeededFor_0 := by decide +kernel
theorem dJ14_inflateIfNeededFor_0 : decode cJ14_inflateIfNeededFor 0 = .ok (.getstatic 18, 3) := dk_178 0 18 (dk_at dksJ14_inflateIfNeededFor_0 0 rfl rfl)
theorem dJ14_inflateIfNeededFor_3 : decode cJ14_inflateIfNeededFor 3 = .ok (.ifCond .eq 18, 3) := dk_153 0 18 (dk_at dksJ14_inflateIfNeededFor_0 3 rfl rfl)
theorem dJ14_inflateIfNeededFor_6 : decode cJ14_inflateIfNeededFor 6 = .ok (.aload_n 0, 1) := dk_42 (dk_at dksJ14_inflateIfNeededFor_0 6 rfl rfl)
theorem dJ14_inflateIfNeededFor_7 : decode cJ14_inflateIfNeededFor 7 = .ok (.getfield 22, 3) := dk_180 0 22 (dk_at dksJ14_inflateIfNeededFor_0 7 rfl rfl)
theorem dJ14_inflateIfNeededFor_10 : decode cJ14_inflateIfNeededFor 10 = .ok (.aload_n 1, 1) := dk_43 (dk_at dksJ14_inflateIfNeededFor_0 10 rfl rfl)
theorem dJ14_inflateIfNeededFor_11 : decode cJ14_inflateIfNeededFor 11 = .ok (.invokevirtual 40, 3) := dk_182 0 40 (dk_at dksJ14_inflateIfNeededFor_0 11 rfl rfl)
theorem dJ14_inflateIfNeededFor_14 : decode cJ14_inflateIfNeededFor 14 = .ok (.if_icmp .eq 7, 3) := dk_159 0 7 (dk_at dksJ14_inflateIfNeededFor_0 14 rfl rfl)
theorem dJ14_inflateIfNeededFor_17 : decode cJ14_inflateIfNeededFor 17 = .ok (.aload_n 0, 1) := dk_42 (dk_at dksJ14_inflateIfNeededFor_0 17 rfl rfl)
theorem dJ14_inflateIfNeededFor_18 : decode cJ14_inflateIfNeededFor 18 = .ok (.invokevirtual 195, 3) := dk_182 0 195 (dk_at dksJ14_inflateIfNeededFor_0 18 rfl rfl)
theorem dJ14_inflateIfNeededFor_21 : decode cJ14_inflateIfNeededFor 21 = .ok (.return_, 1) := dk_177 (dk_at dksJ14_inflateIfNeededFor_0 21 rfl rfl)
abbrev cJ14_append_3 : ByteArray := prog_18_method_32_code
def yJ14_append_3 : MethodName := ⟨RJ14, "append", "(I)Ljava/lang/AbstractStringBuilder;"⟩
def dkwJ14_append_3_2 : List UInt8 := [42, 29, 181, 0, 79, 42, 176]
abbrev dktJ14_append_3_2 : List UInt8 := dkwJ14_append_3_2 ++ []
def dkwJ14_append_3_1 : List UInt8 := [27, 29, 42, 180, 0, 15, 184, 0, 248, 87, 167, 0, 14, 27, 28, 29, 42, 180, 0, 15, 184, 0, 251, 87]
abbrev dktJ14_append_3_1 : List UInt8 := dkwJ14_append_3_1 ++ dktJ14_append_3_2
def dkwJ14_append_3_0 : List UInt8 := [42, 180, 0, 79, 61, 28, 27, 184, 0, 245, 96, 62, 42, 29, 182, 0, 100, 42, 182, 0, 83, 153, 0, 16]
abbrev dktJ14_append_3_0 : List UInt8 := dkwJ14_append_3_0 ++ dktJ14_append_3_1
theorem dksJ14_append_3_0 : cJ14_append_3.data.toList.drop 0 = dktJ14_append_3_0 := by decide +kernel
theorem dksJ14_append_3_1 : cJ14_append_3.data.toList.drop 24 = dktJ14_append_3_1 := dk_seg dksJ14_append_3_0 24 rfl rfl
theorem dksJ14_append_3_2 : cJ14_append_3.data.toList.drop 48 = dktJ14_append_3_2 := dk_seg dksJ14_append_3_1 24 rfl rfl
theorem dJ14_append_3_0 : decode cJ14_append_3 0 = .ok (.aload_n 0, 1) := dk_42 (dk_at dksJ14_append_3_0 0 rfl rfl)
theorem dJ14_append_3_1 : decode cJ14_append_3 1 = .ok (.getfield 79, 3) := dk_180 0 79 (dk_at dksJ14_append_3_0 1 rfl rfl)
theorem dJ14_append_3_4 : decode cJ14_append_3 4 = .ok (.istore_n 2, 1) := dk_61 (dk_at dksJ14_append_3_0 4 rfl rfl)
theorem dJ14_append_3_5 : decode cJ14_append_3 5 = .ok (.iload_n 2, 1) := dk_28 (dk_at dksJ14_append_3_0 5 rfl rfl)
theorem dJ14_append_3_6 : decode cJ14_append_3 6 = .ok (.iload_n 1, 1) := dk_27 (dk_at dksJ14_append_3_0 6 rfl rfl)
theorem dJ14_append_3_7 : decode cJ14_append_3 7 = .ok (.invokestatic 245, 3) := dk_184 0 245 (dk_at dksJ14_append_3_0 7 rfl rfl)
theorem dJ14_append_3_10 : decode cJ14_append_3 10 = .ok (.iadd, 1) := dk_96 (dk_at dksJ14_append_3_0 10 rfl rfl)
theorem dJ14_append_3_11 : decode cJ14_append_3 11 = .ok (.istore_n 3, 1) := dk_62 (dk_at dksJ14_append_3_0 11 rfl rfl)
theorem dJ14_append_3_12 : decode cJ14_append_3 12 = .ok (.aload_n 0, 1) := dk_42 (dk_at dksJ14_append_3_0 12 rfl rfl)
theorem dJ14_append_3_13 : decode cJ14_append_3 13 = .ok (.iload_n 3, 1) := dk_29 (dk_at dksJ14_append_3_0 13 rfl rfl)
theorem dJ14_append_3_14 : decode cJ14_append_3 14 = .ok (.invokevirtual 100, 3) := dk_182 0 100 (dk_at dksJ14_append_3_0 14 rfl rfl)
theorem dJ14_append_3_17 : decode cJ14_append_3 17 = .ok (.aload_n 0, 1) := dk_42 (dk_at dksJ14_append_3_0 17 rfl rfl)
theorem dJ14_append_3_18 : decode cJ14_append_3 18 = .ok (.invokevirtual 83, 3) := dk_182 0 83 (dk_at dksJ14_append_3_0 18 rfl rfl)
theorem dJ14_append_3_21 : decode cJ14_append_3 21 = .ok (.ifCond .eq 16, 3) := dk_153 0 16 (dk_at dksJ14_append_3_0 21 rfl rfl)
theorem dJ14_append_3_24 : decode cJ14_append_3 24 = .ok (.iload_n 1, 1) := dk_27 (dk_at dksJ14_append_3_1 0 rfl rfl)
theorem dJ14_append_3_25 : decode cJ14_append_3 25 = .ok (.iload_n 3, 1) := dk_29 (dk_at dksJ14_append_3_1 1 rfl rfl)
theorem dJ14_append_3_26 : decode cJ14_append_3 26 = .ok (.aload_n 0, 1) := dk_42 (dk_at dksJ14_append_3_1 2 rfl rfl)
theorem dJ14_append_3_27 : decode cJ14_append_3 27 = .ok (.getfield 15, 3) := dk_180 0 15 (dk_at dksJ14_append_3_1 3 rfl rfl)
theorem dJ14_append_3_30 : decode cJ14_append_3 30 = .ok (.invokestatic 248, 3) := dk_184 0 248 (dk_at dksJ14_append_3_1 6 rfl rfl)
theorem dJ14_append_3_33 : decode cJ14_append_3 33 = .ok (.pop, 1) := dk_87 (dk_at dksJ14_append_3_1 9 rfl rfl)
theorem dJ14_append_3_34 : decode cJ14_append_3 34 = .ok (.goto 14, 3) := dk_167 0 14 (dk_at dksJ14_append_3_1 10 rfl rfl)
theorem dJ14_append_3_37 : decode cJ14_append_3 37 = .ok (.iload_n 1, 1) := dk_27 (dk_at dksJ14_append_3_1 13 rfl rfl)
theorem dJ14_append_3_38 : decode cJ14_append_3 38 = .ok (.iload_n 2, 1) := dk_28 (dk_at dksJ14_append_3_1 14 rfl rfl)
theorem dJ14_append_3_39 : decode cJ14_append_3 39 = .ok (.iload_n 3, 1) := dk_29 (dk_at dksJ14_append_3_1 15 rfl rfl)
theorem dJ14_append_3_40 : decode cJ14_append_3 40 = .ok (.aload_n 0, 1) := dk_42 (dk_at dksJ14_append_3_1 16 rfl rfl)
theorem dJ14_append_3_41 : decode cJ14_append_3 41 = .ok (.getfield 15, 3) := dk_180 0 15 (dk_at dksJ14_append_3_1 17 rfl rfl)
theorem dJ14_append_3_44 : decode cJ14_append_3 44 = .ok (.invokestatic 251, 3) := dk_184 0 251 (dk_at dksJ14_append_3_1 20 rfl rfl)
theorem dJ14_append_3_47 : decode cJ14_append_3 47 = .ok (.pop, 1) := dk_87 (dk_at dksJ14_append_3_1 23 rfl rfl)
theorem dJ14_append_3_48 : decode cJ14_append_3 48 = .ok (.aload_n 0, 1) := dk_42 (dk_at dksJ14_append_3_2 0 rfl rfl)
theorem dJ14_append_3_49 : decode cJ14_append_3 49 = .ok (.iload_n 3, 1) := dk_29 (dk_at dksJ14_append_3_2 1 rfl rfl)
theorem dJ14_append_3_50 : decode cJ14_append_3 50 = .ok (.putfield 79, 3) := dk_181 0 79 (dk_at dksJ14_append_3_2 2 rfl rfl)
theorem dJ14_append_3_53 : decode cJ14_append_3 53 = .ok (.aload_n 0, 1) := dk_42 (dk_at dksJ14_append_3_2 5 rfl rfl)
theorem dJ14_append_3_54 : decode cJ14_append_3 54 = .ok (.areturn, 1) := dk_176 (dk_at dksJ14_append_3_2 6 rfl rfl)
theorem q115 : (Jvm.Cond.initialized "java/lang/AbstractStringBuilder") ∈ lw_all := lw_g (lw_at lw_m1 20 rfl) rfl
theorem q546 : (Jvm.Cond.instanceMethod ({ cls := "java/lang/AbstractStringBuilder", name := "<init>", desc := "(I)V" } : Jvm.MethodName)) ∈ lw_all := lw_g (lw_at lw_m2 211 rfl) rfl
theorem q547 : (Jvm.Cond.code ({ cls := "java/lang/AbstractStringBuilder", name := "<init>", desc := "(I)V" } : Jvm.MethodName) prog_18_method_2_code (2 : Nat) (Option.none : Option Jvm.ClassFile.FieldType)) ∈ lw_all := lw_g (lw_at lw_m2 212 rfl) rfl
theorem q548 : (Jvm.Cond.methodLink "java/lang/AbstractStringBuilder" (3 : Nat) ({ cls := "java/lang/Object", name := "<init>", desc := "()V" } : Jvm.MethodName)) ∈ lw_all := lw_g (lw_at lw_m2 213 rfl) rfl
theorem q549 : (Jvm.Cond.fieldLink "java/lang/AbstractStringBuilder" (18 : Nat) "java/lang/String" "COMPACT_STRINGS" "Z") ∈ lw_all := lw_g (lw_at lw_m2 214 rfl) rfl
theorem q551 : (Jvm.Cond.methodLink "java/lang/AbstractStringBuilder" (26 : Nat) ({ cls := "java/lang/StringUTF16", name := "newBytesFor", desc := "(I)[B" } : Jvm.MethodName)) ∈ lw_all := lw_g (lw_at lw_m2 216 rfl) rfl
theorem q558 : (Jvm.Cond.fieldLink "java/lang/AbstractStringBuilder" (15 : Nat) "java/lang/AbstractStringBuilder" "value" "[B") ∈ lw_all := lw_g (lw_at lw_m2 223 rfl) rfl
theorem q559 : (Jvm.Cond.fieldLink "java/lang/AbstractStringBuilder" (22 : Nat) "java/lang/AbstractStringBuilder" "coder" "B") ∈ lw_all := lw_g (lw_at lw_m2 224 rfl) rfl
theorem q561 : (Jvm.Cond.fieldLink "java/lang/AbstractStringBuilder" (79 : Nat) "java/lang/AbstractStringBuilder" "count" "I") ∈ lw_all := lw_g (lw_at lw_m2 226 rfl) rfl
theorem q563 : (Jvm.Cond.soleField "java/lang/AbstractStringBuilder" "value") ∈ lw_all := lw_g (lw_at lw_m2 228 rfl) rfl
theorem q565 : (Jvm.Cond.soleField "java/lang/AbstractStringBuilder" "coder") ∈ lw_all := lw_g (lw_at lw_m2 230 rfl) rfl
theorem q567 : (Jvm.Cond.soleField "java/lang/AbstractStringBuilder" "maybeLatin1") ∈ lw_all := lw_g (lw_at lw_m2 232 rfl) rfl
theorem q569 : (Jvm.Cond.soleField "java/lang/AbstractStringBuilder" "count") ∈ lw_all := lw_g (lw_at lw_m2 234 rfl) rfl
theorem q576 : (Jvm.Cond.instanceMethod ({ cls := "java/lang/AbstractStringBuilder", name := "append", desc := "(C)Ljava/lang/AbstractStringBuilder;" } : Jvm.MethodName)) ∈ lw_all := lw_g (lw_at lw_m3 1 rfl) rfl
theorem q577 : (Jvm.Cond.code ({ cls := "java/lang/AbstractStringBuilder", name := "append", desc := "(C)Ljava/lang/AbstractStringBuilder;" } : Jvm.MethodName) prog_18_method_31_code (2 : Nat) (Option.some (Jvm.ClassFile.FieldType.object "java/lang/AbstractStringBuilder"))) ∈ lw_all := lw_g (lw_at lw_m3 2 rfl) rfl
theorem q578 : (Jvm.Cond.methodLink "java/lang/AbstractStringBuilder" (100 : Nat) ({ cls := "java/lang/AbstractStringBuilder", name := "ensureCapacityInternal", desc := "(I)V" } : Jvm.MethodName)) ∈ lw_all := lw_g (lw_at lw_m3 3 rfl) rfl
theorem q579 : (Jvm.Cond.privateMethod ({ cls := "java/lang/AbstractStringBuilder", name := "ensureCapacityInternal", desc := "(I)V" } : Jvm.MethodName)) ∈ lw_tbl := lw_at lw_m3 4 rfl
theorem q580 : (Jvm.Cond.instanceMethod ({ cls := "java/lang/AbstractStringBuilder", name := "ensureCapacityInternal", desc := "(I)V" } : Jvm.MethodName)) ∈ lw_all := lw_g (lw_at lw_m3 5 rfl) rfl
theorem q581 : (Jvm.Cond.code ({ cls := "java/lang/AbstractStringBuilder", name := "ensureCapacityInternal", desc := "(I)V" } : Jvm.MethodName) prog_18_method_9_code (3 : Nat) (Option.none : Option Jvm.ClassFile.FieldType)) ∈ lw_all := lw_g (lw_at lw_m3 6 rfl) rfl
theorem q582 : (Jvm.Cond.methodLink "java/lang/AbstractStringBuilder" (104 : Nat) ({ cls := "java/lang/AbstractStringBuilder", name := "newCapacity", desc := "(I)I" } : Jvm.MethodName)) ∈ lw_all := lw_g (lw_at lw_m3 7 rfl) rfl
theorem q583 : (Jvm.Cond.privateMethod ({ cls := "java/lang/AbstractStringBuilder", name := "newCapacity", desc := "(I)I" } : Jvm.MethodName)) ∈ lw_tbl := lw_at lw_m3 8 rfl
theorem q584 : (Jvm.Cond.instanceMethod ({ cls := "java/lang/AbstractStringBuilder", name := "newCapacity", desc := "(I)I" } : Jvm.MethodName)) ∈ lw_all := lw_g (lw_at lw_m3 9 rfl) rfl
theorem q585 : (Jvm.Cond.code ({ cls := "java/lang/AbstractStringBuilder", name := "newCapacity", desc := "(I)I" } : Jvm.MethodName) prog_18_method_10_code (6 : Nat) (Option.some Jvm.ClassFile.FieldType.int)) ∈ lw_all := lw_g (lw_at lw_m3 10 rfl) rfl
theorem q586 : (Jvm.Cond.methodLink "java/lang/AbstractStringBuilder" (114 : Nat) ({ cls := "jdk/internal/util/ArraysSupport", name := "newLength", desc := "(III)I" } : Jvm.MethodName)) ∈ lw_all := lw_g (lw_at lw_m3 11 rfl) rfl
theorem q596 : (Jvm.Cond.constant "java/lang/AbstractStringBuilder" (39 : Nat) (2147483647 : Int32)) ∈ lw_all := lw_g (lw_at lw_m3 21 rfl) rfl
theorem q597 : (Jvm.Cond.methodLink "java/lang/AbstractStringBuilder" (108 : Nat) ({ cls := "java/util/Arrays", name := "copyOf", desc := "([BI)[B" } : Jvm.MethodName)) ∈ lw_all := lw_g (lw_at lw_m3 22 rfl) rfl
theorem q613 : (Jvm.Cond.methodLink "java/lang/AbstractStringBuilder" (83 : Nat) ({ cls := "java/lang/AbstractStringBuilder", name := "isLatin1", desc := "()Z" } : Jvm.MethodName)) ∈ lw_all := lw_g (lw_at lw_m3 38 rfl) rfl
theorem q614 : (Jvm.Cond.instanceMethod ({ cls := "java/lang/AbstractStringBuilder", name := "isLatin1", desc := "()Z" } : Jvm.MethodName)) ∈ lw_all := lw_g (lw_at lw_m3 39 rfl) rfl
theorem q615 : (Jvm.Cond.sameMethod "java/lang/AbstractStringBuilder" "java/lang/AbstractStringBuilder" "isLatin1" "()Z") ∈ lw_all := lw_g (lw_at lw_m3 40 rfl) rfl
theorem q617 : (Jvm.Cond.code ({ cls := "java/lang/AbstractStringBuilder", name := "isLatin1", desc := "()Z" } : Jvm.MethodName) prog_18_method_68_code (1 : Nat) (Option.some Jvm.ClassFile.FieldType.boolean)) ∈ lw_all := lw_g (lw_at lw_m3 42 rfl) rfl
theorem q618 : (Jvm.Cond.methodLink "java/lang/AbstractStringBuilder" (191 : Nat) ({ cls := "java/lang/StringLatin1", name := "canEncode", desc := "(C)Z" } : Jvm.MethodName)) ∈ lw_all := lw_g (lw_at lw_m3 43 rfl) rfl
theorem q621 : (Jvm.Cond.methodLink "java/lang/AbstractStringBuilder" (195 : Nat) ({ cls := "java/lang/AbstractStringBuilder", name := "inflate", desc := "()V" } : Jvm.MethodName)) ∈ lw_all := lw_g (lw_at lw_m3 46 rfl) rfl
theorem q622 : (Jvm.Cond.privateMethod ({ cls := "java/lang/AbstractStringBuilder", name := "inflate", desc := "()V" } : Jvm.MethodName)) ∈ lw_tbl := lw_at lw_m3 47 rfl
theorem q623 : (Jvm.Cond.instanceMethod ({ cls := "java/lang/AbstractStringBuilder", name := "inflate", desc := "()V" } : Jvm.MethodName)) ∈ lw_all := lw_g (lw_at lw_m3 48 rfl) rfl
theorem q624 : (Jvm.Cond.code ({ cls := "java/lang/AbstractStringBuilder", name := "inflate", desc := "()V" } : Jvm.MethodName) prog_18_method_11_code (2 : Nat) (Option.none : Option Jvm.ClassFile.FieldType)) ∈ lw_all := lw_g (lw_at lw_m3 49 rfl) rfl
theorem q625 : (Jvm.Cond.methodLink "java/lang/AbstractStringBuilder" (125 : Nat) ({ cls := "java/lang/StringLatin1", name := "inflate", desc := "([BI[BII)V" } : Jvm.MethodName)) ∈ lw_all := lw_g (lw_at lw_m3 50 rfl) rfl
theorem q654 : (Jvm.Cond.methodLink "java/lang/AbstractStringBuilder" (197 : Nat) ({ cls := "java/lang/StringUTF16", name := "putCharSB", desc := "([BII)V" } : Jvm.MethodName)) ∈ lw_all := lw_g (lw_at lw_m3 79 rfl) rfl
theorem q680 : (Jvm.Cond.instanceMethod ({ cls := "java/lang/AbstractStringBuilder", name := "getValue", desc := "()[B" } : Jvm.MethodName)) ∈ lw_all := lw_g (lw_at lw_m3 105 rfl) rfl
theorem q681 : (Jvm.Cond.sameMethod "java/lang/AbstractStringBuilder" "java/lang/AbstractStringBuilder" "getValue" "()[B") ∈ lw_all := lw_g (lw_at lw_m3 106 rfl) rfl
theorem q683 : (Jvm.Cond.code ({ cls := "java/lang/AbstractStringBuilder", name := "getValue", desc := "()[B" } : Jvm.MethodName) prog_18_method_64_code (1 : Nat) (Option.some (Jvm.ClassFile.FieldType.array Jvm.ClassFile.FieldType.byte))) ∈ lw_all := lw_g (lw_at lw_m3 108 rfl) rfl
theorem q685 : (Jvm.Cond.instanceMethod ({ cls := "java/lang/AbstractStringBuilder", name := "length", desc := "()I" } : Jvm.MethodName)) ∈ lw_all := lw_g (lw_at lw_m3 110 rfl) rfl
theorem q686 : (Jvm.Cond.sameMethod "java/lang/AbstractStringBuilder" "java/lang/AbstractStringBuilder" "length" "()I") ∈ lw_all := lw_g (lw_at lw_m3 111 rfl) rfl
theorem q691 : (Jvm.Cond.code ({ cls := "java/lang/AbstractStringBuilder", name := "length", desc := "()I" } : Jvm.MethodName) prog_18_method_6_code (1 : Nat) (Option.some Jvm.ClassFile.FieldType.int)) ∈ lw_all := lw_g (lw_at lw_m3 116 rfl) rfl
theorem q929 : (Jvm.Cond.instanceMethod ({ cls := "java/lang/AbstractStringBuilder", name := "append", desc := "(Ljava/lang/String;)Ljava/lang/AbstractStringBuilder;" } : Jvm.MethodName)) ∈ lw_all := lw_g (lw_at lw_m4 114 rfl) rfl
theorem q930 : (Jvm.Cond.code ({ cls := "java/lang/AbstractStringBuilder", name := "append", desc := "(Ljava/lang/String;)Ljava/lang/AbstractStringBuilder;" } : Jvm.MethodName) prog_18_method_22_code (3 : Nat) (Option.some (Jvm.ClassFile.FieldType.object "java/lang/AbstractStringBuilder"))) ∈ lw_all := lw_g (lw_at lw_m4 115 rfl) rfl
theorem q931 : (Jvm.Cond.methodLink "java/lang/AbstractStringBuilder" (204 : Nat) ({ cls := "java/lang/AbstractStringBuilder", name := "appendNull", desc := "()Ljava/lang/AbstractStringBuilder;" } : Jvm.MethodName)) ∈ lw_all := lw_g (lw_at lw_m4 116 rfl) rfl
theorem q932 : (Jvm.Cond.privateMethod ({ cls := "java/lang/AbstractStringBuilder", name := "appendNull", desc := "()Ljava/lang/AbstractStringBuilder;" } : Jvm.MethodName)) ∈ lw_tbl := lw_at lw_m4 117 rfl
theorem q933 : (Jvm.Cond.instanceMethod ({ cls := "java/lang/AbstractStringBuilder", name := "appendNull", desc := "()Ljava/lang/AbstractStringBuilder;" } : Jvm.MethodName)) ∈ lw_all := lw_g (lw_at lw_m4 118 rfl) rfl
theorem q934 : (Jvm.Cond.code ({ cls := "java/lang/AbstractStringBuilder", name := "appendNull", desc := "()Ljava/lang/AbstractStringBuilder;" } : Jvm.MethodName) prog_18_method_26_code (3 : Nat) (Option.some (Jvm.ClassFile.FieldType.object "java/lang/AbstractStringBuilder"))) ∈ lw_all := lw_g (lw_at lw_m4 119 rfl) rfl
theorem q935 : (Jvm.Cond.methodLink "java/lang/AbstractStringBuilder" (226 : Nat) ({ cls := "java/lang/StringUTF16", name := "putCharsAt", desc := "([BICCCC)I" } : Jvm.MethodName)) ∈ lw_all := lw_g (lw_at lw_m4 120 rfl) rfl
theorem q947 : (Jvm.Cond.methodLink "java/lang/AbstractStringBuilder" (32 : Nat) ({ cls := "java/lang/String", name := "length", desc := "()I" } : Jvm.MethodName)) ∈ lw_all := lw_g (lw_at lw_m4 132 rfl) rfl
theorem q955 : (Jvm.Cond.methodLink "java/lang/AbstractStringBuilder" (208 : Nat) ({ cls := "java/lang/AbstractStringBuilder", name := "putStringAt", desc := "(ILjava/lang/String;)V" } : Jvm.MethodName)) ∈ lw_all := lw_g (lw_at lw_m4 140 rfl) rfl
theorem q956 : (Jvm.Cond.privateMethod ({ cls := "java/lang/AbstractStringBuilder", name := "putStringAt", desc := "(ILjava/lang/String;)V" } : Jvm.MethodName)) ∈ lw_tbl := lw_at lw_m4 141 rfl
theorem q957 : (Jvm.Cond.instanceMethod ({ cls := "java/lang/AbstractStringBuilder", name := "putStringAt", desc := "(ILjava/lang/String;)V" } : Jvm.MethodName)) ∈ lw_all := lw_g (lw_at lw_m4 142 rfl) rfl
theorem q958 : (Jvm.Cond.code ({ cls := "java/lang/AbstractStringBuilder", name := "putStringAt", desc := "(ILjava/lang/String;)V" } : Jvm.MethodName) prog_18_method_73_code (3 : Nat) (Option.none : Option Jvm.ClassFile.FieldType)) ∈ lw_all := lw_g (lw_at lw_m4 143 rfl) rfl
theorem q959 : (Jvm.Cond.methodLink "java/lang/AbstractStringBuilder" (397 : Nat) ({ cls := "java/lang/AbstractStringBuilder", name := "inflateIfNeededFor", desc := "(Ljava/lang/String;)V" } : Jvm.MethodName)) ∈ lw_all := lw_g (lw_at lw_m4 144 rfl) rfl
theorem q960 : (Jvm.Cond.privateMethod ({ cls := "java/lang/AbstractStringBuilder", name := "inflateIfNeededFor", desc := "(Ljava/lang/String;)V" } : Jvm.MethodName)) ∈ lw_tbl := lw_at lw_m4 145 rfl
theorem q961 : (Jvm.Cond.instanceMethod ({ cls := "java/lang/AbstractStringBuilder", name := "inflateIfNeededFor", desc := "(Ljava/lang/String;)V" } : Jvm.MethodName)) ∈ lw_all := lw_g (lw_at lw_m4 146 rfl) rfl
theorem q962 : (Jvm.Cond.code ({ cls := "java/lang/AbstractStringBuilder", name := "inflateIfNeededFor", desc := "(Ljava/lang/String;)V" } : Jvm.MethodName) prog_18_method_71_code (2 : Nat) (Option.none : Option Jvm.ClassFile.FieldType)) ∈ lw_all := lw_g (lw_at lw_m4 147 rfl) rfl
theorem q963 : (Jvm.Cond.methodLink "java/lang/AbstractStringBuilder" (40 : Nat) ({ cls := "java/lang/String", name := "coder", desc := "()B" } : Jvm.MethodName)) ∈ lw_all := lw_g (lw_at lw_m4 148 rfl) rfl
theorem q964 : (Jvm.Cond.methodLink "java/lang/AbstractStringBuilder" (399 : Nat) ({ cls := "java/lang/String", name := "getBytes", desc := "([BIB)V" } : Jvm.MethodName)) ∈ lw_all := lw_g (lw_at lw_m4 149 rfl) rfl
theorem q975 : (Jvm.Cond.instanceMethod ({ cls := "java/lang/AbstractStringBuilder", name := "append", desc := "(I)Ljava/lang/AbstractStringBuilder;" } : Jvm.MethodName)) ∈ lw_all := lw_g (lw_at lw_m4 160 rfl) rfl
theorem q976 : (Jvm.Cond.code ({ cls := "java/lang/AbstractStringBuilder", name := "append", desc := "(I)Ljava/lang/AbstractStringBuilder;" } : Jvm.MethodName) prog_18_method_32_code (4 : Nat) (Option.some (Jvm.ClassFile.FieldType.object "java/lang/AbstractStringBuilder"))) ∈ lw_all := lw_g (lw_at lw_m4 161 rfl) rfl
theorem q977 : (Jvm.Cond.methodLink "java/lang/AbstractStringBuilder" (245 : Nat) ({ cls := "java/lang/Integer", name := "stringSize", desc := "(I)I" } : Jvm.MethodName)) ∈ lw_all := lw_g (lw_at lw_m4 162 rfl) rfl
theorem q980 : (Jvm.Cond.methodLink "java/lang/AbstractStringBuilder" (248 : Nat) ({ cls := "java/lang/Integer", name := "getChars", desc := "(II[B)I" } : Jvm.MethodName)) ∈ lw_all := lw_g (lw_at lw_m4 165 rfl) rfl
theorem q987 : (Jvm.Cond.methodLink "java/lang/AbstractStringBuilder" (251 : Nat) ({ cls := "java/lang/StringUTF16", name := "getChars", desc := "(III[B)I" } : Jvm.MethodName)) ∈ lw_all := lw_g (lw_at lw_m4 172 rfl) rfl
theorem q2682 : (Jvm.Cond.sameMethod "java/lang/AbstractStringBuilder" "java/lang/AbstractStringBuilder" "append" "(C)Ljava/lang/AbstractStringBuilder;") ∈ lw_all := lw_g (lw_at lw_m11 187 rfl) rfl
theorem q2683 : (Jvm.Cond.sameMethod "java/lang/AbstractStringBuilder" "java/lang/AbstractStringBuilder" "ensureCapacityInternal" "(I)V") ∈ lw_all := lw_g (lw_at lw_m11 188 rfl) rfl
theorem q2684 : (Jvm.Cond.sameMethod "java/lang/AbstractStringBuilder" "java/lang/AbstractStringBuilder" "newCapacity" "(I)I") ∈ lw_all := lw_g (lw_at lw_m11 189 rfl) rfl
theorem q2685 : (Jvm.Cond.sameMethod "java/lang/AbstractStringBuilder" "java/lang/AbstractStringBuilder" "inflate" "()V") ∈ lw_all := lw_g (lw_at lw_m11 190 rfl) rfl
theorem q2687 : (Jvm.Cond.sameMethod "java/lang/AbstractStringBuilder" "java/lang/AbstractStringBuilder" "append" "(Ljava/lang/String;)Ljava/lang/AbstractStringBuilder;") ∈ lw_all := lw_g (lw_at lw_m11 192 rfl) rfl
theorem q2688 : (Jvm.Cond.sameMethod "java/lang/AbstractStringBuilder" "java/lang/AbstractStringBuilder" "appendNull" "()Ljava/lang/AbstractStringBuilder;") ∈ lw_all := lw_g (lw_at lw_m11 193 rfl) rfl
theorem q2689 : (Jvm.Cond.sameMethod "java/lang/AbstractStringBuilder" "java/lang/AbstractStringBuilder" "putStringAt" "(ILjava/lang/String;)V") ∈ lw_all := lw_g (lw_at lw_m11 194 rfl) rfl
theorem q2690 : (Jvm.Cond.sameMethod "java/lang/AbstractStringBuilder" "java/lang/AbstractStringBuilder" "inflateIfNeededFor" "(Ljava/lang/String;)V") ∈ lw_all := lw_g (lw_at lw_m11 195 rfl) rfl
theorem q2691 : (Jvm.Cond.sameMethod "java/lang/AbstractStringBuilder" "java/lang/AbstractStringBuilder" "append" "(I)Ljava/lang/AbstractStringBuilder;") ∈ lw_all := lw_g (lw_at lw_m11 196 rfl) rfl

/-! java/lang/StringBuilder -/
set_option maxRecDepth 100000
def RJ15 : String := "java/lang/StringBuilder"
def TJ15 : u_T := fun k => match k with
  | 0 => ("java/lang/AbstractStringBuilder", "value", "[B", false)
  | 1 => ("java/lang/AbstractStringBuilder", "coder", "B", false)
  | 2 => ("java/lang/AbstractStringBuilder", "maybeLatin1", "Z", false)
  | _ => ("java/lang/AbstractStringBuilder", "count", "I", false)
def tyJ15 : Nat → FieldType := fun k => match k with
  | 0 => .array .byte
  | 1 => .byte
  | 2 => .boolean
  | _ => .int
abbrev wsJ150 : List Cond := u_ws RJ15 TJ15 4
theorem nmJ15 : ∀ a, a < 4 → ∀ b, b < 4 → a ≠ b → (TJ15 a).2.1 ≠ (TJ15 b).2.1 := by decide +kernel
theorem tyJ15_ok : ∀ k, k < 4 → parseFieldDescriptor (TJ15 k).2.2.1 = some (tyJ15 k) := by decide +kernel
abbrev cJ15_init : ByteArray := prog_34_method_2_code
def yJ15_init : MethodName := ⟨RJ15, "<init>", "(I)V"⟩
def dkwJ15_init_0 : List UInt8 := [42, 27, 183, 0, 1, 177]
abbrev dktJ15_init_0 : List UInt8 := dkwJ15_init_0 ++ []
theorem dksJ15_init_0 : cJ15_init.data.toList.drop 0 = dktJ15_init_0 := by decide +kernel
theorem dJ15_init_0 : decode cJ15_init 0 = .ok (.aload_n 0, 1) := dk_42 (dk_at dksJ15_init_0 0 rfl rfl)
theorem dJ15_init_1 : decode cJ15_init 1 = .ok (.iload_n 1, 1) := dk_27 (dk_at dksJ15_init_0 1 rfl rfl)
theorem dJ15_init_2 : decode cJ15_init 2 = .ok (.invokespecial 1, 3) := dk_183 0 1 (dk_at dksJ15_init_0 2 rfl rfl)
theorem dJ15_init_5 : decode cJ15_init 5 = .ok (.return_, 1) := dk_177 (dk_at dksJ15_init_0 5 rfl rfl)
abbrev cJ15_append : ByteArray := prog_34_method_14_code
def yJ15_append : MethodName := ⟨RJ15, "append", "(C)Ljava/lang/StringBuilder;"⟩
def dkwJ15_append_0 : List UInt8 := [42, 27, 183, 0, 50, 87, 42, 176]
abbrev dktJ15_append_0 : List UInt8 := dkwJ15_append_0 ++ []
theorem dksJ15_append_0 : cJ15_append.data.toList.drop 0 = dktJ15_append_0 := by decide +kernel
theorem dJ15_append_0 : decode cJ15_append 0 = .ok (.aload_n 0, 1) := dk_42 (dk_at dksJ15_append_0 0 rfl rfl)
theorem dJ15_append_1 : decode cJ15_append 1 = .ok (.iload_n 1, 1) := dk_27 (dk_at dksJ15_append_0 1 rfl rfl)
theorem dJ15_append_2 : decode cJ15_append 2 = .ok (.invokespecial 50, 3) := dk_183 0 50 (dk_at dksJ15_append_0 2 rfl rfl)
theorem dJ15_append_5 : decode cJ15_append 5 = .ok (.pop, 1) := dk_87 (dk_at dksJ15_append_0 5 rfl rfl)
theorem dJ15_append_6 : decode cJ15_append 6 = .ok (.aload_n 0, 1) := dk_42 (dk_at dksJ15_append_0 6 rfl rfl)
theorem dJ15_append_7 : decode cJ15_append 7 = .ok (.areturn, 1) := dk_176 (dk_at dksJ15_append_0 7 rfl rfl)
abbrev cJ15_toString : ByteArray := prog_34_method_42_code
def yJ15_toString : MethodName := ⟨RJ15, "toString", "()Ljava/lang/String;"⟩
def dkwJ15_toString_0 : List UInt8 := [187, 0, 18, 89, 42, 183, 0, 137, 176]
abbrev dktJ15_toString_0 : List UInt8 := dkwJ15_toString_0 ++ []
theorem dksJ15_toString_0 : cJ15_toString.data.toList.drop 0 = dktJ15_toString_0 := by decide +kernel
theorem dJ15_toString_0 : decode cJ15_toString 0 = .ok (.new 18, 3) := dk_187 0 18 (dk_at dksJ15_toString_0 0 rfl rfl)
theorem dJ15_toString_3 : decode cJ15_toString 3 = .ok (.dup, 1) := dk_89 (dk_at dksJ15_toString_0 3 rfl rfl)
theorem dJ15_toString_4 : decode cJ15_toString 4 = .ok (.aload_n 0, 1) := dk_42 (dk_at dksJ15_toString_0 4 rfl rfl)
theorem dJ15_toString_5 : decode cJ15_toString 5 = .ok (.invokespecial 137, 3) := dk_183 0 137 (dk_at dksJ15_toString_0 5 rfl rfl)
theorem dJ15_toString_8 : decode cJ15_toString 8 = .ok (.areturn, 1) := dk_176 (dk_at dksJ15_toString_0 8 rfl rfl)
abbrev cJ15_length : ByteArray := prog_34_method_93_code
def yJ15_length : MethodName := ⟨RJ15, "length", "()I"⟩
theorem dJ15_length_0 : decode cJ15_length 0 = .ok (.aload_n 0, 1) := by decide +kernel
theorem dJ15_length_1 : decode cJ15_length 1 = .ok (.invokespecial 343, 3) := by decide +kernel
theorem dJ15_length_4 : decode cJ15_length 4 = .ok (.ireturn, 1) := by decide +kernel
abbrev cJ15_init_2 : ByteArray := prog_34_method_1_code
def yJ15_init_2 : MethodName := ⟨RJ15, "<init>", "()V"⟩
def dkwJ15_init_2_0 : List UInt8 := [42, 16, 16, 183, 0, 1, 177]
abbrev dktJ15_init_2_0 : List UInt8 := dkwJ15_init_2_0 ++ []
theorem dksJ15_init_2_0 : cJ15_init_2.data.toList.drop 0 = dktJ15_init_2_0 := by decide +kernel
theorem dJ15_init_2_0 : decode cJ15_init_2 0 = .ok (.aload_n 0, 1) := dk_42 (dk_at dksJ15_init_2_0 0 rfl rfl)
theorem dJ15_init_2_1 : decode cJ15_init_2 1 = .ok (.bipush 16, 2) := dk_16 16 (dk_at dksJ15_init_2_0 1 rfl rfl)
theorem dJ15_init_2_3 : decode cJ15_init_2 3 = .ok (.invokespecial 1, 3) := dk_183 0 1 (dk_at dksJ15_init_2_0 3 rfl rfl)
theorem dJ15_init_2_6 : decode cJ15_init_2 6 = .ok (.return_, 1) := dk_177 (dk_at dksJ15_init_2_0 6 rfl rfl)
abbrev cJ15_append_2 : ByteArray := prog_34_method_7_code
def yJ15_append_2 : MethodName := ⟨RJ15, "append", "(Ljava/lang/String;)Ljava/lang/StringBuilder;"⟩
def dkwJ15_append_2_0 : List UInt8 := [42, 43, 183, 0, 29, 87, 42, 176]
abbrev dktJ15_append_2_0 : List UInt8 := dkwJ15_append_2_0 ++ []
theorem dksJ15_append_2_0 : cJ15_append_2.data.toList.drop 0 = dktJ15_append_2_0 := by decide +kernel
theorem dJ15_append_2_0 : decode cJ15_append_2 0 = .ok (.aload_n 0, 1) := dk_42 (dk_at dksJ15_append_2_0 0 rfl rfl)
theorem dJ15_append_2_1 : decode cJ15_append_2 1 = .ok (.aload_n 1, 1) := dk_43 (dk_at dksJ15_append_2_0 1 rfl rfl)
theorem dJ15_append_2_2 : decode cJ15_append_2 2 = .ok (.invokespecial 29, 3) := dk_183 0 29 (dk_at dksJ15_append_2_0 2 rfl rfl)
theorem dJ15_append_2_5 : decode cJ15_append_2 5 = .ok (.pop, 1) := dk_87 (dk_at dksJ15_append_2_0 5 rfl rfl)
theorem dJ15_append_2_6 : decode cJ15_append_2 6 = .ok (.aload_n 0, 1) := dk_42 (dk_at dksJ15_append_2_0 6 rfl rfl)
theorem dJ15_append_2_7 : decode cJ15_append_2 7 = .ok (.areturn, 1) := dk_176 (dk_at dksJ15_append_2_0 7 rfl rfl)
abbrev cJ15_append_3 : ByteArray := prog_34_method_15_code
def yJ15_append_3 : MethodName := ⟨RJ15, "append", "(I)Ljava/lang/StringBuilder;"⟩
def dkwJ15_append_3_0 : List UInt8 := [42, 27, 183, 0, 53, 87, 42, 176]
abbrev dktJ15_append_3_0 : List UInt8 := dkwJ15_append_3_0 ++ []
theorem dksJ15_append_3_0 : cJ15_append_3.data.toList.drop 0 = dktJ15_append_3_0 := by decide +kernel
theorem dJ15_append_3_0 : decode cJ15_append_3 0 = .ok (.aload_n 0, 1) := dk_42 (dk_at dksJ15_append_3_0 0 rfl rfl)
theorem dJ15_append_3_1 : decode cJ15_append_3 1 = .ok (.iload_n 1, 1) := dk_27 (dk_at dksJ15_append_3_0 1 rfl rfl)
theorem dJ15_append_3_2 : decode cJ15_append_3 2 = .ok (.invokespecial 53, 3) := dk_183 0 53 (dk_at dksJ15_append_3_0 2 rfl rfl)
theorem dJ15_append_3_5 : decode cJ15_append_3 5 = .ok (.pop, 1) := dk_87 (dk_at dksJ15_append_3_0 5 rfl rfl)
theorem dJ15_append_3_6 : decode cJ15_append_3 6 = .ok (.aload_n 0, 1) := dk_42 (dk_at dksJ15_append_3_0 6 rfl rfl)
theorem dJ15_append_3_7 : decode cJ15_append_3 7 = .ok (.areturn, 1) := dk_176 (dk_at dksJ15_append_3_0 7 rfl rfl)
theorem q116 : (Jvm.Cond.initialized "java/lang/StringBuilder") ∈ lw_all := lw_g (lw_at lw_m1 21 rfl) rfl
theorem q466 : (Jvm.Cond.selects "java/lang/StringBuilder" ({ cls := "java/lang/Object", name := "getClass", desc := "()Ljava/lang/Class;" } : Jvm.MethodName) ({ cls := "java/lang/Object", name := "getClass", desc := "()Ljava/lang/Class;" } : Jvm.MethodName)) ∈ lw_all := lw_g (lw_at lw_m2 131 rfl) rfl
theorem q541 : (Jvm.Cond.instantiable "java/lang/StringBuilder" (4 : Nat)) ∈ lw_all := lw_g (lw_at lw_m2 206 rfl) rfl
theorem q543 : (Jvm.Cond.instanceMethod ({ cls := "java/lang/StringBuilder", name := "<init>", desc := "(I)V" } : Jvm.MethodName)) ∈ lw_all := lw_g (lw_at lw_m2 208 rfl) rfl
theorem q544 : (Jvm.Cond.code ({ cls := "java/lang/StringBuilder", name := "<init>", desc := "(I)V" } : Jvm.MethodName) prog_34_method_2_code (2 : Nat) (Option.none : Option Jvm.ClassFile.FieldType)) ∈ lw_all := lw_g (lw_at lw_m2 209 rfl) rfl
theorem q545 : (Jvm.Cond.methodLink "java/lang/StringBuilder" (1 : Nat) ({ cls := "java/lang/AbstractStringBuilder", name := "<init>", desc := "(I)V" } : Jvm.MethodName)) ∈ lw_all := lw_g (lw_at lw_m2 210 rfl) rfl
theorem q562 : (Jvm.Cond.lays "java/lang/StringBuilder" "java/lang/AbstractStringBuilder" "value" "[B") ∈ lw_all := lw_g (lw_at lw_m2 227 rfl) rfl
theorem q564 : (Jvm.Cond.lays "java/lang/StringBuilder" "java/lang/AbstractStringBuilder" "coder" "B") ∈ lw_all := lw_g (lw_at lw_m2 229 rfl) rfl
theorem q566 : (Jvm.Cond.lays "java/lang/StringBuilder" "java/lang/AbstractStringBuilder" "maybeLatin1" "Z") ∈ lw_all := lw_g (lw_at lw_m2 231 rfl) rfl
theorem q568 : (Jvm.Cond.lays "java/lang/StringBuilder" "java/lang/AbstractStringBuilder" "count" "I") ∈ lw_all := lw_g (lw_at lw_m2 233 rfl) rfl
theorem q570 : (Jvm.Cond.superclass "java/lang/StringBuilder" "java/lang/AbstractStringBuilder") ∈ lw_all := lw_g (lw_at lw_m2 235 rfl) rfl
theorem q572 : (Jvm.Cond.instanceMethod ({ cls := "java/lang/StringBuilder", name := "append", desc := "(C)Ljava/lang/StringBuilder;" } : Jvm.MethodName)) ∈ lw_all := lw_g (lw_at lw_m2 237 rfl) rfl
theorem q573 : (Jvm.Cond.selects "java/lang/StringBuilder" ({ cls := "java/lang/StringBuilder", name := "append", desc := "(C)Ljava/lang/StringBuilder;" } : Jvm.MethodName) ({ cls := "java/lang/StringBuilder", name := "append", desc := "(C)Ljava/lang/StringBuilder;" } : Jvm.MethodName)) ∈ lw_all := lw_g (lw_at lw_m2 238 rfl) rfl
theorem q574 : (Jvm.Cond.code ({ cls := "java/lang/StringBuilder", name := "append", desc := "(C)Ljava/lang/StringBuilder;" } : Jvm.MethodName) prog_34_method_14_code (2 : Nat) (Option.some (Jvm.ClassFile.FieldType.object "java/lang/StringBuilder"))) ∈ lw_all := lw_g (lw_at lw_m2 239 rfl) rfl
theorem q575 : (Jvm.Cond.methodLink "java/lang/StringBuilder" (50 : Nat) ({ cls := "java/lang/AbstractStringBuilder", name := "append", desc := "(C)Ljava/lang/AbstractStringBuilder;" } : Jvm.MethodName)) ∈ lw_all := lw_g (lw_at lw_m3 0 rfl) rfl
theorem q616 : (Jvm.Cond.selects "java/lang/StringBuilder" ({ cls := "java/lang/AbstractStringBuilder", name := "isLatin1", desc := "()Z" } : Jvm.MethodName) ({ cls := "java/lang/AbstractStringBuilder", name := "isLatin1", desc := "()Z" } : Jvm.MethodName)) ∈ lw_all := lw_g (lw_at lw_m3 41 rfl) rfl
theorem q667 : (Jvm.Cond.instanceMethod ({ cls := "java/lang/StringBuilder", name := "toString", desc := "()Ljava/lang/String;" } : Jvm.MethodName)) ∈ lw_all := lw_g (lw_at lw_m3 92 rfl) rfl
theorem q668 : (Jvm.Cond.selects "java/lang/StringBuilder" ({ cls := "java/lang/StringBuilder", name := "toString", desc := "()Ljava/lang/String;" } : Jvm.MethodName) ({ cls := "java/lang/StringBuilder", name := "toString", desc := "()Ljava/lang/String;" } : Jvm.MethodName)) ∈ lw_all := lw_g (lw_at lw_m3 93 rfl) rfl
theorem q669 : (Jvm.Cond.code ({ cls := "java/lang/StringBuilder", name := "toString", desc := "()Ljava/lang/String;" } : Jvm.MethodName) prog_34_method_42_code (1 : Nat) (Option.some (Jvm.ClassFile.FieldType.object "java/lang/String"))) ∈ lw_all := lw_g (lw_at lw_m3 94 rfl) rfl
theorem q670 : (Jvm.Cond.classLink "java/lang/StringBuilder" (18 : Nat) "java/lang/String") ∈ lw_all := lw_g (lw_at lw_m3 95 rfl) rfl
theorem q672 : (Jvm.Cond.methodLink "java/lang/StringBuilder" (137 : Nat) ({ cls := "java/lang/String", name := "<init>", desc := "(Ljava/lang/StringBuilder;)V" } : Jvm.MethodName)) ∈ lw_all := lw_g (lw_at lw_m3 97 rfl) rfl
theorem q682 : (Jvm.Cond.selects "java/lang/StringBuilder" ({ cls := "java/lang/AbstractStringBuilder", name := "getValue", desc := "()[B" } : Jvm.MethodName) ({ cls := "java/lang/AbstractStringBuilder", name := "getValue", desc := "()[B" } : Jvm.MethodName)) ∈ lw_all := lw_g (lw_at lw_m3 107 rfl) rfl
theorem q687 : (Jvm.Cond.selects "java/lang/StringBuilder" ({ cls := "java/lang/AbstractStringBuilder", name := "length", desc := "()I" } : Jvm.MethodName) ({ cls := "java/lang/StringBuilder", name := "length", desc := "()I" } : Jvm.MethodName)) ∈ lw_all := lw_g (lw_at lw_m3 112 rfl) rfl
theorem q688 : (Jvm.Cond.instanceMethod ({ cls := "java/lang/StringBuilder", name := "length", desc := "()I" } : Jvm.MethodName)) ∈ lw_all := lw_g (lw_at lw_m3 113 rfl) rfl
theorem q689 : (Jvm.Cond.code ({ cls := "java/lang/StringBuilder", name := "length", desc := "()I" } : Jvm.MethodName) prog_34_method_93_code (1 : Nat) (Option.some Jvm.ClassFile.FieldType.int)) ∈ lw_all := lw_g (lw_at lw_m3 114 rfl) rfl
theorem q690 : (Jvm.Cond.methodLink "java/lang/StringBuilder" (343 : Nat) ({ cls := "java/lang/AbstractStringBuilder", name := "length", desc := "()I" } : Jvm.MethodName)) ∈ lw_all := lw_g (lw_at lw_m3 115 rfl) rfl
theorem q921 : (Jvm.Cond.instanceMethod ({ cls := "java/lang/StringBuilder", name := "<init>", desc := "()V" } : Jvm.MethodName)) ∈ lw_all := lw_g (lw_at lw_m4 106 rfl) rfl
theorem q922 : (Jvm.Cond.code ({ cls := "java/lang/StringBuilder", name := "<init>", desc := "()V" } : Jvm.MethodName) prog_34_method_1_code (1 : Nat) (Option.none : Option Jvm.ClassFile.FieldType)) ∈ lw_all := lw_g (lw_at lw_m4 107 rfl) rfl
theorem q925 : (Jvm.Cond.instanceMethod ({ cls := "java/lang/StringBuilder", name := "append", desc := "(Ljava/lang/String;)Ljava/lang/StringBuilder;" } : Jvm.MethodName)) ∈ lw_all := lw_g (lw_at lw_m4 110 rfl) rfl
theorem q926 : (Jvm.Cond.selects "java/lang/StringBuilder" ({ cls := "java/lang/StringBuilder", name := "append", desc := "(Ljava/lang/String;)Ljava/lang/StringBuilder;" } : Jvm.MethodName) ({ cls := "java/lang/StringBuilder", name := "append", desc := "(Ljava/lang/String;)Ljava/lang/StringBuilder;" } : Jvm.MethodName)) ∈ lw_all := lw_g (lw_at lw_m4 111 rfl) rfl
theorem q927 : (Jvm.Cond.code ({ cls := "java/lang/StringBuilder", name := "append", desc := "(Ljava/lang/String;)Ljava/lang/StringBuilder;" } : Jvm.MethodName) prog_34_method_7_code (2 : Nat) (Option.some (Jvm.ClassFile.FieldType.object "java/lang/StringBuilder"))) ∈ lw_all := lw_g (lw_at lw_m4 112 rfl) rfl
theorem q928 : (Jvm.Cond.methodLink "java/lang/StringBuilder" (29 : Nat) ({ cls := "java/lang/AbstractStringBuilder", name := "append", desc := "(Ljava/lang/String;)Ljava/lang/AbstractStringBuilder;" } : Jvm.MethodName)) ∈ lw_all := lw_g (lw_at lw_m4 113 rfl) rfl
theorem q971 : (Jvm.Cond.instanceMethod ({ cls := "java/lang/StringBuilder", name := "append", desc := "(I)Ljava/lang/StringBuilder;" } : Jvm.MethodName)) ∈ lw_all := lw_g (lw_at lw_m4 156 rfl) rfl
theorem q972 : (Jvm.Cond.selects "java/lang/StringBuilder" ({ cls := "java/lang/StringBuilder", name := "append", desc := "(I)Ljava/lang/StringBuilder;" } : Jvm.MethodName) ({ cls := "java/lang/StringBuilder", name := "append", desc := "(I)Ljava/lang/StringBuilder;" } : Jvm.MethodName)) ∈ lw_all := lw_g (lw_at lw_m4 157 rfl) rfl
theorem q973 : (Jvm.Cond.code ({ cls := "java/lang/StringBuilder", name := "append", desc := "(I)Ljava/lang/StringBuilder;" } : Jvm.MethodName) prog_34_method_15_code (2 : Nat) (Option.some (Jvm.ClassFile.FieldType.object "java/lang/StringBuilder"))) ∈ lw_all := lw_g (lw_at lw_m4 158 rfl) rfl
theorem q974 : (Jvm.Cond.methodLink "java/lang/StringBuilder" (53 : Nat) ({ cls := "java/lang/AbstractStringBuilder", name := "append", desc := "(I)Ljava/lang/AbstractStringBuilder;" } : Jvm.MethodName)) ∈ lw_all := lw_g (lw_at lw_m4 159 rfl) rfl
theorem q2709 : (Jvm.Cond.castable "java/lang/StringBuilder" "java/lang/Object") ∈ lw_tbl := lw_at lw_m11 214 rfl
theorem in_J15 : ∀ w ∈ wsJ150, w ∈ lw_all := lw_in wsJ150 [562, 564, 566, 568] (by decide +kernel) (by decide +kernel)

/-! java/lang/String -/
set_option maxRecDepth 100000
def RJ16 : String := "java/lang/String"
def TJ16 : u_T := fun k => match k with
  | 0 => ("java/lang/String", "value", "[B", true)
  | 1 => ("java/lang/String", "coder", "B", true)
  | 2 => ("java/lang/String", "hash", "I", false)
  | _ => ("java/lang/String", "hashIsZero", "Z", false)
def tyJ16 : Nat → FieldType := fun k => match k with
  | 0 => .array .byte
  | 1 => .byte
  | 2 => .int
  | _ => .boolean
abbrev wsJ160 : List Cond := u_ws RJ16 TJ16 4
theorem nmJ16 : ∀ a, a < 4 → ∀ b, b < 4 → a ≠ b → (TJ16 a).2.1 ≠ (TJ16 b).2.1 := by decide +kernel
theorem tyJ16_ok : ∀ k, k < 4 → parseFieldDescriptor (TJ16 k).2.2.1 = some (tyJ16 k) := by decide +kernel
abbrev cJ16_checkBoundsOffCount : ByteArray := prog_33_method_157_code
def yJ16_checkBoundsOffCount : MethodName := ⟨RJ16, "checkBoundsOffCount", "(III)I"⟩
def dkwJ16_checkBoundsOffCount_0 : List UInt8 := [26, 27, 28, 178, 4, 29, 184, 4, 41, 172]
abbrev dktJ16_checkBoundsOffCount_0 : List UInt8 := dkwJ16_checkBoundsOffCount_0 ++ []
theorem dksJ16_checkBoundsOffCount_0 : cJ16_checkBoundsOffCount.data.toList.drop 0 = dktJ16_checkBoundsOffCount_0 := by decide +kernel
theorem dJ16_checkBoundsOffCount_0 : decode cJ16_checkBoundsOffCount 0 = .ok (.iload_n 0, 1) := dk_26 (dk_at dksJ16_checkBoundsOffCount_0 0 rfl rfl)
theorem dJ16_checkBoundsOffCount_1 : decode cJ16_checkBoundsOffCount 1 = .ok (.iload_n 1, 1) := dk_27 (dk_at dksJ16_checkBoundsOffCount_0 1 rfl rfl)
theorem dJ16_checkBoundsOffCount_2 : decode cJ16_checkBoundsOffCount 2 = .ok (.iload_n 2, 1) := dk_28 (dk_at dksJ16_checkBoundsOffCount_0 2 rfl rfl)
theorem dJ16_checkBoundsOffCount_3 : decode cJ16_checkBoundsOffCount 3 = .ok (.getstatic 1053, 3) := dk_178 4 29 (dk_at dksJ16_checkBoundsOffCount_0 3 rfl rfl)
theorem dJ16_checkBoundsOffCount_6 : decode cJ16_checkBoundsOffCount 6 = .ok (.invokestatic 1065, 3) := dk_184 4 41 (dk_at dksJ16_checkBoundsOffCount_0 6 rfl rfl)
theorem dJ16_checkBoundsOffCount_9 : decode cJ16_checkBoundsOffCount 9 = .ok (.ireturn, 1) := dk_172 (dk_at dksJ16_checkBoundsOffCount_0 9 rfl rfl)
abbrev cJ16_checkIndex : ByteArray := prog_33_method_155_code
def yJ16_checkIndex : MethodName := ⟨RJ16, "checkIndex", "(II)V"⟩
def dkwJ16_checkIndex_0 : List UInt8 := [26, 27, 178, 4, 29, 184, 4, 35, 87, 177]
abbrev dktJ16_checkIndex_0 : List UInt8 := dkwJ16_checkIndex_0 ++ []
theorem dksJ16_checkIndex_0 : cJ16_checkIndex.data.toList.drop 0 = dktJ16_checkIndex_0 := by decide +kernel
theorem dJ16_checkIndex_0 : decode cJ16_checkIndex 0 = .ok (.iload_n 0, 1) := dk_26 (dk_at dksJ16_checkIndex_0 0 rfl rfl)
theorem dJ16_checkIndex_1 : decode cJ16_checkIndex 1 = .ok (.iload_n 1, 1) := dk_27 (dk_at dksJ16_checkIndex_0 1 rfl rfl)
theorem dJ16_checkIndex_2 : decode cJ16_checkIndex 2 = .ok (.getstatic 1053, 3) := dk_178 4 29 (dk_at dksJ16_checkIndex_0 2 rfl rfl)
theorem dJ16_checkIndex_5 : decode cJ16_checkIndex 5 = .ok (.invokestatic 1059, 3) := dk_184 4 35 (dk_at dksJ16_checkIndex_0 5 rfl rfl)
theorem dJ16_checkIndex_8 : decode cJ16_checkIndex 8 = .ok (.pop, 1) := dk_87 (dk_at dksJ16_checkIndex_0 8 rfl rfl)
theorem dJ16_checkIndex_9 : decode cJ16_checkIndex 9 = .ok (.return_, 1) := dk_177 (dk_at dksJ16_checkIndex_0 9 rfl rfl)
abbrev cJ16_init : ByteArray := prog_33_method_53_code
def yJ16_init : MethodName := ⟨RJ16, "<init>", "(Ljava/lang/StringBuilder;)V"⟩
def dkwJ16_init_0 : List UInt8 := [42, 43, 1, 183, 1, 233, 177]
abbrev dktJ16_init_0 : List UInt8 := dkwJ16_init_0 ++ []
theorem dksJ16_init_0 : cJ16_init.data.toList.drop 0 = dktJ16_init_0 := by decide +kernel
theorem dJ16_init_0 : decode cJ16_init 0 = .ok (.aload_n 0, 1) := dk_42 (dk_at dksJ16_init_0 0 rfl rfl)
theorem dJ16_init_1 : decode cJ16_init 1 = .ok (.aload_n 1, 1) := dk_43 (dk_at dksJ16_init_0 1 rfl rfl)
theorem dJ16_init_2 : decode cJ16_init 2 = .ok (.aconst_null, 1) := dk_1 (dk_at dksJ16_init_0 2 rfl rfl)
theorem dJ16_init_3 : decode cJ16_init 3 = .ok (.invokespecial 489, 3) := dk_183 1 233 (dk_at dksJ16_init_0 3 rfl rfl)
theorem dJ16_init_6 : decode cJ16_init 6 = .ok (.return_, 1) := dk_177 (dk_at dksJ16_init_0 6 rfl rfl)
abbrev cJ16_init_2 : ByteArray := prog_33_method_150_code
def yJ16_init_2 : MethodName := ⟨RJ16, "<init>", "(Ljava/lang/AbstractStringBuilder;Ljava/lang/Void;)V"⟩
def dkwJ16_init_2_4 : List UInt8 := [181, 0, 9, 177]
abbrev dktJ16_init_2_4 : List UInt8 := dkwJ16_init_2_4 ++ []
def dkwJ16_init_2_3 : List UInt8 := [184, 0, 47, 181, 0, 15, 177, 42, 4, 181, 0, 15, 42, 45, 3, 21, 4, 4, 120, 184, 0, 54]
abbrev dktJ16_init_2_3 : List UInt8 := dkwJ16_init_2_3 ++ dktJ16_init_2_4
def dkwJ16_init_2_2 : List UInt8 := [180, 4, 24, 153, 0, 28, 42, 45, 3, 21, 4, 184, 4, 27, 181, 0, 9, 42, 42, 180, 0, 9, 21, 4]
abbrev dktJ16_init_2_2 : List UInt8 := dkwJ16_init_2_2 ++ dktJ16_init_2_3
def dkwJ16_init_2_1 : List UInt8 := [181, 0, 15, 42, 45, 3, 21, 4, 184, 0, 54, 181, 0, 9, 167, 0, 59, 178, 0, 38, 153, 0, 35, 43]
abbrev dktJ16_init_2_1 : List UInt8 := dkwJ16_init_2_1 ++ dktJ16_init_2_2
def dkwJ16_init_2_0 : List UInt8 := [42, 183, 0, 1, 43, 182, 2, 40, 78, 43, 182, 2, 37, 54, 4, 43, 182, 4, 23, 153, 0, 22, 42, 3]
abbrev dktJ16_init_2_0 : List UInt8 := dkwJ16_init_2_0 ++ dktJ16_init_2_1
theorem dksJ16_init_2_0 : cJ16_init_2.data.toList.drop 0 = dktJ16_init_2_0 := by decide +kernel
theorem dksJ16_init_2_1 : cJ16_init_2.data.toList.drop 24 = dktJ16_init_2_1 := dk_seg dksJ16_init_2_0 24 rfl rfl
theorem dksJ16_init_2_2 : cJ16_init_2.data.toList.drop 48 = dktJ16_init_2_2 := dk_seg dksJ16_init_2_1 24 rfl rfl
theorem dksJ16_init_2_3 : cJ16_init_2.data.toList.drop 72 = dktJ16_init_2_3 := dk_seg dksJ16_init_2_2 24 rfl rfl
theorem dksJ16_init_2_4 : cJ16_init_2.data.toList.drop 94 = dktJ16_init_2_4 := dk_seg dksJ16_init_2_3 22 rfl rfl
theorem dJ16_init_2_0 : decode cJ16_init_2 0 = .ok (.aload_n 0, 1) := dk_42 (dk_at dksJ16_init_2_0 0 rfl rfl)
theorem dJ16_init_2_1 : decode cJ16_init_2 1 = .ok (.invokespecial 1, 3) := dk_183 0 1 (dk_at dksJ16_init_2_0 1 rfl rfl)
theorem dJ16_init_2_4 : decode cJ16_init_2 4 = .ok (.aload_n 1, 1) := dk_43 (dk_at dksJ16_init_2_0 4 rfl rfl)
theorem dJ16_init_2_5 : decode cJ16_init_2 5 = .ok (.invokevirtual 552, 3) := dk_182 2 40 (dk_at dksJ16_init_2_0 5 rfl rfl)
theorem dJ16_init_2_8 : decode cJ16_init_2 8 = .ok (.astore_n 3, 1) := dk_78 (dk_at dksJ16_init_2_0 8 rfl rfl)
theorem dJ16_init_2_9 : decode cJ16_init_2 9 = .ok (.aload_n 1, 1) := dk_43 (dk_at dksJ16_init_2_0 9 rfl rfl)
theorem dJ16_init_2_10 : decode cJ16_init_2 10 = .ok (.invokevirtual 549, 3) := dk_182 2 37 (dk_at dksJ16_init_2_0 10 rfl rfl)
theorem dJ16_init_2_13 : decode cJ16_init_2 13 = .ok (.istore 4, 2) := dk_54 4 (dk_at dksJ16_init_2_0 13 rfl rfl)
theorem dJ16_init_2_15 : decode cJ16_init_2 15 = .ok (.aload_n 1, 1) := dk_43 (dk_at dksJ16_init_2_0 15 rfl rfl)
theorem dJ16_init_2_16 : decode cJ16_init_2 16 = .ok (.invokevirtual 1047, 3) := dk_182 4 23 (dk_at dksJ16_init_2_0 16 rfl rfl)
theorem dJ16_init_2_19 : decode cJ16_init_2 19 = .ok (.ifCond .eq 22, 3) := dk_153 0 22 (dk_at dksJ16_init_2_0 19 rfl rfl)
theorem dJ16_init_2_22 : decode cJ16_init_2 22 = .ok (.aload_n 0, 1) := dk_42 (dk_at dksJ16_init_2_0 22 rfl rfl)
theorem dJ16_init_2_23 : decode cJ16_init_2 23 = .ok (.iconst 0, 1) := dk_3 (dk_at dksJ16_init_2_0 23 rfl rfl)
theorem dJ16_init_2_24 : decode cJ16_init_2 24 = .ok (.putfield 15, 3) := dk_181 0 15 (dk_at dksJ16_init_2_1 0 rfl rfl)
theorem dJ16_init_2_27 : decode cJ16_init_2 27 = .ok (.aload_n 0, 1) := dk_42 (dk_at dksJ16_init_2_1 3 rfl rfl)
theorem dJ16_init_2_28 : decode cJ16_init_2 28 = .ok (.aload_n 3, 1) := dk_45 (dk_at dksJ16_init_2_1 4 rfl rfl)
theorem dJ16_init_2_29 : decode cJ16_init_2 29 = .ok (.iconst 0, 1) := dk_3 (dk_at dksJ16_init_2_1 5 rfl rfl)
theorem dJ16_init_2_30 : decode cJ16_init_2 30 = .ok (.iload 4, 2) := dk_21 4 (dk_at dksJ16_init_2_1 6 rfl rfl)
theorem dJ16_init_2_32 : decode cJ16_init_2 32 = .ok (.invokestatic 54, 3) := dk_184 0 54 (dk_at dksJ16_init_2_1 8 rfl rfl)
theorem dJ16_init_2_35 : decode cJ16_init_2 35 = .ok (.putfield 9, 3) := dk_181 0 9 (dk_at dksJ16_init_2_1 11 rfl rfl)
theorem dJ16_init_2_38 : decode cJ16_init_2 38 = .ok (.goto 59, 3) := dk_167 0 59 (dk_at dksJ16_init_2_1 14 rfl rfl)
theorem dJ16_init_2_41 : decode cJ16_init_2 41 = .ok (.getstatic 38, 3) := dk_178 0 38 (dk_at dksJ16_init_2_1 17 rfl rfl)
theorem dJ16_init_2_44 : decode cJ16_init_2 44 = .ok (.ifCond .eq 35, 3) := dk_153 0 35 (dk_at dksJ16_init_2_1 20 rfl rfl)
theorem dJ16_init_2_47 : decode cJ16_init_2 47 = .ok (.aload_n 1, 1) := dk_43 (dk_at dksJ16_init_2_1 23 rfl rfl)
theorem dJ16_init_2_48 : decode cJ16_init_2 48 = .ok (.getfield 1048, 3) := dk_180 4 24 (dk_at dksJ16_init_2_2 0 rfl rfl)
theorem dJ16_init_2_51 : decode cJ16_init_2 51 = .ok (.ifCond .eq 28, 3) := dk_153 0 28 (dk_at dksJ16_init_2_2 3 rfl rfl)
theorem dJ16_init_2_54 : decode cJ16_init_2 54 = .ok (.aload_n 0, 1) := dk_42 (dk_at dksJ16_init_2_2 6 rfl rfl)
theorem dJ16_init_2_55 : decode cJ16_init_2 55 = .ok (.aload_n 3, 1) := dk_45 (dk_at dksJ16_init_2_2 7 rfl rfl)
theorem dJ16_init_2_56 : decode cJ16_init_2 56 = .ok (.iconst 0, 1) := dk_3 (dk_at dksJ16_init_2_2 8 rfl rfl)
theorem dJ16_init_2_57 : decode cJ16_init_2 57 = .ok (.iload 4, 2) := dk_21 4 (dk_at dksJ16_init_2_2 9 rfl rfl)
theorem dJ16_init_2_59 : decode cJ16_init_2 59 = .ok (.invokestatic 1051, 3) := dk_184 4 27 (dk_at dksJ16_init_2_2 11 rfl rfl)
theorem dJ16_init_2_62 : decode cJ16_init_2 62 = .ok (.putfield 9, 3) := dk_181 0 9 (dk_at dksJ16_init_2_2 14 rfl rfl)
theorem dJ16_init_2_65 : decode cJ16_init_2 65 = .ok (.aload_n 0, 1) := dk_42 (dk_at dksJ16_init_2_2 17 rfl rfl)
theorem dJ16_init_2_66 : decode cJ16_init_2 66 = .ok (.aload_n 0, 1) := dk_42 (dk_at dksJ16_init_2_2 18 rfl rfl)
theorem dJ16_init_2_67 : decode cJ16_init_2 67 = .ok (.getfield 9, 3) := dk_180 0 9 (dk_at dksJ16_init_2_2 19 rfl rfl)
theorem dJ16_init_2_70 : decode cJ16_init_2 70 = .ok (.iload 4, 2) := dk_21 4 (dk_at dksJ16_init_2_2 22 rfl rfl)
theorem dJ16_init_2_72 : decode cJ16_init_2 72 = .ok (.invokestatic 47, 3) := dk_184 0 47 (dk_at dksJ16_init_2_3 0 rfl rfl)
theorem dJ16_init_2_75 : decode cJ16_init_2 75 = .ok (.putfield 15, 3) := dk_181 0 15 (dk_at dksJ16_init_2_3 3 rfl rfl)
theorem dJ16_init_2_78 : decode cJ16_init_2 78 = .ok (.return_, 1) := dk_177 (dk_at dksJ16_init_2_3 6 rfl rfl)
theorem dJ16_init_2_79 : decode cJ16_init_2 79 = .ok (.aload_n 0, 1) := dk_42 (dk_at dksJ16_init_2_3 7 rfl rfl)
theorem dJ16_init_2_80 : decode cJ16_init_2 80 = .ok (.iconst 1, 1) := dk_4 (dk_at dksJ16_init_2_3 8 rfl rfl)
theorem dJ16_init_2_81 : decode cJ16_init_2 81 = .ok (.putfield 15, 3) := dk_181 0 15 (dk_at dksJ16_init_2_3 9 rfl rfl)
theorem dJ16_init_2_84 : decode cJ16_init_2 84 = .ok (.aload_n 0, 1) := dk_42 (dk_at dksJ16_init_2_3 12 rfl rfl)
theorem dJ16_init_2_85 : decode cJ16_init_2 85 = .ok (.aload_n 3, 1) := dk_45 (dk_at dksJ16_init_2_3 13 rfl rfl)
theorem dJ16_init_2_86 : decode cJ16_init_2 86 = .ok (.iconst 0, 1) := dk_3 (dk_at dksJ16_init_2_3 14 rfl rfl)
theorem dJ16_init_2_87 : decode cJ16_init_2 87 = .ok (.iload 4, 2) := dk_21 4 (dk_at dksJ16_init_2_3 15 rfl rfl)
theorem dJ16_init_2_89 : decode cJ16_init_2 89 = .ok (.iconst 1, 1) := dk_4 (dk_at dksJ16_init_2_3 17 rfl rfl)
theorem dJ16_init_2_90 : decode cJ16_init_2 90 = .ok (.ishl, 1) := dk_120 (dk_at dksJ16_init_2_3 18 rfl rfl)
theorem dJ16_init_2_91 : decode cJ16_init_2 91 = .ok (.invokestatic 54, 3) := dk_184 0 54 (dk_at dksJ16_init_2_3 19 rfl rfl)
theorem dJ16_init_2_94 : decode cJ16_init_2 94 = .ok (.putfield 9, 3) := dk_181 0 9 (dk_at dksJ16_init_2_4 0 rfl rfl)
theorem dJ16_init_2_97 : decode cJ16_init_2 97 = .ok (.return_, 1) := dk_177 (dk_at dksJ16_init_2_4 3 rfl rfl)
abbrev cJ16_checkBoundsBeginEnd : ByteArray := prog_33_method_158_code
def yJ16_checkBoundsBeginEnd : MethodName := ⟨RJ16, "checkBoundsBeginEnd", "(III)V"⟩
def dkwJ16_checkBoundsBeginEnd_0 : List UInt8 := [26, 27, 28, 178, 4, 29, 184, 4, 38, 87, 177]
abbrev dktJ16_checkBoundsBeginEnd_0 : List UInt8 := dkwJ16_checkBoundsBeginEnd_0 ++ []
theorem dksJ16_checkBoundsBeginEnd_0 : cJ16_checkBoundsBeginEnd.data.toList.drop 0 = dktJ16_checkBoundsBeginEnd_0 := by decide +kernel
theorem dJ16_checkBoundsBeginEnd_0 : decode cJ16_checkBoundsBeginEnd 0 = .ok (.iload_n 0, 1) := dk_26 (dk_at dksJ16_checkBoundsBeginEnd_0 0 rfl rfl)
theorem dJ16_checkBoundsBeginEnd_1 : decode cJ16_checkBoundsBeginEnd 1 = .ok (.iload_n 1, 1) := dk_27 (dk_at dksJ16_checkBoundsBeginEnd_0 1 rfl rfl)
theorem dJ16_checkBoundsBeginEnd_2 : decode cJ16_checkBoundsBeginEnd 2 = .ok (.iload_n 2, 1) := dk_28 (dk_at dksJ16_checkBoundsBeginEnd_0 2 rfl rfl)
theorem dJ16_checkBoundsBeginEnd_3 : decode cJ16_checkBoundsBeginEnd 3 = .ok (.getstatic 1053, 3) := dk_178 4 29 (dk_at dksJ16_checkBoundsBeginEnd_0 3 rfl rfl)
theorem dJ16_checkBoundsBeginEnd_6 : decode cJ16_checkBoundsBeginEnd 6 = .ok (.invokestatic 1062, 3) := dk_184 4 38 (dk_at dksJ16_checkBoundsBeginEnd_0 6 rfl rfl)
theorem dJ16_checkBoundsBeginEnd_9 : decode cJ16_checkBoundsBeginEnd 9 = .ok (.pop, 1) := dk_87 (dk_at dksJ16_checkBoundsBeginEnd_0 9 rfl rfl)
theorem dJ16_checkBoundsBeginEnd_10 : decode cJ16_checkBoundsBeginEnd 10 = .ok (.return_, 1) := dk_177 (dk_at dksJ16_checkBoundsBeginEnd_0 10 rfl rfl)
abbrev cJ16_length : ByteArray := prog_33_method_54_code
def yJ16_length : MethodName := ⟨RJ16, "length", "()I"⟩
def dkwJ16_length_0 : List UInt8 := [42, 180, 0, 9, 190, 42, 182, 1, 79, 122, 172]
abbrev dktJ16_length_0 : List UInt8 := dkwJ16_length_0 ++ []
theorem dksJ16_length_0 : cJ16_length.data.toList.drop 0 = dktJ16_length_0 := by decide +kernel
theorem dJ16_length_0 : decode cJ16_length 0 = .ok (.aload_n 0, 1) := dk_42 (dk_at dksJ16_length_0 0 rfl rfl)
theorem dJ16_length_1 : decode cJ16_length 1 = .ok (.getfield 9, 3) := dk_180 0 9 (dk_at dksJ16_length_0 1 rfl rfl)
theorem dJ16_length_4 : decode cJ16_length 4 = .ok (.arraylength, 1) := dk_190 (dk_at dksJ16_length_0 4 rfl rfl)
theorem dJ16_length_5 : decode cJ16_length 5 = .ok (.aload_n 0, 1) := dk_42 (dk_at dksJ16_length_0 5 rfl rfl)
theorem dJ16_length_6 : decode cJ16_length 6 = .ok (.invokevirtual 335, 3) := dk_182 1 79 (dk_at dksJ16_length_0 6 rfl rfl)
theorem dJ16_length_9 : decode cJ16_length 9 = .ok (.ishr, 1) := dk_122 (dk_at dksJ16_length_0 9 rfl rfl)
theorem dJ16_length_10 : decode cJ16_length 10 = .ok (.ireturn, 1) := dk_172 (dk_at dksJ16_length_0 10 rfl rfl)
abbrev cJ16_coder : ByteArray := prog_33_method_152_code
def yJ16_coder : MethodName := ⟨RJ16, "coder", "()B"⟩
def dkwJ16_coder_0 : List UInt8 := [178, 0, 38, 153, 0, 10, 42, 180, 0, 15, 167, 0, 4, 4, 172]
abbrev dktJ16_coder_0 : List UInt8 := dkwJ16_coder_0 ++ []
theorem dksJ16_coder_0 : cJ16_coder.data.toList.drop 0 = dktJ16_coder_0 := by decide +kernel
theorem dJ16_coder_0 : decode cJ16_coder 0 = .ok (.getstatic 38, 3) := dk_178 0 38 (dk_at dksJ16_coder_0 0 rfl rfl)
theorem dJ16_coder_3 : decode cJ16_coder 3 = .ok (.ifCond .eq 10, 3) := dk_153 0 10 (dk_at dksJ16_coder_0 3 rfl rfl)
theorem dJ16_coder_6 : decode cJ16_coder 6 = .ok (.aload_n 0, 1) := dk_42 (dk_at dksJ16_coder_0 6 rfl rfl)
theorem dJ16_coder_7 : decode cJ16_coder 7 = .ok (.getfield 15, 3) := dk_180 0 15 (dk_at dksJ16_coder_0 7 rfl rfl)
theorem dJ16_coder_10 : decode cJ16_coder 10 = .ok (.goto 4, 3) := dk_167 0 4 (dk_at dksJ16_coder_0 10 rfl rfl)
theorem dJ16_coder_13 : decode cJ16_coder 13 = .ok (.iconst 1, 1) := dk_4 (dk_at dksJ16_coder_0 13 rfl rfl)
theorem dJ16_coder_14 : decode cJ16_coder 14 = .ok (.ireturn, 1) := dk_172 (dk_at dksJ16_coder_0 14 rfl rfl)
abbrev cJ16_getBytes : ByteArray := prog_33_method_147_code
def yJ16_getBytes : MethodName := ⟨RJ16, "getBytes", "([BIB)V"⟩
def dkwJ16_getBytes_1 : List UInt8 := [184, 0, 212, 167, 0, 18, 42, 180, 0, 9, 3, 43, 28, 42, 180, 0, 9, 190, 184, 0, 106, 177]
abbrev dktJ16_getBytes_1 : List UInt8 := dkwJ16_getBytes_1 ++ []
def dkwJ16_getBytes_0 : List UInt8 := [42, 182, 1, 79, 29, 160, 0, 23, 42, 180, 0, 9, 3, 43, 28, 29, 120, 42, 180, 0, 9, 190]
abbrev dktJ16_getBytes_0 : List UInt8 := dkwJ16_getBytes_0 ++ dktJ16_getBytes_1
theorem dksJ16_getBytes_0 : cJ16_getBytes.data.toList.drop 0 = dktJ16_getBytes_0 := by decide +kernel
theorem dksJ16_getBytes_1 : cJ16_getBytes.data.toList.drop 22 = dktJ16_getBytes_1 := dk_seg dksJ16_getBytes_0 22 rfl rfl
theorem dJ16_getBytes_0 : decode cJ16_getBytes 0 = .ok (.aload_n 0, 1) := dk_42 (dk_at dksJ16_getBytes_0 0 rfl rfl)
theorem dJ16_getBytes_1 : decode cJ16_getBytes 1 = .ok (.invokevirtual 335, 3) := dk_182 1 79 (dk_at dksJ16_getBytes_0 1 rfl rfl)
theorem dJ16_getBytes_4 : decode cJ16_getBytes 4 = .ok (.iload_n 3, 1) := dk_29 (dk_at dksJ16_getBytes_0 4 rfl rfl)
theorem dJ16_getBytes_5 : decode cJ16_getBytes 5 = .ok (.if_icmp .ne 23, 3) := dk_160 0 23 (dk_at dksJ16_getBytes_0 5 rfl rfl)
theorem dJ16_getBytes_8 : decode cJ16_getBytes 8 = .ok (.aload_n 0, 1) := dk_42 (dk_at dksJ16_getBytes_0 8 rfl rfl)
theorem dJ16_getBytes_9 : decode cJ16_getBytes 9 = .ok (.getfield 9, 3) := dk_180 0 9 (dk_at dksJ16_getBytes_0 9 rfl rfl)
theorem dJ16_getBytes_12 : decode cJ16_getBytes 12 = .ok (.iconst 0, 1) := dk_3 (dk_at dksJ16_getBytes_0 12 rfl rfl)
theorem dJ16_getBytes_13 : decode cJ16_getBytes 13 = .ok (.aload_n 1, 1) := dk_43 (dk_at dksJ16_getBytes_0 13 rfl rfl)
theorem dJ16_getBytes_14 : decode cJ16_getBytes 14 = .ok (.iload_n 2, 1) := dk_28 (dk_at dksJ16_getBytes_0 14 rfl rfl)
theorem dJ16_getBytes_15 : decode cJ16_getBytes 15 = .ok (.iload_n 3, 1) := dk_29 (dk_at dksJ16_getBytes_0 15 rfl rfl)
theorem dJ16_getBytes_16 : decode cJ16_getBytes 16 = .ok (.ishl, 1) := dk_120 (dk_at dksJ16_getBytes_0 16 rfl rfl)
theorem dJ16_getBytes_17 : decode cJ16_getBytes 17 = .ok (.aload_n 0, 1) := dk_42 (dk_at dksJ16_getBytes_0 17 rfl rfl)
theorem dJ16_getBytes_18 : decode cJ16_getBytes 18 = .ok (.getfield 9, 3) := dk_180 0 9 (dk_at dksJ16_getBytes_0 18 rfl rfl)
theorem dJ16_getBytes_21 : decode cJ16_getBytes 21 = .ok (.arraylength, 1) := dk_190 (dk_at dksJ16_getBytes_0 21 rfl rfl)
theorem dJ16_getBytes_22 : decode cJ16_getBytes 22 = .ok (.invokestatic 212, 3) := dk_184 0 212 (dk_at dksJ16_getBytes_1 0 rfl rfl)
theorem dJ16_getBytes_25 : decode cJ16_getBytes 25 = .ok (.goto 18, 3) := dk_167 0 18 (dk_at dksJ16_getBytes_1 3 rfl rfl)
theorem dJ16_getBytes_28 : decode cJ16_getBytes 28 = .ok (.aload_n 0, 1) := dk_42 (dk_at dksJ16_getBytes_1 6 rfl rfl)
theorem dJ16_getBytes_29 : decode cJ16_getBytes 29 = .ok (.getfield 9, 3) := dk_180 0 9 (dk_at dksJ16_getBytes_1 7 rfl rfl)
theorem dJ16_getBytes_32 : decode cJ16_getBytes 32 = .ok (.iconst 0, 1) := dk_3 (dk_at dksJ16_getBytes_1 10 rfl rfl)
theorem dJ16_getBytes_33 : decode cJ16_getBytes 33 = .ok (.aload_n 1, 1) := dk_43 (dk_at dksJ16_getBytes_1 11 rfl rfl)
theorem dJ16_getBytes_34 : decode cJ16_getBytes 34 = .ok (.iload_n 2, 1) := dk_28 (dk_at dksJ16_getBytes_1 12 rfl rfl)
theorem dJ16_getBytes_35 : decode cJ16_getBytes 35 = .ok (.aload_n 0, 1) := dk_42 (dk_at dksJ16_getBytes_1 13 rfl rfl)
theorem dJ16_getBytes_36 : decode cJ16_getBytes 36 = .ok (.getfield 9, 3) := dk_180 0 9 (dk_at dksJ16_getBytes_1 14 rfl rfl)
theorem dJ16_getBytes_39 : decode cJ16_getBytes 39 = .ok (.arraylength, 1) := dk_190 (dk_at dksJ16_getBytes_1 17 rfl rfl)
theorem dJ16_getBytes_40 : decode cJ16_getBytes 40 = .ok (.invokestatic 106, 3) := dk_184 0 106 (dk_at dksJ16_getBytes_1 18 rfl rfl)
theorem dJ16_getBytes_43 : decode cJ16_getBytes 43 = .ok (.return_, 1) := dk_177 (dk_at dksJ16_getBytes_1 21 rfl rfl)
abbrev cJ16_equals : ByteArray := prog_33_method_66_code
def yJ16_equals : MethodName := ⟨RJ16, "equals", "(Ljava/lang/Object;)Z"⟩
def dkwJ16_equals_2 : List UInt8 := [184, 2, 29, 153, 0, 7, 4, 167, 0, 4, 3, 172]
abbrev dktJ16_equals_2 : List UInt8 := dkwJ16_equals_2 ++ []
def dkwJ16_equals_1 : List UInt8 := [153, 0, 14, 42, 180, 0, 15, 44, 180, 0, 15, 160, 0, 21, 42, 180, 0, 9, 44, 180, 0, 9]
abbrev dktJ16_equals_1 : List UInt8 := dkwJ16_equals_1 ++ dktJ16_equals_2
def dkwJ16_equals_0 : List UInt8 := [42, 43, 166, 0, 5, 4, 172, 43, 193, 0, 10, 153, 0, 43, 43, 192, 0, 10, 77, 178, 0, 38]
abbrev dktJ16_equals_0 : List UInt8 := dkwJ16_equals_0 ++ dktJ16_equals_1
theorem dksJ16_equals_0 : cJ16_equals.data.toList.drop 0 = dktJ16_equals_0 := by decide +kernel
theorem dksJ16_equals_1 : cJ16_equals.data.toList.drop 22 = dktJ16_equals_1 := dk_seg dksJ16_equals_0 22 rfl rfl
theorem dksJ16_equals_2 : cJ16_equals.data.toList.drop 44 = dktJ16_equals_2 := dk_seg dksJ16_equals_1 22 rfl rfl
theorem dJ16_equals_0 : decode cJ16_equals 0 = .ok (.aload_n 0, 1) := dk_42 (dk_at dksJ16_equals_0 0 rfl rfl)
theorem dJ16_equals_1 : decode cJ16_equals 1 = .ok (.aload_n 1, 1) := dk_43 (dk_at dksJ16_equals_0 1 rfl rfl)
theorem dJ16_equals_2 : decode cJ16_equals 2 = .ok (.if_acmp .ne 5, 3) := dk_166 0 5 (dk_at dksJ16_equals_0 2 rfl rfl)
theorem dJ16_equals_5 : decode cJ16_equals 5 = .ok (.iconst 1, 1) := dk_4 (dk_at dksJ16_equals_0 5 rfl rfl)
theorem dJ16_equals_6 : decode cJ16_equals 6 = .ok (.ireturn, 1) := dk_172 (dk_at dksJ16_equals_0 6 rfl rfl)
theorem dJ16_equals_7 : decode cJ16_equals 7 = .ok (.aload_n 1, 1) := dk_43 (dk_at dksJ16_equals_0 7 rfl rfl)
theorem dJ16_equals_8 : decode cJ16_equals 8 = .ok (.instanceof 10, 3) := dk_193 0 10 (dk_at dksJ16_equals_0 8 rfl rfl)
theorem dJ16_equals_11 : decode cJ16_equals 11 = .ok (.ifCond .eq 43, 3) := dk_153 0 43 (dk_at dksJ16_equals_0 11 rfl rfl)
theorem dJ16_equals_14 : decode cJ16_equals 14 = .ok (.aload_n 1, 1) := dk_43 (dk_at dksJ16_equals_0 14 rfl rfl)
theorem dJ16_equals_15 : decode cJ16_equals 15 = .ok (.checkcast 10, 3) := dk_192 0 10 (dk_at dksJ16_equals_0 15 rfl rfl)
theorem dJ16_equals_18 : decode cJ16_equals 18 = .ok (.astore_n 2, 1) := dk_77 (dk_at dksJ16_equals_0 18 rfl rfl)
theorem dJ16_equals_19 : decode cJ16_equals 19 = .ok (.getstatic 38, 3) := dk_178 0 38 (dk_at dksJ16_equals_0 19 rfl rfl)
theorem dJ16_equals_22 : decode cJ16_equals 22 = .ok (.ifCond .eq 14, 3) := dk_153 0 14 (dk_at dksJ16_equals_1 0 rfl rfl)
theorem dJ16_equals_25 : decode cJ16_equals 25 = .ok (.aload_n 0, 1) := dk_42 (dk_at dksJ16_equals_1 3 rfl rfl)
theorem dJ16_equals_26 : decode cJ16_equals 26 = .ok (.getfield 15, 3) := dk_180 0 15 (dk_at dksJ16_equals_1 4 rfl rfl)
theorem dJ16_equals_29 : decode cJ16_equals 29 = .ok (.aload_n 2, 1) := dk_44 (dk_at dksJ16_equals_1 7 rfl rfl)
theorem dJ16_equals_30 : decode cJ16_equals 30 = .ok (.getfield 15, 3) := dk_180 0 15 (dk_at dksJ16_equals_1 8 rfl rfl)
theorem dJ16_equals_33 : decode cJ16_equals 33 = .ok (.if_icmp .ne 21, 3) := dk_160 0 21 (dk_at dksJ16_equals_1 11 rfl rfl)
theorem dJ16_equals_36 : decode cJ16_equals 36 = .ok (.aload_n 0, 1) := dk_42 (dk_at dksJ16_equals_1 14 rfl rfl)
theorem dJ16_equals_37 : decode cJ16_equals 37 = .ok (.getfield 9, 3) := dk_180 0 9 (dk_at dksJ16_equals_1 15 rfl rfl)
theorem dJ16_equals_40 : decode cJ16_equals 40 = .ok (.aload_n 2, 1) := dk_44 (dk_at dksJ16_equals_1 18 rfl rfl)
theorem dJ16_equals_41 : decode cJ16_equals 41 = .ok (.getfield 9, 3) := dk_180 0 9 (dk_at dksJ16_equals_1 19 rfl rfl)
theorem dJ16_equals_44 : decode cJ16_equals 44 = .ok (.invokestatic 541, 3) := dk_184 2 29 (dk_at dksJ16_equals_2 0 rfl rfl)
theorem dJ16_equals_47 : decode cJ16_equals 47 = .ok (.ifCond .eq 7, 3) := dk_153 0 7 (dk_at dksJ16_equals_2 3 rfl rfl)
theorem dJ16_equals_50 : decode cJ16_equals 50 = .ok (.iconst 1, 1) := dk_4 (dk_at dksJ16_equals_2 6 rfl rfl)
theorem dJ16_equals_51 : decode cJ16_equals 51 = .ok (.goto 4, 3) := dk_167 0 4 (dk_at dksJ16_equals_2 7 rfl rfl)
theorem dJ16_equals_54 : decode cJ16_equals 54 = .ok (.iconst 0, 1) := dk_3 (dk_at dksJ16_equals_2 10 rfl rfl)
theorem dJ16_equals_55 : decode cJ16_equals 55 = .ok (.ireturn, 1) := dk_172 (dk_at dksJ16_equals_2 11 rfl rfl)
abbrev cJ16_charAt : ByteArray := prog_33_method_56_code
def yJ16_charAt : MethodName := ⟨RJ16, "charAt", "(I)C"⟩
def dkwJ16_charAt_1 : List UInt8 := [172]
abbrev dktJ16_charAt_1 : List UInt8 := dkwJ16_charAt_1 ++ []
def dkwJ16_charAt_0 : List UInt8 := [42, 182, 1, 236, 153, 0, 12, 42, 180, 0, 9, 27, 184, 1, 239, 172, 42, 180, 0, 9, 27, 184, 1, 242]
abbrev dktJ16_charAt_0 : List UInt8 := dkwJ16_charAt_0 ++ dktJ16_charAt_1
theorem dksJ16_charAt_0 : cJ16_charAt.data.toList.drop 0 = dktJ16_charAt_0 := by decide +kernel
theorem dksJ16_charAt_1 : cJ16_charAt.data.toList.drop 24 = dktJ16_charAt_1 := dk_seg dksJ16_charAt_0 24 rfl rfl
theorem dJ16_charAt_0 : decode cJ16_charAt 0 = .ok (.aload_n 0, 1) := dk_42 (dk_at dksJ16_charAt_0 0 rfl rfl)
theorem dJ16_charAt_1 : decode cJ16_charAt 1 = .ok (.invokevirtual 492, 3) := dk_182 1 236 (dk_at dksJ16_charAt_0 1 rfl rfl)
theorem dJ16_charAt_4 : decode cJ16_charAt 4 = .ok (.ifCond .eq 12, 3) := dk_153 0 12 (dk_at dksJ16_charAt_0 4 rfl rfl)
theorem dJ16_charAt_7 : decode cJ16_charAt 7 = .ok (.aload_n 0, 1) := dk_42 (dk_at dksJ16_charAt_0 7 rfl rfl)
theorem dJ16_charAt_8 : decode cJ16_charAt 8 = .ok (.getfield 9, 3) := dk_180 0 9 (dk_at dksJ16_charAt_0 8 rfl rfl)
theorem dJ16_charAt_11 : decode cJ16_charAt 11 = .ok (.iload_n 1, 1) := dk_27 (dk_at dksJ16_charAt_0 11 rfl rfl)
theorem dJ16_charAt_12 : decode cJ16_charAt 12 = .ok (.invokestatic 495, 3) := dk_184 1 239 (dk_at dksJ16_charAt_0 12 rfl rfl)
theorem dJ16_charAt_15 : decode cJ16_charAt 15 = .ok (.ireturn, 1) := dk_172 (dk_at dksJ16_charAt_0 15 rfl rfl)
theorem dJ16_charAt_16 : decode cJ16_charAt 16 = .ok (.aload_n 0, 1) := dk_42 (dk_at dksJ16_charAt_0 16 rfl rfl)
theorem dJ16_charAt_17 : decode cJ16_charAt 17 = .ok (.getfield 9, 3) := dk_180 0 9 (dk_at dksJ16_charAt_0 17 rfl rfl)
theorem dJ16_charAt_20 : decode cJ16_charAt 20 = .ok (.iload_n 1, 1) := dk_27 (dk_at dksJ16_charAt_0 20 rfl rfl)
theorem dJ16_charAt_21 : decode cJ16_charAt 21 = .ok (.invokestatic 498, 3) := dk_184 1 242 (dk_at dksJ16_charAt_0 21 rfl rfl)
theorem dJ16_charAt_24 : decode cJ16_charAt 24 = .ok (.ireturn, 1) := dk_172 (dk_at dksJ16_charAt_1 0 rfl rfl)
abbrev cJ16_isLatin1 : ByteArray := prog_33_method_154_code
def yJ16_isLatin1 : MethodName := ⟨RJ16, "isLatin1", "()Z"⟩
def dkwJ16_isLatin1_0 : List UInt8 := [178, 0, 38, 153, 0, 14, 42, 180, 0, 15, 154, 0, 7, 4, 167, 0, 4, 3, 172]
abbrev dktJ16_isLatin1_0 : List UInt8 := dkwJ16_isLatin1_0 ++ []
theorem dksJ16_isLatin1_0 : cJ16_isLatin1.data.toList.drop 0 = dktJ16_isLatin1_0 := by decide +kernel
theorem dJ16_isLatin1_0 : decode cJ16_isLatin1 0 = .ok (.getstatic 38, 3) := dk_178 0 38 (dk_at dksJ16_isLatin1_0 0 rfl rfl)
theorem dJ16_isLatin1_3 : decode cJ16_isLatin1 3 = .ok (.ifCond .eq 14, 3) := dk_153 0 14 (dk_at dksJ16_isLatin1_0 3 rfl rfl)
theorem dJ16_isLatin1_6 : decode cJ16_isLatin1 6 = .ok (.aload_n 0, 1) := dk_42 (dk_at dksJ16_isLatin1_0 6 rfl rfl)
theorem dJ16_isLatin1_7 : decode cJ16_isLatin1 7 = .ok (.getfield 15, 3) := dk_180 0 15 (dk_at dksJ16_isLatin1_0 7 rfl rfl)
theorem dJ16_isLatin1_10 : decode cJ16_isLatin1 10 = .ok (.ifCond .ne 7, 3) := dk_154 0 7 (dk_at dksJ16_isLatin1_0 10 rfl rfl)
theorem dJ16_isLatin1_13 : decode cJ16_isLatin1 13 = .ok (.iconst 1, 1) := dk_4 (dk_at dksJ16_isLatin1_0 13 rfl rfl)
theorem dJ16_isLatin1_14 : decode cJ16_isLatin1 14 = .ok (.goto 4, 3) := dk_167 0 4 (dk_at dksJ16_isLatin1_0 14 rfl rfl)
theorem dJ16_isLatin1_17 : decode cJ16_isLatin1 17 = .ok (.iconst 0, 1) := dk_3 (dk_at dksJ16_isLatin1_0 17 rfl rfl)
theorem dJ16_isLatin1_18 : decode cJ16_isLatin1 18 = .ok (.ireturn, 1) := dk_172 (dk_at dksJ16_isLatin1_0 18 rfl rfl)
theorem q117 : (Jvm.Cond.initialized "java/lang/String") ∈ lw_all := lw_g (lw_at lw_m1 22 rfl) rfl
theorem q465 : (Jvm.Cond.selects "java/lang/String" ({ cls := "java/lang/Object", name := "getClass", desc := "()Ljava/lang/Class;" } : Jvm.MethodName) ({ cls := "java/lang/Object", name := "getClass", desc := "()Ljava/lang/Class;" } : Jvm.MethodName)) ∈ lw_all := lw_g (lw_at lw_m2 130 rfl) rfl
theorem q550 : (Jvm.Cond.laysStatic "java/lang/String" "COMPACT_STRINGS" "Z") ∈ lw_tbl := lw_at lw_m2 215 rfl
theorem q560 : (Jvm.Cond.fieldLink "java/lang/String" (1048 : Nat) "java/lang/AbstractStringBuilder" "maybeLatin1" "Z") ∈ lw_all := lw_g (lw_at lw_m2 225 rfl) rfl
theorem q638 : (Jvm.Cond.static ({ cls := "java/lang/String", name := "checkBoundsOffCount", desc := "(III)I" } : Jvm.MethodName)) ∈ lw_all := lw_g (lw_at lw_m3 63 rfl) rfl
theorem q639 : (Jvm.Cond.code ({ cls := "java/lang/String", name := "checkBoundsOffCount", desc := "(III)I" } : Jvm.MethodName) prog_33_method_157_code (3 : Nat) (Option.some Jvm.ClassFile.FieldType.int)) ∈ lw_all := lw_g (lw_at lw_m3 64 rfl) rfl
theorem q640 : (Jvm.Cond.fieldLink "java/lang/String" (1053 : Nat) "jdk/internal/util/Preconditions" "SIOOBE_FORMATTER" "Ljava/util/function/BiFunction;") ∈ lw_all := lw_g (lw_at lw_m3 65 rfl) rfl
theorem q642 : (Jvm.Cond.methodLink "java/lang/String" (1065 : Nat) ({ cls := "jdk/internal/util/Preconditions", name := "checkFromIndexSize", desc := "(IIILjava/util/function/BiFunction;)I" } : Jvm.MethodName)) ∈ lw_all := lw_g (lw_at lw_m3 67 rfl) rfl
theorem q661 : (Jvm.Cond.static ({ cls := "java/lang/String", name := "checkIndex", desc := "(II)V" } : Jvm.MethodName)) ∈ lw_all := lw_g (lw_at lw_m3 86 rfl) rfl
theorem q662 : (Jvm.Cond.code ({ cls := "java/lang/String", name := "checkIndex", desc := "(II)V" } : Jvm.MethodName) prog_33_method_155_code (2 : Nat) (Option.none : Option Jvm.ClassFile.FieldType)) ∈ lw_all := lw_g (lw_at lw_m3 87 rfl) rfl
theorem q663 : (Jvm.Cond.methodLink "java/lang/String" (1059 : Nat) ({ cls := "jdk/internal/util/Preconditions", name := "checkIndex", desc := "(IILjava/util/function/BiFunction;)I" } : Jvm.MethodName)) ∈ lw_all := lw_g (lw_at lw_m3 88 rfl) rfl
theorem q671 : (Jvm.Cond.instantiable "java/lang/String" (4 : Nat)) ∈ lw_all := lw_g (lw_at lw_m3 96 rfl) rfl
theorem q673 : (Jvm.Cond.instanceMethod ({ cls := "java/lang/String", name := "<init>", desc := "(Ljava/lang/StringBuilder;)V" } : Jvm.MethodName)) ∈ lw_all := lw_g (lw_at lw_m3 98 rfl) rfl
theorem q674 : (Jvm.Cond.code ({ cls := "java/lang/String", name := "<init>", desc := "(Ljava/lang/StringBuilder;)V" } : Jvm.MethodName) prog_33_method_53_code (2 : Nat) (Option.none : Option Jvm.ClassFile.FieldType)) ∈ lw_all := lw_g (lw_at lw_m3 99 rfl) rfl
theorem q675 : (Jvm.Cond.methodLink "java/lang/String" (489 : Nat) ({ cls := "java/lang/String", name := "<init>", desc := "(Ljava/lang/AbstractStringBuilder;Ljava/lang/Void;)V" } : Jvm.MethodName)) ∈ lw_all := lw_g (lw_at lw_m3 100 rfl) rfl
theorem q676 : (Jvm.Cond.instanceMethod ({ cls := "java/lang/String", name := "<init>", desc := "(Ljava/lang/AbstractStringBuilder;Ljava/lang/Void;)V" } : Jvm.MethodName)) ∈ lw_all := lw_g (lw_at lw_m3 101 rfl) rfl
theorem q677 : (Jvm.Cond.code ({ cls := "java/lang/String", name := "<init>", desc := "(Ljava/lang/AbstractStringBuilder;Ljava/lang/Void;)V" } : Jvm.MethodName) prog_33_method_150_code (5 : Nat) (Option.none : Option Jvm.ClassFile.FieldType)) ∈ lw_all := lw_g (lw_at lw_m3 102 rfl) rfl
theorem q678 : (Jvm.Cond.methodLink "java/lang/String" (1 : Nat) ({ cls := "java/lang/Object", name := "<init>", desc := "()V" } : Jvm.MethodName)) ∈ lw_all := lw_g (lw_at lw_m3 103 rfl) rfl
theorem q679 : (Jvm.Cond.methodLink "java/lang/String" (552 : Nat) ({ cls := "java/lang/AbstractStringBuilder", name := "getValue", desc := "()[B" } : Jvm.MethodName)) ∈ lw_all := lw_g (lw_at lw_m3 104 rfl) rfl
theorem q684 : (Jvm.Cond.methodLink "java/lang/String" (549 : Nat) ({ cls := "java/lang/AbstractStringBuilder", name := "length", desc := "()I" } : Jvm.MethodName)) ∈ lw_all := lw_g (lw_at lw_m3 109 rfl) rfl
theorem q692 : (Jvm.Cond.methodLink "java/lang/String" (1047 : Nat) ({ cls := "java/lang/AbstractStringBuilder", name := "isLatin1", desc := "()Z" } : Jvm.MethodName)) ∈ lw_all := lw_g (lw_at lw_m3 117 rfl) rfl
theorem q693 : (Jvm.Cond.methodLink "java/lang/String" (54 : Nat) ({ cls := "java/util/Arrays", name := "copyOfRange", desc := "([BII)[B" } : Jvm.MethodName)) ∈ lw_all := lw_g (lw_at lw_m3 118 rfl) rfl
theorem q702 : (Jvm.Cond.fieldLink "java/lang/String" (38 : Nat) "java/lang/String" "COMPACT_STRINGS" "Z") ∈ lw_all := lw_g (lw_at lw_m3 127 rfl) rfl
theorem q703 : (Jvm.Cond.methodLink "java/lang/String" (1051 : Nat) ({ cls := "java/lang/StringUTF16", name := "compress", desc := "([BII)[B" } : Jvm.MethodName)) ∈ lw_all := lw_g (lw_at lw_m3 128 rfl) rfl
theorem q713 : (Jvm.Cond.methodLink "java/lang/String" (47 : Nat) ({ cls := "java/lang/StringUTF16", name := "coderFromArrayLen", desc := "([BI)B" } : Jvm.MethodName)) ∈ lw_all := lw_g (lw_at lw_m3 138 rfl) rfl
theorem q716 : (Jvm.Cond.fieldLink "java/lang/String" (9 : Nat) "java/lang/String" "value" "[B") ∈ lw_all := lw_g (lw_at lw_m3 141 rfl) rfl
theorem q717 : (Jvm.Cond.fieldLink "java/lang/String" (15 : Nat) "java/lang/String" "coder" "B") ∈ lw_all := lw_g (lw_at lw_m3 142 rfl) rfl
theorem q718 : (Jvm.Cond.laysFinal "java/lang/String" "java/lang/String" "value" "[B") ∈ lw_all := lw_g (lw_at lw_m3 143 rfl) rfl
theorem q719 : (Jvm.Cond.soleField "java/lang/String" "value") ∈ lw_all := lw_g (lw_at lw_m3 144 rfl) rfl
theorem q720 : (Jvm.Cond.laysFinal "java/lang/String" "java/lang/String" "coder" "B") ∈ lw_all := lw_g (lw_at lw_m3 145 rfl) rfl
theorem q721 : (Jvm.Cond.soleField "java/lang/String" "coder") ∈ lw_all := lw_g (lw_at lw_m3 146 rfl) rfl
theorem q722 : (Jvm.Cond.lays "java/lang/String" "java/lang/String" "hash" "I") ∈ lw_all := lw_g (lw_at lw_m3 147 rfl) rfl
theorem q723 : (Jvm.Cond.soleField "java/lang/String" "hash") ∈ lw_all := lw_g (lw_at lw_m3 148 rfl) rfl
theorem q724 : (Jvm.Cond.lays "java/lang/String" "java/lang/String" "hashIsZero" "Z") ∈ lw_all := lw_g (lw_at lw_m3 149 rfl) rfl
theorem q725 : (Jvm.Cond.soleField "java/lang/String" "hashIsZero") ∈ lw_all := lw_g (lw_at lw_m3 150 rfl) rfl
theorem q726 : (Jvm.Cond.superclass "java/lang/String" "java/lang/Object") ∈ lw_all := lw_g (lw_at lw_m3 151 rfl) rfl
theorem q942 : (Jvm.Cond.static ({ cls := "java/lang/String", name := "checkBoundsBeginEnd", desc := "(III)V" } : Jvm.MethodName)) ∈ lw_all := lw_g (lw_at lw_m4 127 rfl) rfl
theorem q943 : (Jvm.Cond.code ({ cls := "java/lang/String", name := "checkBoundsBeginEnd", desc := "(III)V" } : Jvm.MethodName) prog_33_method_158_code (3 : Nat) (Option.none : Option Jvm.ClassFile.FieldType)) ∈ lw_all := lw_g (lw_at lw_m4 128 rfl) rfl
theorem q944 : (Jvm.Cond.methodLink "java/lang/String" (1062 : Nat) ({ cls := "jdk/internal/util/Preconditions", name := "checkFromToIndex", desc := "(IIILjava/util/function/BiFunction;)I" } : Jvm.MethodName)) ∈ lw_all := lw_g (lw_at lw_m4 129 rfl) rfl
theorem q948 : (Jvm.Cond.instanceMethod ({ cls := "java/lang/String", name := "length", desc := "()I" } : Jvm.MethodName)) ∈ lw_all := lw_g (lw_at lw_m4 133 rfl) rfl
theorem q949 : (Jvm.Cond.selects "java/lang/String" ({ cls := "java/lang/String", name := "length", desc := "()I" } : Jvm.MethodName) ({ cls := "java/lang/String", name := "length", desc := "()I" } : Jvm.MethodName)) ∈ lw_all := lw_g (lw_at lw_m4 134 rfl) rfl
theorem q950 : (Jvm.Cond.code ({ cls := "java/lang/String", name := "length", desc := "()I" } : Jvm.MethodName) prog_33_method_54_code (1 : Nat) (Option.some Jvm.ClassFile.FieldType.int)) ∈ lw_all := lw_g (lw_at lw_m4 135 rfl) rfl
theorem q951 : (Jvm.Cond.methodLink "java/lang/String" (335 : Nat) ({ cls := "java/lang/String", name := "coder", desc := "()B" } : Jvm.MethodName)) ∈ lw_all := lw_g (lw_at lw_m4 136 rfl) rfl
theorem q952 : (Jvm.Cond.instanceMethod ({ cls := "java/lang/String", name := "coder", desc := "()B" } : Jvm.MethodName)) ∈ lw_all := lw_g (lw_at lw_m4 137 rfl) rfl
theorem q953 : (Jvm.Cond.selects "java/lang/String" ({ cls := "java/lang/String", name := "coder", desc := "()B" } : Jvm.MethodName) ({ cls := "java/lang/String", name := "coder", desc := "()B" } : Jvm.MethodName)) ∈ lw_all := lw_g (lw_at lw_m4 138 rfl) rfl
theorem q954 : (Jvm.Cond.code ({ cls := "java/lang/String", name := "coder", desc := "()B" } : Jvm.MethodName) prog_33_method_152_code (1 : Nat) (Option.some Jvm.ClassFile.FieldType.byte)) ∈ lw_all := lw_g (lw_at lw_m4 139 rfl) rfl
theorem q965 : (Jvm.Cond.instanceMethod ({ cls := "java/lang/String", name := "getBytes", desc := "([BIB)V" } : Jvm.MethodName)) ∈ lw_all := lw_g (lw_at lw_m4 150 rfl) rfl
theorem q966 : (Jvm.Cond.selects "java/lang/String" ({ cls := "java/lang/String", name := "getBytes", desc := "([BIB)V" } : Jvm.MethodName) ({ cls := "java/lang/String", name := "getBytes", desc := "([BIB)V" } : Jvm.MethodName)) ∈ lw_all := lw_g (lw_at lw_m4 151 rfl) rfl
theorem q967 : (Jvm.Cond.code ({ cls := "java/lang/String", name := "getBytes", desc := "([BIB)V" } : Jvm.MethodName) prog_33_method_147_code (4 : Nat) (Option.none : Option Jvm.ClassFile.FieldType)) ∈ lw_all := lw_g (lw_at lw_m4 152 rfl) rfl
theorem q968 : (Jvm.Cond.methodLink "java/lang/String" (212 : Nat) ({ cls := "java/lang/System", name := "arraycopy", desc := "(Ljava/lang/Object;ILjava/lang/Object;II)V" } : Jvm.MethodName)) ∈ lw_all := lw_g (lw_at lw_m4 153 rfl) rfl
theorem q969 : (Jvm.Cond.methodLink "java/lang/String" (106 : Nat) ({ cls := "java/lang/StringLatin1", name := "inflate", desc := "([BI[BII)V" } : Jvm.MethodName)) ∈ lw_all := lw_g (lw_at lw_m4 154 rfl) rfl
theorem q1053 : (Jvm.Cond.instanceMethod ({ cls := "java/lang/String", name := "equals", desc := "(Ljava/lang/Object;)Z" } : Jvm.MethodName)) ∈ lw_all := lw_g (lw_at lw_m4 238 rfl) rfl
theorem q1054 : (Jvm.Cond.selects "java/lang/String" ({ cls := "java/lang/String", name := "equals", desc := "(Ljava/lang/Object;)Z" } : Jvm.MethodName) ({ cls := "java/lang/String", name := "equals", desc := "(Ljava/lang/Object;)Z" } : Jvm.MethodName)) ∈ lw_all := lw_g (lw_at lw_m4 239 rfl) rfl
theorem q1055 : (Jvm.Cond.code ({ cls := "java/lang/String", name := "equals", desc := "(Ljava/lang/Object;)Z" } : Jvm.MethodName) prog_33_method_66_code (3 : Nat) (Option.some Jvm.ClassFile.FieldType.boolean)) ∈ lw_all := lw_g (lw_at lw_m5 0 rfl) rfl
theorem q1056 : (Jvm.Cond.classLink "java/lang/String" (10 : Nat) "java/lang/String") ∈ lw_all := lw_g (lw_at lw_m5 1 rfl) rfl
theorem q1057 : (Jvm.Cond.methodLink "java/lang/String" (541 : Nat) ({ cls := "java/lang/StringLatin1", name := "equals", desc := "([B[B)Z" } : Jvm.MethodName)) ∈ lw_all := lw_g (lw_at lw_m5 2 rfl) rfl
theorem q2323 : (Jvm.Cond.instanceMethod ({ cls := "java/lang/String", name := "charAt", desc := "(I)C" } : Jvm.MethodName)) ∈ lw_all := lw_g (lw_at lw_m10 68 rfl) rfl
theorem q2324 : (Jvm.Cond.selects "java/lang/String" ({ cls := "java/lang/String", name := "charAt", desc := "(I)C" } : Jvm.MethodName) ({ cls := "java/lang/String", name := "charAt", desc := "(I)C" } : Jvm.MethodName)) ∈ lw_all := lw_g (lw_at lw_m10 69 rfl) rfl
theorem q2325 : (Jvm.Cond.code ({ cls := "java/lang/String", name := "charAt", desc := "(I)C" } : Jvm.MethodName) prog_33_method_56_code (2 : Nat) (Option.some Jvm.ClassFile.FieldType.char)) ∈ lw_all := lw_g (lw_at lw_m10 70 rfl) rfl
theorem q2326 : (Jvm.Cond.methodLink "java/lang/String" (492 : Nat) ({ cls := "java/lang/String", name := "isLatin1", desc := "()Z" } : Jvm.MethodName)) ∈ lw_all := lw_g (lw_at lw_m10 71 rfl) rfl
theorem q2327 : (Jvm.Cond.instanceMethod ({ cls := "java/lang/String", name := "isLatin1", desc := "()Z" } : Jvm.MethodName)) ∈ lw_all := lw_g (lw_at lw_m10 72 rfl) rfl
theorem q2328 : (Jvm.Cond.selects "java/lang/String" ({ cls := "java/lang/String", name := "isLatin1", desc := "()Z" } : Jvm.MethodName) ({ cls := "java/lang/String", name := "isLatin1", desc := "()Z" } : Jvm.MethodName)) ∈ lw_all := lw_g (lw_at lw_m10 73 rfl) rfl
theorem q2329 : (Jvm.Cond.code ({ cls := "java/lang/String", name := "isLatin1", desc := "()Z" } : Jvm.MethodName) prog_33_method_154_code (1 : Nat) (Option.some Jvm.ClassFile.FieldType.boolean)) ∈ lw_all := lw_g (lw_at lw_m10 74 rfl) rfl
theorem q2330 : (Jvm.Cond.methodLink "java/lang/String" (495 : Nat) ({ cls := "java/lang/StringLatin1", name := "charAt", desc := "([BI)C" } : Jvm.MethodName)) ∈ lw_all := lw_g (lw_at lw_m10 75 rfl) rfl
theorem q2334 : (Jvm.Cond.methodLink "java/lang/String" (498 : Nat) ({ cls := "java/lang/StringUTF16", name := "charAt", desc := "([BI)C" } : Jvm.MethodName)) ∈ lw_all := lw_g (lw_at lw_m10 79 rfl) rfl
theorem q2710 : (Jvm.Cond.castable "java/lang/String" "java/lang/Object") ∈ lw_tbl := lw_at lw_m11 215 rfl
theorem in_J16 : ∀ w ∈ wsJ160, w ∈ lw_all := lw_in wsJ160 [718, 720, 722, 724] (by decide +kernel) (by decide +kernel)

/-! java/lang/StringUTF16 -/
set_option maxRecDepth 100000
def RJ17 : String := "java/lang/StringUTF16"
abbrev cJ17_newBytesFor : ByteArray := prog_36_method_2_code
def yJ17_newBytesFor : MethodName := ⟨RJ17, "newBytesFor", "(I)[B"⟩
def dkwJ17_newBytesFor_0 : List UInt8 := [26, 184, 0, 11, 188, 8, 176]
abbrev dktJ17_newBytesFor_0 : List UInt8 := dkwJ17_newBytesFor_0 ++ []
theorem dksJ17_newBytesFor_0 : cJ17_newBytesFor.data.toList.drop 0 = dktJ17_newBytesFor_0 := by decide +kernel
theorem dJ17_newBytesFor_0 : decode cJ17_newBytesFor 0 = .ok (.iload_n 0, 1) := dk_26 (dk_at dksJ17_newBytesFor_0 0 rfl rfl)
theorem dJ17_newBytesFor_1 : decode cJ17_newBytesFor 1 = .ok (.invokestatic 11, 3) := dk_184 0 11 (dk_at dksJ17_newBytesFor_0 1 rfl rfl)
theorem dJ17_newBytesFor_4 : decode cJ17_newBytesFor 4 = .ok (.newarray .byte, 2) := dk_188_8 (dk_at dksJ17_newBytesFor_0 4 rfl rfl)
theorem dJ17_newBytesFor_6 : decode cJ17_newBytesFor 6 = .ok (.areturn, 1) := dk_176 (dk_at dksJ17_newBytesFor_0 6 rfl rfl)
abbrev cJ17_newBytesLength : ByteArray := prog_36_method_3_code
def yJ17_newBytesLength : MethodName := ⟨RJ17, "newBytesLength", "(I)I"⟩
def dkwJ17_newBytesLength_2 : List UInt8 := [182, 0, 32, 182, 0, 37, 183, 0, 41, 191, 26, 4, 120, 172]
abbrev dktJ17_newBytesLength_2 : List UInt8 := dkwJ17_newBytesLength_2 ++ []
def dkwJ17_newBytesLength_1 : List UInt8 := [187, 0, 23, 89, 183, 0, 25, 18, 26, 182, 0, 28, 26, 182, 0, 32, 18, 35, 182, 0, 28, 18, 20]
abbrev dktJ17_newBytesLength_1 : List UInt8 := dkwJ17_newBytesLength_1 ++ dktJ17_newBytesLength_2
def dkwJ17_newBytesLength_0 : List UInt8 := [26, 156, 0, 11, 187, 0, 17, 89, 183, 0, 19, 191, 26, 18, 20, 161, 0, 40, 187, 0, 21, 89]
abbrev dktJ17_newBytesLength_0 : List UInt8 := dkwJ17_newBytesLength_0 ++ dktJ17_newBytesLength_1
theorem dksJ17_newBytesLength_0 : cJ17_newBytesLength.data.toList.drop 0 = dktJ17_newBytesLength_0 := by decide +kernel
theorem dksJ17_newBytesLength_1 : cJ17_newBytesLength.data.toList.drop 22 = dktJ17_newBytesLength_1 := dk_seg dksJ17_newBytesLength_0 22 rfl rfl
theorem dksJ17_newBytesLength_2 : cJ17_newBytesLength.data.toList.drop 45 = dktJ17_newBytesLength_2 := dk_seg dksJ17_newBytesLength_1 23 rfl rfl
theorem dJ17_newBytesLength_0 : decode cJ17_newBytesLength 0 = .ok (.iload_n 0, 1) := dk_26 (dk_at dksJ17_newBytesLength_0 0 rfl rfl)
theorem dJ17_newBytesLength_1 : decode cJ17_newBytesLength 1 = .ok (.ifCond .ge 11, 3) := dk_156 0 11 (dk_at dksJ17_newBytesLength_0 1 rfl rfl)
theorem dJ17_newBytesLength_4 : decode cJ17_newBytesLength 4 = .ok (.new 17, 3) := dk_187 0 17 (dk_at dksJ17_newBytesLength_0 4 rfl rfl)
theorem dJ17_newBytesLength_7 : decode cJ17_newBytesLength 7 = .ok (.dup, 1) := dk_89 (dk_at dksJ17_newBytesLength_0 7 rfl rfl)
theorem dJ17_newBytesLength_8 : decode cJ17_newBytesLength 8 = .ok (.invokespecial 19, 3) := dk_183 0 19 (dk_at dksJ17_newBytesLength_0 8 rfl rfl)
theorem dJ17_newBytesLength_11 : decode cJ17_newBytesLength 11 = .ok (.athrow, 1) := dk_191 (dk_at dksJ17_newBytesLength_0 11 rfl rfl)
theorem dJ17_newBytesLength_12 : decode cJ17_newBytesLength 12 = .ok (.iload_n 0, 1) := dk_26 (dk_at dksJ17_newBytesLength_0 12 rfl rfl)
theorem dJ17_newBytesLength_13 : decode cJ17_newBytesLength 13 = .ok (.ldc 20, 2) := dk_18 20 (dk_at dksJ17_newBytesLength_0 13 rfl rfl)
theorem dJ17_newBytesLength_15 : decode cJ17_newBytesLength 15 = .ok (.if_icmp .lt 40, 3) := dk_161 0 40 (dk_at dksJ17_newBytesLength_0 15 rfl rfl)
theorem dJ17_newBytesLength_18 : decode cJ17_newBytesLength 18 = .ok (.new 21, 3) := dk_187 0 21 (dk_at dksJ17_newBytesLength_0 18 rfl rfl)
theorem dJ17_newBytesLength_21 : decode cJ17_newBytesLength 21 = .ok (.dup, 1) := dk_89 (dk_at dksJ17_newBytesLength_0 21 rfl rfl)
theorem dJ17_newBytesLength_22 : decode cJ17_newBytesLength 22 = .ok (.new 23, 3) := dk_187 0 23 (dk_at dksJ17_newBytesLength_1 0 rfl rfl)
theorem dJ17_newBytesLength_25 : decode cJ17_newBytesLength 25 = .ok (.dup, 1) := dk_89 (dk_at dksJ17_newBytesLength_1 3 rfl rfl)
theorem dJ17_newBytesLength_26 : decode cJ17_newBytesLength 26 = .ok (.invokespecial 25, 3) := dk_183 0 25 (dk_at dksJ17_newBytesLength_1 4 rfl rfl)
theorem dJ17_newBytesLength_29 : decode cJ17_newBytesLength 29 = .ok (.ldc 26, 2) := dk_18 26 (dk_at dksJ17_newBytesLength_1 7 rfl rfl)
theorem dJ17_newBytesLength_31 : decode cJ17_newBytesLength 31 = .ok (.invokevirtual 28, 3) := dk_182 0 28 (dk_at dksJ17_newBytesLength_1 9 rfl rfl)
theorem dJ17_newBytesLength_34 : decode cJ17_newBytesLength 34 = .ok (.iload_n 0, 1) := dk_26 (dk_at dksJ17_newBytesLength_1 12 rfl rfl)
theorem dJ17_newBytesLength_35 : decode cJ17_newBytesLength 35 = .ok (.invokevirtual 32, 3) := dk_182 0 32 (dk_at dksJ17_newBytesLength_1 13 rfl rfl)
theorem dJ17_newBytesLength_38 : decode cJ17_newBytesLength 38 = .ok (.ldc 35, 2) := dk_18 35 (dk_at dksJ17_newBytesLength_1 16 rfl rfl)
theorem dJ17_newBytesLength_40 : decode cJ17_newBytesLength 40 = .ok (.invokevirtual 28, 3) := dk_182 0 28 (dk_at dksJ17_newBytesLength_1 18 rfl rfl)
theorem dJ17_newBytesLength_43 : decode cJ17_newBytesLength 43 = .ok (.ldc 20, 2) := dk_18 20 (dk_at dksJ17_newBytesLength_1 21 rfl rfl)
theorem dJ17_newBytesLength_45 : decode cJ17_newBytesLength 45 = .ok (.invokevirtual 32, 3) := dk_182 0 32 (dk_at dksJ17_newBytesLength_2 0 rfl rfl)
theorem dJ17_newBytesLength_48 : decode cJ17_newBytesLength 48 = .ok (.invokevirtual 37, 3) := dk_182 0 37 (dk_at dksJ17_newBytesLength_2 3 rfl rfl)
theorem dJ17_newBytesLength_51 : decode cJ17_newBytesLength 51 = .ok (.invokespecial 41, 3) := dk_183 0 41 (dk_at dksJ17_newBytesLength_2 6 rfl rfl)
theorem dJ17_newBytesLength_54 : decode cJ17_newBytesLength 54 = .ok (.athrow, 1) := dk_191 (dk_at dksJ17_newBytesLength_2 9 rfl rfl)
theorem dJ17_newBytesLength_55 : decode cJ17_newBytesLength 55 = .ok (.iload_n 0, 1) := dk_26 (dk_at dksJ17_newBytesLength_2 10 rfl rfl)
theorem dJ17_newBytesLength_56 : decode cJ17_newBytesLength 56 = .ok (.iconst 1, 1) := dk_4 (dk_at dksJ17_newBytesLength_2 11 rfl rfl)
theorem dJ17_newBytesLength_57 : decode cJ17_newBytesLength 57 = .ok (.ishl, 1) := dk_120 (dk_at dksJ17_newBytesLength_2 12 rfl rfl)
theorem dJ17_newBytesLength_58 : decode cJ17_newBytesLength 58 = .ok (.ireturn, 1) := dk_172 (dk_at dksJ17_newBytesLength_2 13 rfl rfl)
abbrev cJ17_inflate : ByteArray := prog_36_method_86_code
def yJ17_inflate : MethodName := ⟨RJ17, "inflate", "([BI[BII)V"⟩
def dkwJ17_inflate_1 : List UInt8 := [132, 1, 1, 51, 17, 0, 255, 126, 184, 0, 111, 132, 5, 1, 167, 255, 228, 177]
abbrev dktJ17_inflate_1 : List UInt8 := dkwJ17_inflate_1 ++ []
def dkwJ17_inflate_0 : List UInt8 := [29, 21, 4, 44, 184, 0, 173, 3, 54, 5, 21, 5, 21, 4, 162, 0, 27, 44, 29, 132, 3, 1, 42, 27]
abbrev dktJ17_inflate_0 : List UInt8 := dkwJ17_inflate_0 ++ dktJ17_inflate_1
theorem dksJ17_inflate_0 : cJ17_inflate.data.toList.drop 0 = dktJ17_inflate_0 := by decide +kernel
theorem dksJ17_inflate_1 : cJ17_inflate.data.toList.drop 24 = dktJ17_inflate_1 := dk_seg dksJ17_inflate_0 24 rfl rfl
theorem dJ17_inflate_0 : decode cJ17_inflate 0 = .ok (.iload_n 3, 1) := dk_29 (dk_at dksJ17_inflate_0 0 rfl rfl)
theorem dJ17_inflate_1 : decode cJ17_inflate 1 = .ok (.iload 4, 2) := dk_21 4 (dk_at dksJ17_inflate_0 1 rfl rfl)
theorem dJ17_inflate_3 : decode cJ17_inflate 3 = .ok (.aload_n 2, 1) := dk_44 (dk_at dksJ17_inflate_0 3 rfl rfl)
theorem dJ17_inflate_4 : decode cJ17_inflate 4 = .ok (.invokestatic 173, 3) := dk_184 0 173 (dk_at dksJ17_inflate_0 4 rfl rfl)
theorem dJ17_inflate_7 : decode cJ17_inflate 7 = .ok (.iconst 0, 1) := dk_3 (dk_at dksJ17_inflate_0 7 rfl rfl)
theorem dJ17_inflate_8 : decode cJ17_inflate 8 = .ok (.istore 5, 2) := dk_54 5 (dk_at dksJ17_inflate_0 8 rfl rfl)
theorem dJ17_inflate_10 : decode cJ17_inflate 10 = .ok (.iload 5, 2) := dk_21 5 (dk_at dksJ17_inflate_0 10 rfl rfl)
theorem dJ17_inflate_12 : decode cJ17_inflate 12 = .ok (.iload 4, 2) := dk_21 4 (dk_at dksJ17_inflate_0 12 rfl rfl)
theorem dJ17_inflate_14 : decode cJ17_inflate 14 = .ok (.if_icmp .ge 27, 3) := dk_162 0 27 (dk_at dksJ17_inflate_0 14 rfl rfl)
theorem dJ17_inflate_17 : decode cJ17_inflate 17 = .ok (.aload_n 2, 1) := dk_44 (dk_at dksJ17_inflate_0 17 rfl rfl)
theorem dJ17_inflate_18 : decode cJ17_inflate 18 = .ok (.iload_n 3, 1) := dk_29 (dk_at dksJ17_inflate_0 18 rfl rfl)
theorem dJ17_inflate_19 : decode cJ17_inflate 19 = .ok (.iinc 3 1, 3) := dk_132 3 1 (dk_at dksJ17_inflate_0 19 rfl rfl)
theorem dJ17_inflate_22 : decode cJ17_inflate 22 = .ok (.aload_n 0, 1) := dk_42 (dk_at dksJ17_inflate_0 22 rfl rfl)
theorem dJ17_inflate_23 : decode cJ17_inflate 23 = .ok (.iload_n 1, 1) := dk_27 (dk_at dksJ17_inflate_0 23 rfl rfl)
theorem dJ17_inflate_24 : decode cJ17_inflate 24 = .ok (.iinc 1 1, 3) := dk_132 1 1 (dk_at dksJ17_inflate_1 0 rfl rfl)
theorem dJ17_inflate_27 : decode cJ17_inflate 27 = .ok (.baload, 1) := dk_51 (dk_at dksJ17_inflate_1 3 rfl rfl)
theorem dJ17_inflate_28 : decode cJ17_inflate 28 = .ok (.sipush 255, 3) := dk_17 0 255 (dk_at dksJ17_inflate_1 4 rfl rfl)
theorem dJ17_inflate_31 : decode cJ17_inflate 31 = .ok (.iand, 1) := dk_126 (dk_at dksJ17_inflate_1 7 rfl rfl)
theorem dJ17_inflate_32 : decode cJ17_inflate 32 = .ok (.invokestatic 111, 3) := dk_184 0 111 (dk_at dksJ17_inflate_1 8 rfl rfl)
theorem dJ17_inflate_35 : decode cJ17_inflate 35 = .ok (.iinc 5 1, 3) := dk_132 5 1 (dk_at dksJ17_inflate_1 11 rfl rfl)
theorem dJ17_inflate_38 : decode cJ17_inflate 38 = .ok (.goto (-28), 3) := dk_167 255 228 (dk_at dksJ17_inflate_1 14 rfl rfl)
theorem dJ17_inflate_41 : decode cJ17_inflate 41 = .ok (.return_, 1) := dk_177 (dk_at dksJ17_inflate_1 17 rfl rfl)
abbrev cJ17_checkBoundsOffCount : ByteArray := prog_36_method_94_code
def yJ17_checkBoundsOffCount : MethodName := ⟨RJ17, "checkBoundsOffCount", "(II[B)V"⟩
def dkwJ17_checkBoundsOffCount_0 : List UInt8 := [26, 27, 44, 184, 0, 48, 184, 1, 163, 87, 177]
abbrev dktJ17_checkBoundsOffCount_0 : List UInt8 := dkwJ17_checkBoundsOffCount_0 ++ []
theorem dksJ17_checkBoundsOffCount_0 : cJ17_checkBoundsOffCount.data.toList.drop 0 = dktJ17_checkBoundsOffCount_0 := by decide +kernel
theorem dJ17_checkBoundsOffCount_0 : decode cJ17_checkBoundsOffCount 0 = .ok (.iload_n 0, 1) := dk_26 (dk_at dksJ17_checkBoundsOffCount_0 0 rfl rfl)
theorem dJ17_checkBoundsOffCount_1 : decode cJ17_checkBoundsOffCount 1 = .ok (.iload_n 1, 1) := dk_27 (dk_at dksJ17_checkBoundsOffCount_0 1 rfl rfl)
theorem dJ17_checkBoundsOffCount_2 : decode cJ17_checkBoundsOffCount 2 = .ok (.aload_n 2, 1) := dk_44 (dk_at dksJ17_checkBoundsOffCount_0 2 rfl rfl)
theorem dJ17_checkBoundsOffCount_3 : decode cJ17_checkBoundsOffCount 3 = .ok (.invokestatic 48, 3) := dk_184 0 48 (dk_at dksJ17_checkBoundsOffCount_0 3 rfl rfl)
theorem dJ17_checkBoundsOffCount_6 : decode cJ17_checkBoundsOffCount 6 = .ok (.invokestatic 419, 3) := dk_184 1 163 (dk_at dksJ17_checkBoundsOffCount_0 6 rfl rfl)
theorem dJ17_checkBoundsOffCount_9 : decode cJ17_checkBoundsOffCount 9 = .ok (.pop, 1) := dk_87 (dk_at dksJ17_checkBoundsOffCount_0 9 rfl rfl)
theorem dJ17_checkBoundsOffCount_10 : decode cJ17_checkBoundsOffCount 10 = .ok (.return_, 1) := dk_177 (dk_at dksJ17_checkBoundsOffCount_0 10 rfl rfl)
abbrev cJ17_length : ByteArray := prog_36_method_6_code
def yJ17_length : MethodName := ⟨RJ17, "length", "([B)I"⟩
def dkwJ17_length_0 : List UInt8 := [42, 190, 4, 122, 172]
abbrev dktJ17_length_0 : List UInt8 := dkwJ17_length_0 ++ []
theorem dksJ17_length_0 : cJ17_length.data.toList.drop 0 = dktJ17_length_0 := by decide +kernel
theorem dJ17_length_0 : decode cJ17_length 0 = .ok (.aload_n 0, 1) := dk_42 (dk_at dksJ17_length_0 0 rfl rfl)
theorem dJ17_length_1 : decode cJ17_length 1 = .ok (.arraylength, 1) := dk_190 (dk_at dksJ17_length_0 1 rfl rfl)
theorem dJ17_length_2 : decode cJ17_length 2 = .ok (.iconst 1, 1) := dk_4 (dk_at dksJ17_length_0 2 rfl rfl)
theorem dJ17_length_3 : decode cJ17_length 3 = .ok (.ishr, 1) := dk_122 (dk_at dksJ17_length_0 3 rfl rfl)
theorem dJ17_length_4 : decode cJ17_length 4 = .ok (.ireturn, 1) := dk_172 (dk_at dksJ17_length_0 4 rfl rfl)
abbrev cJ17_putChar : ByteArray := prog_36_method_4_code
def yJ17_putChar : MethodName := ⟨RJ17, "putChar", "([BII)V"⟩
def dkwJ17_putChar_2 : List UInt8 := [178, 0, 63, 122, 145, 84, 177]
abbrev dktJ17_putChar_2 : List UInt8 := dkwJ17_putChar_2 ++ []
def dkwJ17_putChar_1 : List UInt8 := [183, 0, 56, 191, 27, 4, 120, 60, 42, 27, 132, 1, 1, 28, 178, 0, 59, 122, 145, 84, 42, 27, 28]
abbrev dktJ17_putChar_1 : List UInt8 := dkwJ17_putChar_1 ++ dktJ17_putChar_2
def dkwJ17_putChar_0 : List UInt8 := [178, 0, 44, 154, 0, 25, 27, 155, 0, 11, 27, 42, 184, 0, 48, 161, 0, 13, 187, 0, 52, 89, 18, 54]
abbrev dktJ17_putChar_0 : List UInt8 := dkwJ17_putChar_0 ++ dktJ17_putChar_1
theorem dksJ17_putChar_0 : cJ17_putChar.data.toList.drop 0 = dktJ17_putChar_0 := by decide +kernel
theorem dksJ17_putChar_1 : cJ17_putChar.data.toList.drop 24 = dktJ17_putChar_1 := dk_seg dksJ17_putChar_0 24 rfl rfl
theorem dksJ17_putChar_2 : cJ17_putChar.data.toList.drop 47 = dktJ17_putChar_2 := dk_seg dksJ17_putChar_1 23 rfl rfl
theorem dJ17_putChar_0 : decode cJ17_putChar 0 = .ok (.getstatic 44, 3) := dk_178 0 44 (dk_at dksJ17_putChar_0 0 rfl rfl)
theorem dJ17_putChar_3 : decode cJ17_putChar 3 = .ok (.ifCond .ne 25, 3) := dk_154 0 25 (dk_at dksJ17_putChar_0 3 rfl rfl)
theorem dJ17_putChar_6 : decode cJ17_putChar 6 = .ok (.iload_n 1, 1) := dk_27 (dk_at dksJ17_putChar_0 6 rfl rfl)
theorem dJ17_putChar_7 : decode cJ17_putChar 7 = .ok (.ifCond .lt 11, 3) := dk_155 0 11 (dk_at dksJ17_putChar_0 7 rfl rfl)
theorem dJ17_putChar_10 : decode cJ17_putChar 10 = .ok (.iload_n 1, 1) := dk_27 (dk_at dksJ17_putChar_0 10 rfl rfl)
theorem dJ17_putChar_11 : decode cJ17_putChar 11 = .ok (.aload_n 0, 1) := dk_42 (dk_at dksJ17_putChar_0 11 rfl rfl)
theorem dJ17_putChar_12 : decode cJ17_putChar 12 = .ok (.invokestatic 48, 3) := dk_184 0 48 (dk_at dksJ17_putChar_0 12 rfl rfl)
theorem dJ17_putChar_15 : decode cJ17_putChar 15 = .ok (.if_icmp .lt 13, 3) := dk_161 0 13 (dk_at dksJ17_putChar_0 15 rfl rfl)
theorem dJ17_putChar_18 : decode cJ17_putChar 18 = .ok (.new 52, 3) := dk_187 0 52 (dk_at dksJ17_putChar_0 18 rfl rfl)
theorem dJ17_putChar_21 : decode cJ17_putChar 21 = .ok (.dup, 1) := dk_89 (dk_at dksJ17_putChar_0 21 rfl rfl)
theorem dJ17_putChar_22 : decode cJ17_putChar 22 = .ok (.ldc 54, 2) := dk_18 54 (dk_at dksJ17_putChar_0 22 rfl rfl)
theorem dJ17_putChar_24 : decode cJ17_putChar 24 = .ok (.invokespecial 56, 3) := dk_183 0 56 (dk_at dksJ17_putChar_1 0 rfl rfl)
theorem dJ17_putChar_27 : decode cJ17_putChar 27 = .ok (.athrow, 1) := dk_191 (dk_at dksJ17_putChar_1 3 rfl rfl)
theorem dJ17_putChar_28 : decode cJ17_putChar 28 = .ok (.iload_n 1, 1) := dk_27 (dk_at dksJ17_putChar_1 4 rfl rfl)
theorem dJ17_putChar_29 : decode cJ17_putChar 29 = .ok (.iconst 1, 1) := dk_4 (dk_at dksJ17_putChar_1 5 rfl rfl)
theorem dJ17_putChar_30 : decode cJ17_putChar 30 = .ok (.ishl, 1) := dk_120 (dk_at dksJ17_putChar_1 6 rfl rfl)
theorem dJ17_putChar_31 : decode cJ17_putChar 31 = .ok (.istore_n 1, 1) := dk_60 (dk_at dksJ17_putChar_1 7 rfl rfl)
theorem dJ17_putChar_32 : decode cJ17_putChar 32 = .ok (.aload_n 0, 1) := dk_42 (dk_at dksJ17_putChar_1 8 rfl rfl)
theorem dJ17_putChar_33 : decode cJ17_putChar 33 = .ok (.iload_n 1, 1) := dk_27 (dk_at dksJ17_putChar_1 9 rfl rfl)
theorem dJ17_putChar_34 : decode cJ17_putChar 34 = .ok (.iinc 1 1, 3) := dk_132 1 1 (dk_at dksJ17_putChar_1 10 rfl rfl)
theorem dJ17_putChar_37 : decode cJ17_putChar 37 = .ok (.iload_n 2, 1) := dk_28 (dk_at dksJ17_putChar_1 13 rfl rfl)
theorem dJ17_putChar_38 : decode cJ17_putChar 38 = .ok (.getstatic 59, 3) := dk_178 0 59 (dk_at dksJ17_putChar_1 14 rfl rfl)
theorem dJ17_putChar_41 : decode cJ17_putChar 41 = .ok (.ishr, 1) := dk_122 (dk_at dksJ17_putChar_1 17 rfl rfl)
theorem dJ17_putChar_42 : decode cJ17_putChar 42 = .ok (.i2b, 1) := dk_145 (dk_at dksJ17_putChar_1 18 rfl rfl)
theorem dJ17_putChar_43 : decode cJ17_putChar 43 = .ok (.bastore, 1) := dk_84 (dk_at dksJ17_putChar_1 19 rfl rfl)
theorem dJ17_putChar_44 : decode cJ17_putChar 44 = .ok (.aload_n 0, 1) := dk_42 (dk_at dksJ17_putChar_1 20 rfl rfl)
theorem dJ17_putChar_45 : decode cJ17_putChar 45 = .ok (.iload_n 1, 1) := dk_27 (dk_at dksJ17_putChar_1 21 rfl rfl)
theorem dJ17_putChar_46 : decode cJ17_putChar 46 = .ok (.iload_n 2, 1) := dk_28 (dk_at dksJ17_putChar_1 22 rfl rfl)
theorem dJ17_putChar_47 : decode cJ17_putChar 47 = .ok (.getstatic 63, 3) := dk_178 0 63 (dk_at dksJ17_putChar_2 0 rfl rfl)
theorem dJ17_putChar_50 : decode cJ17_putChar 50 = .ok (.ishr, 1) := dk_122 (dk_at dksJ17_putChar_2 3 rfl rfl)
theorem dJ17_putChar_51 : decode cJ17_putChar 51 = .ok (.i2b, 1) := dk_145 (dk_at dksJ17_putChar_2 4 rfl rfl)
theorem dJ17_putChar_52 : decode cJ17_putChar 52 = .ok (.bastore, 1) := dk_84 (dk_at dksJ17_putChar_2 5 rfl rfl)
theorem dJ17_putChar_53 : decode cJ17_putChar 53 = .ok (.return_, 1) := dk_177 (dk_at dksJ17_putChar_2 6 rfl rfl)
abbrev cJ17_putCharSB : ByteArray := prog_36_method_71_code
def yJ17_putCharSB : MethodName := ⟨RJ17, "putCharSB", "([BII)V"⟩
def dkwJ17_putCharSB_0 : List UInt8 := [27, 42, 184, 0, 67, 42, 27, 28, 184, 0, 111, 177]
abbrev dktJ17_putCharSB_0 : List UInt8 := dkwJ17_putCharSB_0 ++ []
theorem dksJ17_putCharSB_0 : cJ17_putCharSB.data.toList.drop 0 = dktJ17_putCharSB_0 := by decide +kernel
theorem dJ17_putCharSB_0 : decode cJ17_putCharSB 0 = .ok (.iload_n 1, 1) := dk_27 (dk_at dksJ17_putCharSB_0 0 rfl rfl)
theorem dJ17_putCharSB_1 : decode cJ17_putCharSB 1 = .ok (.aload_n 0, 1) := dk_42 (dk_at dksJ17_putCharSB_0 1 rfl rfl)
theorem dJ17_putCharSB_2 : decode cJ17_putCharSB 2 = .ok (.invokestatic 67, 3) := dk_184 0 67 (dk_at dksJ17_putCharSB_0 2 rfl rfl)
theorem dJ17_putCharSB_5 : decode cJ17_putCharSB 5 = .ok (.aload_n 0, 1) := dk_42 (dk_at dksJ17_putCharSB_0 5 rfl rfl)
theorem dJ17_putCharSB_6 : decode cJ17_putCharSB 6 = .ok (.iload_n 1, 1) := dk_27 (dk_at dksJ17_putCharSB_0 6 rfl rfl)
theorem dJ17_putCharSB_7 : decode cJ17_putCharSB 7 = .ok (.iload_n 2, 1) := dk_28 (dk_at dksJ17_putCharSB_0 7 rfl rfl)
theorem dJ17_putCharSB_8 : decode cJ17_putCharSB 8 = .ok (.invokestatic 111, 3) := dk_184 0 111 (dk_at dksJ17_putCharSB_0 8 rfl rfl)
theorem dJ17_putCharSB_11 : decode cJ17_putCharSB 11 = .ok (.return_, 1) := dk_177 (dk_at dksJ17_putCharSB_0 11 rfl rfl)
abbrev cJ17_checkIndex : ByteArray := prog_36_method_91_code
def yJ17_checkIndex : MethodName := ⟨RJ17, "checkIndex", "(I[B)V"⟩
def dkwJ17_checkIndex_0 : List UInt8 := [26, 43, 184, 0, 48, 184, 1, 158, 177]
abbrev dktJ17_checkIndex_0 : List UInt8 := dkwJ17_checkIndex_0 ++ []
theorem dksJ17_checkIndex_0 : cJ17_checkIndex.data.toList.drop 0 = dktJ17_checkIndex_0 := by decide +kernel
theorem dJ17_checkIndex_0 : decode cJ17_checkIndex 0 = .ok (.iload_n 0, 1) := dk_26 (dk_at dksJ17_checkIndex_0 0 rfl rfl)
theorem dJ17_checkIndex_1 : decode cJ17_checkIndex 1 = .ok (.aload_n 1, 1) := dk_43 (dk_at dksJ17_checkIndex_0 1 rfl rfl)
theorem dJ17_checkIndex_2 : decode cJ17_checkIndex 2 = .ok (.invokestatic 48, 3) := dk_184 0 48 (dk_at dksJ17_checkIndex_0 2 rfl rfl)
theorem dJ17_checkIndex_5 : decode cJ17_checkIndex 5 = .ok (.invokestatic 414, 3) := dk_184 1 158 (dk_at dksJ17_checkIndex_0 5 rfl rfl)
theorem dJ17_checkIndex_8 : decode cJ17_checkIndex 8 = .ok (.return_, 1) := dk_177 (dk_at dksJ17_checkIndex_0 8 rfl rfl)
abbrev cJ17_compress : ByteArray := prog_36_method_17_code
def yJ17_compress : MethodName := ⟨RJ17, "compress", "([BII)[B"⟩
def dkwJ17_compress_2 : List UInt8 := [25, 5, 3, 45, 3, 28, 184, 0, 123, 28, 159, 0, 6, 25, 5, 176, 45, 176]
abbrev dktJ17_compress_2 : List UInt8 := dkwJ17_compress_2 ++ []
def dkwJ17_compress_1 : List UInt8 := [27, 28, 96, 184, 0, 11, 184, 0, 126, 58, 5, 25, 5, 21, 4, 184, 0, 71, 17, 0, 255, 163, 0, 16]
abbrev dktJ17_compress_1 : List UInt8 := dkwJ17_compress_1 ++ dktJ17_compress_2
def dkwJ17_compress_0 : List UInt8 := [28, 188, 8, 78, 42, 27, 45, 3, 28, 184, 0, 123, 54, 4, 21, 4, 28, 159, 0, 47, 42, 27, 4, 120]
abbrev dktJ17_compress_0 : List UInt8 := dkwJ17_compress_0 ++ dktJ17_compress_1
theorem dksJ17_compress_0 : cJ17_compress.data.toList.drop 0 = dktJ17_compress_0 := by decide +kernel
theorem dksJ17_compress_1 : cJ17_compress.data.toList.drop 24 = dktJ17_compress_1 := dk_seg dksJ17_compress_0 24 rfl rfl
theorem dksJ17_compress_2 : cJ17_compress.data.toList.drop 48 = dktJ17_compress_2 := dk_seg dksJ17_compress_1 24 rfl rfl
theorem dJ17_compress_0 : decode cJ17_compress 0 = .ok (.iload_n 2, 1) := dk_28 (dk_at dksJ17_compress_0 0 rfl rfl)
theorem dJ17_compress_1 : decode cJ17_compress 1 = .ok (.newarray .byte, 2) := dk_188_8 (dk_at dksJ17_compress_0 1 rfl rfl)
theorem dJ17_compress_3 : decode cJ17_compress 3 = .ok (.astore_n 3, 1) := dk_78 (dk_at dksJ17_compress_0 3 rfl rfl)
theorem dJ17_compress_4 : decode cJ17_compress 4 = .ok (.aload_n 0, 1) := dk_42 (dk_at dksJ17_compress_0 4 rfl rfl)
theorem dJ17_compress_5 : decode cJ17_compress 5 = .ok (.iload_n 1, 1) := dk_27 (dk_at dksJ17_compress_0 5 rfl rfl)
theorem dJ17_compress_6 : decode cJ17_compress 6 = .ok (.aload_n 3, 1) := dk_45 (dk_at dksJ17_compress_0 6 rfl rfl)
theorem dJ17_compress_7 : decode cJ17_compress 7 = .ok (.iconst 0, 1) := dk_3 (dk_at dksJ17_compress_0 7 rfl rfl)
theorem dJ17_compress_8 : decode cJ17_compress 8 = .ok (.iload_n 2, 1) := dk_28 (dk_at dksJ17_compress_0 8 rfl rfl)
theorem dJ17_compress_9 : decode cJ17_compress 9 = .ok (.invokestatic 123, 3) := dk_184 0 123 (dk_at dksJ17_compress_0 9 rfl rfl)
theorem dJ17_compress_12 : decode cJ17_compress 12 = .ok (.istore 4, 2) := dk_54 4 (dk_at dksJ17_compress_0 12 rfl rfl)
theorem dJ17_compress_14 : decode cJ17_compress 14 = .ok (.iload 4, 2) := dk_21 4 (dk_at dksJ17_compress_0 14 rfl rfl)
theorem dJ17_compress_16 : decode cJ17_compress 16 = .ok (.iload_n 2, 1) := dk_28 (dk_at dksJ17_compress_0 16 rfl rfl)
theorem dJ17_compress_17 : decode cJ17_compress 17 = .ok (.if_icmp .eq 47, 3) := dk_159 0 47 (dk_at dksJ17_compress_0 17 rfl rfl)
theorem dJ17_compress_20 : decode cJ17_compress 20 = .ok (.aload_n 0, 1) := dk_42 (dk_at dksJ17_compress_0 20 rfl rfl)
theorem dJ17_compress_21 : decode cJ17_compress 21 = .ok (.iload_n 1, 1) := dk_27 (dk_at dksJ17_compress_0 21 rfl rfl)
theorem dJ17_compress_22 : decode cJ17_compress 22 = .ok (.iconst 1, 1) := dk_4 (dk_at dksJ17_compress_0 22 rfl rfl)
theorem dJ17_compress_23 : decode cJ17_compress 23 = .ok (.ishl, 1) := dk_120 (dk_at dksJ17_compress_0 23 rfl rfl)
theorem dJ17_compress_24 : decode cJ17_compress 24 = .ok (.iload_n 1, 1) := dk_27 (dk_at dksJ17_compress_1 0 rfl rfl)
theorem dJ17_compress_25 : decode cJ17_compress 25 = .ok (.iload_n 2, 1) := dk_28 (dk_at dksJ17_compress_1 1 rfl rfl)
theorem dJ17_compress_26 : decode cJ17_compress 26 = .ok (.iadd, 1) := dk_96 (dk_at dksJ17_compress_1 2 rfl rfl)
theorem dJ17_compress_27 : decode cJ17_compress 27 = .ok (.invokestatic 11, 3) := dk_184 0 11 (dk_at dksJ17_compress_1 3 rfl rfl)
theorem dJ17_compress_30 : decode cJ17_compress 30 = .ok (.invokestatic 126, 3) := dk_184 0 126 (dk_at dksJ17_compress_1 6 rfl rfl)
theorem dJ17_compress_33 : decode cJ17_compress 33 = .ok (.astore 5, 2) := dk_58 5 (dk_at dksJ17_compress_1 9 rfl rfl)
theorem dJ17_compress_35 : decode cJ17_compress 35 = .ok (.aload 5, 2) := dk_25 5 (dk_at dksJ17_compress_1 11 rfl rfl)
theorem dJ17_compress_37 : decode cJ17_compress 37 = .ok (.iload 4, 2) := dk_21 4 (dk_at dksJ17_compress_1 13 rfl rfl)
theorem dJ17_compress_39 : decode cJ17_compress 39 = .ok (.invokestatic 71, 3) := dk_184 0 71 (dk_at dksJ17_compress_1 15 rfl rfl)
theorem dJ17_compress_42 : decode cJ17_compress 42 = .ok (.sipush 255, 3) := dk_17 0 255 (dk_at dksJ17_compress_1 18 rfl rfl)
theorem dJ17_compress_45 : decode cJ17_compress 45 = .ok (.if_icmp .gt 16, 3) := dk_163 0 16 (dk_at dksJ17_compress_1 21 rfl rfl)
theorem dJ17_compress_48 : decode cJ17_compress 48 = .ok (.aload 5, 2) := dk_25 5 (dk_at dksJ17_compress_2 0 rfl rfl)
theorem dJ17_compress_50 : decode cJ17_compress 50 = .ok (.iconst 0, 1) := dk_3 (dk_at dksJ17_compress_2 2 rfl rfl)
theorem dJ17_compress_51 : decode cJ17_compress 51 = .ok (.aload_n 3, 1) := dk_45 (dk_at dksJ17_compress_2 3 rfl rfl)
theorem dJ17_compress_52 : decode cJ17_compress 52 = .ok (.iconst 0, 1) := dk_3 (dk_at dksJ17_compress_2 4 rfl rfl)
theorem dJ17_compress_53 : decode cJ17_compress 53 = .ok (.iload_n 2, 1) := dk_28 (dk_at dksJ17_compress_2 5 rfl rfl)
theorem dJ17_compress_54 : decode cJ17_compress 54 = .ok (.invokestatic 123, 3) := dk_184 0 123 (dk_at dksJ17_compress_2 6 rfl rfl)
theorem dJ17_compress_57 : decode cJ17_compress 57 = .ok (.iload_n 2, 1) := dk_28 (dk_at dksJ17_compress_2 9 rfl rfl)
theorem dJ17_compress_58 : decode cJ17_compress 58 = .ok (.if_icmp .eq 6, 3) := dk_159 0 6 (dk_at dksJ17_compress_2 10 rfl rfl)
theorem dJ17_compress_61 : decode cJ17_compress 61 = .ok (.aload 5, 2) := dk_25 5 (dk_at dksJ17_compress_2 13 rfl rfl)
theorem dJ17_compress_63 : decode cJ17_compress 63 = .ok (.areturn, 1) := dk_176 (dk_at dksJ17_compress_2 15 rfl rfl)
theorem dJ17_compress_64 : decode cJ17_compress 64 = .ok (.aload_n 3, 1) := dk_45 (dk_at dksJ17_compress_2 16 rfl rfl)
theorem dJ17_compress_65 : decode cJ17_compress 65 = .ok (.areturn, 1) := dk_176 (dk_at dksJ17_compress_2 17 rfl rfl)
abbrev cJ17_compress_2 : ByteArray := prog_36_method_22_code
def yJ17_compress_2 : MethodName := ⟨RJ17, "compress", "([BI[BII)I"⟩
def dkwJ17_compress_2_2 : List UInt8 := [132, 5, 1, 167, 255, 216, 21, 4, 172]
abbrev dktJ17_compress_2_2 : List UInt8 := dkwJ17_compress_2_2 ++ []
def dkwJ17_compress_2_1 : List UInt8 := [21, 6, 17, 0, 255, 164, 0, 6, 21, 5, 172, 44, 29, 21, 6, 145, 84, 132, 1, 1, 132, 3, 1]
abbrev dktJ17_compress_2_1 : List UInt8 := dkwJ17_compress_2_1 ++ dktJ17_compress_2_2
def dkwJ17_compress_2_0 : List UInt8 := [27, 21, 4, 42, 184, 0, 173, 3, 54, 5, 21, 5, 21, 4, 162, 0, 39, 42, 27, 184, 0, 71, 54, 6]
abbrev dktJ17_compress_2_0 : List UInt8 := dkwJ17_compress_2_0 ++ dktJ17_compress_2_1
theorem dksJ17_compress_2_0 : cJ17_compress_2.data.toList.drop 0 = dktJ17_compress_2_0 := by decide +kernel
theorem dksJ17_compress_2_1 : cJ17_compress_2.data.toList.drop 24 = dktJ17_compress_2_1 := dk_seg dksJ17_compress_2_0 24 rfl rfl
theorem dksJ17_compress_2_2 : cJ17_compress_2.data.toList.drop 47 = dktJ17_compress_2_2 := dk_seg dksJ17_compress_2_1 23 rfl rfl
theorem dJ17_compress_2_0 : decode cJ17_compress_2 0 = .ok (.iload_n 1, 1) := dk_27 (dk_at dksJ17_compress_2_0 0 rfl rfl)
theorem dJ17_compress_2_1 : decode cJ17_compress_2 1 = .ok (.iload 4, 2) := dk_21 4 (dk_at dksJ17_compress_2_0 1 rfl rfl)
theorem dJ17_compress_2_3 : decode cJ17_compress_2 3 = .ok (.aload_n 0, 1) := dk_42 (dk_at dksJ17_compress_2_0 3 rfl rfl)
theorem dJ17_compress_2_4 : decode cJ17_compress_2 4 = .ok (.invokestatic 173, 3) := dk_184 0 173 (dk_at dksJ17_compress_2_0 4 rfl rfl)
theorem dJ17_compress_2_7 : decode cJ17_compress_2 7 = .ok (.iconst 0, 1) := dk_3 (dk_at dksJ17_compress_2_0 7 rfl rfl)
theorem dJ17_compress_2_8 : decode cJ17_compress_2 8 = .ok (.istore 5, 2) := dk_54 5 (dk_at dksJ17_compress_2_0 8 rfl rfl)
theorem dJ17_compress_2_10 : decode cJ17_compress_2 10 = .ok (.iload 5, 2) := dk_21 5 (dk_at dksJ17_compress_2_0 10 rfl rfl)
theorem dJ17_compress_2_12 : decode cJ17_compress_2 12 = .ok (.iload 4, 2) := dk_21 4 (dk_at dksJ17_compress_2_0 12 rfl rfl)
theorem dJ17_compress_2_14 : decode cJ17_compress_2 14 = .ok (.if_icmp .ge 39, 3) := dk_162 0 39 (dk_at dksJ17_compress_2_0 14 rfl rfl)
theorem dJ17_compress_2_17 : decode cJ17_compress_2 17 = .ok (.aload_n 0, 1) := dk_42 (dk_at dksJ17_compress_2_0 17 rfl rfl)
theorem dJ17_compress_2_18 : decode cJ17_compress_2 18 = .ok (.iload_n 1, 1) := dk_27 (dk_at dksJ17_compress_2_0 18 rfl rfl)
theorem dJ17_compress_2_19 : decode cJ17_compress_2 19 = .ok (.invokestatic 71, 3) := dk_184 0 71 (dk_at dksJ17_compress_2_0 19 rfl rfl)
theorem dJ17_compress_2_22 : decode cJ17_compress_2 22 = .ok (.istore 6, 2) := dk_54 6 (dk_at dksJ17_compress_2_0 22 rfl rfl)
theorem dJ17_compress_2_24 : decode cJ17_compress_2 24 = .ok (.iload 6, 2) := dk_21 6 (dk_at dksJ17_compress_2_1 0 rfl rfl)
theorem dJ17_compress_2_26 : decode cJ17_compress_2 26 = .ok (.sipush 255, 3) := dk_17 0 255 (dk_at dksJ17_compress_2_1 2 rfl rfl)
theorem dJ17_compress_2_29 : decode cJ17_compress_2 29 = .ok (.if_icmp .le 6, 3) := dk_164 0 6 (dk_at dksJ17_compress_2_1 5 rfl rfl)
theorem dJ17_compress_2_32 : decode cJ17_compress_2 32 = .ok (.iload 5, 2) := dk_21 5 (dk_at dksJ17_compress_2_1 8 rfl rfl)
theorem dJ17_compress_2_34 : decode cJ17_compress_2 34 = .ok (.ireturn, 1) := dk_172 (dk_at dksJ17_compress_2_1 10 rfl rfl)
theorem dJ17_compress_2_35 : decode cJ17_compress_2 35 = .ok (.aload_n 2, 1) := dk_44 (dk_at dksJ17_compress_2_1 11 rfl rfl)
theorem dJ17_compress_2_36 : decode cJ17_compress_2 36 = .ok (.iload_n 3, 1) := dk_29 (dk_at dksJ17_compress_2_1 12 rfl rfl)
theorem dJ17_compress_2_37 : decode cJ17_compress_2 37 = .ok (.iload 6, 2) := dk_21 6 (dk_at dksJ17_compress_2_1 13 rfl rfl)
theorem dJ17_compress_2_39 : decode cJ17_compress_2 39 = .ok (.i2b, 1) := dk_145 (dk_at dksJ17_compress_2_1 15 rfl rfl)
theorem dJ17_compress_2_40 : decode cJ17_compress_2 40 = .ok (.bastore, 1) := dk_84 (dk_at dksJ17_compress_2_1 16 rfl rfl)
theorem dJ17_compress_2_41 : decode cJ17_compress_2 41 = .ok (.iinc 1 1, 3) := dk_132 1 1 (dk_at dksJ17_compress_2_1 17 rfl rfl)
theorem dJ17_compress_2_44 : decode cJ17_compress_2 44 = .ok (.iinc 3 1, 3) := dk_132 3 1 (dk_at dksJ17_compress_2_1 20 rfl rfl)
theorem dJ17_compress_2_47 : decode cJ17_compress_2 47 = .ok (.iinc 5 1, 3) := dk_132 5 1 (dk_at dksJ17_compress_2_2 0 rfl rfl)
theorem dJ17_compress_2_50 : decode cJ17_compress_2 50 = .ok (.goto (-40), 3) := dk_167 255 216 (dk_at dksJ17_compress_2_2 3 rfl rfl)
theorem dJ17_compress_2_53 : decode cJ17_compress_2 53 = .ok (.iload 4, 2) := dk_21 4 (dk_at dksJ17_compress_2_2 6 rfl rfl)
theorem dJ17_compress_2_55 : decode cJ17_compress_2 55 = .ok (.ireturn, 1) := dk_172 (dk_at dksJ17_compress_2_2 8 rfl rfl)
abbrev cJ17_getChar : ByteArray := prog_36_method_5_code
def yJ17_getChar : MethodName := ⟨RJ17, "getChar", "([BI)C"⟩
def dkwJ17_getChar_2 : List UInt8 := [51, 17, 0, 255, 126, 178, 0, 63, 120, 128, 146, 172]
abbrev dktJ17_getChar_2 : List UInt8 := dkwJ17_getChar_2 ++ []
def dkwJ17_getChar_1 : List UInt8 := [183, 0, 56, 191, 27, 4, 120, 60, 42, 27, 132, 1, 1, 51, 17, 0, 255, 126, 178, 0, 59, 120, 42, 27]
abbrev dktJ17_getChar_1 : List UInt8 := dkwJ17_getChar_1 ++ dktJ17_getChar_2
def dkwJ17_getChar_0 : List UInt8 := [178, 0, 44, 154, 0, 25, 27, 155, 0, 11, 27, 42, 184, 0, 48, 161, 0, 13, 187, 0, 52, 89, 18, 54]
abbrev dktJ17_getChar_0 : List UInt8 := dkwJ17_getChar_0 ++ dktJ17_getChar_1
theorem dksJ17_getChar_0 : cJ17_getChar.data.toList.drop 0 = dktJ17_getChar_0 := by decide +kernel
theorem dksJ17_getChar_1 : cJ17_getChar.data.toList.drop 24 = dktJ17_getChar_1 := dk_seg dksJ17_getChar_0 24 rfl rfl
theorem dksJ17_getChar_2 : cJ17_getChar.data.toList.drop 48 = dktJ17_getChar_2 := dk_seg dksJ17_getChar_1 24 rfl rfl
theorem dJ17_getChar_0 : decode cJ17_getChar 0 = .ok (.getstatic 44, 3) := dk_178 0 44 (dk_at dksJ17_getChar_0 0 rfl rfl)
theorem dJ17_getChar_3 : decode cJ17_getChar 3 = .ok (.ifCond .ne 25, 3) := dk_154 0 25 (dk_at dksJ17_getChar_0 3 rfl rfl)
theorem dJ17_getChar_6 : decode cJ17_getChar 6 = .ok (.iload_n 1, 1) := dk_27 (dk_at dksJ17_getChar_0 6 rfl rfl)
theorem dJ17_getChar_7 : decode cJ17_getChar 7 = .ok (.ifCond .lt 11, 3) := dk_155 0 11 (dk_at dksJ17_getChar_0 7 rfl rfl)
theorem dJ17_getChar_10 : decode cJ17_getChar 10 = .ok (.iload_n 1, 1) := dk_27 (dk_at dksJ17_getChar_0 10 rfl rfl)
theorem dJ17_getChar_11 : decode cJ17_getChar 11 = .ok (.aload_n 0, 1) := dk_42 (dk_at dksJ17_getChar_0 11 rfl rfl)
theorem dJ17_getChar_12 : decode cJ17_getChar 12 = .ok (.invokestatic 48, 3) := dk_184 0 48 (dk_at dksJ17_getChar_0 12 rfl rfl)
theorem dJ17_getChar_15 : decode cJ17_getChar 15 = .ok (.if_icmp .lt 13, 3) := dk_161 0 13 (dk_at dksJ17_getChar_0 15 rfl rfl)
theorem dJ17_getChar_18 : decode cJ17_getChar 18 = .ok (.new 52, 3) := dk_187 0 52 (dk_at dksJ17_getChar_0 18 rfl rfl)
theorem dJ17_getChar_21 : decode cJ17_getChar 21 = .ok (.dup, 1) := dk_89 (dk_at dksJ17_getChar_0 21 rfl rfl)
theorem dJ17_getChar_22 : decode cJ17_getChar 22 = .ok (.ldc 54, 2) := dk_18 54 (dk_at dksJ17_getChar_0 22 rfl rfl)
theorem dJ17_getChar_24 : decode cJ17_getChar 24 = .ok (.invokespecial 56, 3) := dk_183 0 56 (dk_at dksJ17_getChar_1 0 rfl rfl)
theorem dJ17_getChar_27 : decode cJ17_getChar 27 = .ok (.athrow, 1) := dk_191 (dk_at dksJ17_getChar_1 3 rfl rfl)
theorem dJ17_getChar_28 : decode cJ17_getChar 28 = .ok (.iload_n 1, 1) := dk_27 (dk_at dksJ17_getChar_1 4 rfl rfl)
theorem dJ17_getChar_29 : decode cJ17_getChar 29 = .ok (.iconst 1, 1) := dk_4 (dk_at dksJ17_getChar_1 5 rfl rfl)
theorem dJ17_getChar_30 : decode cJ17_getChar 30 = .ok (.ishl, 1) := dk_120 (dk_at dksJ17_getChar_1 6 rfl rfl)
theorem dJ17_getChar_31 : decode cJ17_getChar 31 = .ok (.istore_n 1, 1) := dk_60 (dk_at dksJ17_getChar_1 7 rfl rfl)
theorem dJ17_getChar_32 : decode cJ17_getChar 32 = .ok (.aload_n 0, 1) := dk_42 (dk_at dksJ17_getChar_1 8 rfl rfl)
theorem dJ17_getChar_33 : decode cJ17_getChar 33 = .ok (.iload_n 1, 1) := dk_27 (dk_at dksJ17_getChar_1 9 rfl rfl)
theorem dJ17_getChar_34 : decode cJ17_getChar 34 = .ok (.iinc 1 1, 3) := dk_132 1 1 (dk_at dksJ17_getChar_1 10 rfl rfl)
theorem dJ17_getChar_37 : decode cJ17_getChar 37 = .ok (.baload, 1) := dk_51 (dk_at dksJ17_getChar_1 13 rfl rfl)
theorem dJ17_getChar_38 : decode cJ17_getChar 38 = .ok (.sipush 255, 3) := dk_17 0 255 (dk_at dksJ17_getChar_1 14 rfl rfl)
theorem dJ17_getChar_41 : decode cJ17_getChar 41 = .ok (.iand, 1) := dk_126 (dk_at dksJ17_getChar_1 17 rfl rfl)
theorem dJ17_getChar_42 : decode cJ17_getChar 42 = .ok (.getstatic 59, 3) := dk_178 0 59 (dk_at dksJ17_getChar_1 18 rfl rfl)
theorem dJ17_getChar_45 : decode cJ17_getChar 45 = .ok (.ishl, 1) := dk_120 (dk_at dksJ17_getChar_1 21 rfl rfl)
theorem dJ17_getChar_46 : decode cJ17_getChar 46 = .ok (.aload_n 0, 1) := dk_42 (dk_at dksJ17_getChar_1 22 rfl rfl)
theorem dJ17_getChar_47 : decode cJ17_getChar 47 = .ok (.iload_n 1, 1) := dk_27 (dk_at dksJ17_getChar_1 23 rfl rfl)
theorem dJ17_getChar_48 : decode cJ17_getChar 48 = .ok (.baload, 1) := dk_51 (dk_at dksJ17_getChar_2 0 rfl rfl)
theorem dJ17_getChar_49 : decode cJ17_getChar 49 = .ok (.sipush 255, 3) := dk_17 0 255 (dk_at dksJ17_getChar_2 1 rfl rfl)
theorem dJ17_getChar_52 : decode cJ17_getChar 52 = .ok (.iand, 1) := dk_126 (dk_at dksJ17_getChar_2 4 rfl rfl)
theorem dJ17_getChar_53 : decode cJ17_getChar 53 = .ok (.getstatic 63, 3) := dk_178 0 63 (dk_at dksJ17_getChar_2 5 rfl rfl)
theorem dJ17_getChar_56 : decode cJ17_getChar 56 = .ok (.ishl, 1) := dk_120 (dk_at dksJ17_getChar_2 8 rfl rfl)
theorem dJ17_getChar_57 : decode cJ17_getChar 57 = .ok (.ior, 1) := dk_128 (dk_at dksJ17_getChar_2 9 rfl rfl)
theorem dJ17_getChar_58 : decode cJ17_getChar 58 = .ok (.i2c, 1) := dk_146 (dk_at dksJ17_getChar_2 10 rfl rfl)
theorem dJ17_getChar_59 : decode cJ17_getChar 59 = .ok (.ireturn, 1) := dk_172 (dk_at dksJ17_getChar_2 11 rfl rfl)
abbrev cJ17_coderFromArrayLen : ByteArray := prog_36_method_15_code
def yJ17_coderFromArrayLen : MethodName := ⟨RJ17, "coderFromArrayLen", "([BI)B"⟩
def dkwJ17_coderFromArrayLen_0 : List UInt8 := [27, 42, 190, 100, 16, 31, 124, 145, 172]
abbrev dktJ17_coderFromArrayLen_0 : List UInt8 := dkwJ17_coderFromArrayLen_0 ++ []
theorem dksJ17_coderFromArrayLen_0 : cJ17_coderFromArrayLen.data.toList.drop 0 = dktJ17_coderFromArrayLen_0 := by decide +kernel
theorem dJ17_coderFromArrayLen_0 : decode cJ17_coderFromArrayLen 0 = .ok (.iload_n 1, 1) := dk_27 (dk_at dksJ17_coderFromArrayLen_0 0 rfl rfl)
theorem dJ17_coderFromArrayLen_1 : decode cJ17_coderFromArrayLen 1 = .ok (.aload_n 0, 1) := dk_42 (dk_at dksJ17_coderFromArrayLen_0 1 rfl rfl)
theorem dJ17_coderFromArrayLen_2 : decode cJ17_coderFromArrayLen 2 = .ok (.arraylength, 1) := dk_190 (dk_at dksJ17_coderFromArrayLen_0 2 rfl rfl)
theorem dJ17_coderFromArrayLen_3 : decode cJ17_coderFromArrayLen 3 = .ok (.isub, 1) := dk_100 (dk_at dksJ17_coderFromArrayLen_0 3 rfl rfl)
theorem dJ17_coderFromArrayLen_4 : decode cJ17_coderFromArrayLen 4 = .ok (.bipush 31, 2) := dk_16 31 (dk_at dksJ17_coderFromArrayLen_0 4 rfl rfl)
theorem dJ17_coderFromArrayLen_6 : decode cJ17_coderFromArrayLen 6 = .ok (.iushr, 1) := dk_124 (dk_at dksJ17_coderFromArrayLen_0 6 rfl rfl)
theorem dJ17_coderFromArrayLen_7 : decode cJ17_coderFromArrayLen 7 = .ok (.i2b, 1) := dk_145 (dk_at dksJ17_coderFromArrayLen_0 7 rfl rfl)
theorem dJ17_coderFromArrayLen_8 : decode cJ17_coderFromArrayLen 8 = .ok (.ireturn, 1) := dk_172 (dk_at dksJ17_coderFromArrayLen_0 8 rfl rfl)
abbrev cJ17_putCharsAt : ByteArray := prog_36_method_81_code
def yJ17_putCharsAt : MethodName := ⟨RJ17, "putCharsAt", "([BICCCC)I"⟩
def dkwJ17_putCharsAt_3 : List UInt8 := [21, 6, 172]
abbrev dktJ17_putCharsAt_3 : List UInt8 := dkwJ17_putCharsAt_3 ++ []
def dkwJ17_putCharsAt_2 : List UInt8 := [184, 0, 111, 178, 0, 44, 154, 0, 17, 27, 21, 6, 159, 0, 11, 187, 0, 52, 89, 183, 0, 66, 191]
abbrev dktJ17_putCharsAt_2 : List UInt8 := dkwJ17_putCharsAt_2 ++ dktJ17_putCharsAt_3
def dkwJ17_putCharsAt_1 : List UInt8 := [132, 1, 1, 29, 184, 0, 111, 42, 27, 132, 1, 1, 21, 4, 184, 0, 111, 42, 27, 132, 1, 1, 21, 5]
abbrev dktJ17_putCharsAt_1 : List UInt8 := dkwJ17_putCharsAt_1 ++ dktJ17_putCharsAt_2
def dkwJ17_putCharsAt_0 : List UInt8 := [27, 7, 96, 54, 6, 27, 21, 6, 42, 184, 0, 96, 42, 27, 132, 1, 1, 28, 184, 0, 111, 42, 27]
abbrev dktJ17_putCharsAt_0 : List UInt8 := dkwJ17_putCharsAt_0 ++ dktJ17_putCharsAt_1
theorem dksJ17_putCharsAt_0 : cJ17_putCharsAt.data.toList.drop 0 = dktJ17_putCharsAt_0 := by decide +kernel
theorem dksJ17_putCharsAt_1 : cJ17_putCharsAt.data.toList.drop 23 = dktJ17_putCharsAt_1 := dk_seg dksJ17_putCharsAt_0 23 rfl rfl
theorem dksJ17_putCharsAt_2 : cJ17_putCharsAt.data.toList.drop 47 = dktJ17_putCharsAt_2 := dk_seg dksJ17_putCharsAt_1 24 rfl rfl
theorem dksJ17_putCharsAt_3 : cJ17_putCharsAt.data.toList.drop 70 = dktJ17_putCharsAt_3 := dk_seg dksJ17_putCharsAt_2 23 rfl rfl
theorem dJ17_putCharsAt_0 : decode cJ17_putCharsAt 0 = .ok (.iload_n 1, 1) := dk_27 (dk_at dksJ17_putCharsAt_0 0 rfl rfl)
theorem dJ17_putCharsAt_1 : decode cJ17_putCharsAt 1 = .ok (.iconst 4, 1) := dk_7 (dk_at dksJ17_putCharsAt_0 1 rfl rfl)
theorem dJ17_putCharsAt_2 : decode cJ17_putCharsAt 2 = .ok (.iadd, 1) := dk_96 (dk_at dksJ17_putCharsAt_0 2 rfl rfl)
theorem dJ17_putCharsAt_3 : decode cJ17_putCharsAt 3 = .ok (.istore 6, 2) := dk_54 6 (dk_at dksJ17_putCharsAt_0 3 rfl rfl)
theorem dJ17_putCharsAt_5 : decode cJ17_putCharsAt 5 = .ok (.iload_n 1, 1) := dk_27 (dk_at dksJ17_putCharsAt_0 5 rfl rfl)
theorem dJ17_putCharsAt_6 : decode cJ17_putCharsAt 6 = .ok (.iload 6, 2) := dk_21 6 (dk_at dksJ17_putCharsAt_0 6 rfl rfl)
theorem dJ17_putCharsAt_8 : decode cJ17_putCharsAt 8 = .ok (.aload_n 0, 1) := dk_42 (dk_at dksJ17_putCharsAt_0 8 rfl rfl)
theorem dJ17_putCharsAt_9 : decode cJ17_putCharsAt 9 = .ok (.invokestatic 96, 3) := dk_184 0 96 (dk_at dksJ17_putCharsAt_0 9 rfl rfl)
theorem dJ17_putCharsAt_12 : decode cJ17_putCharsAt 12 = .ok (.aload_n 0, 1) := dk_42 (dk_at dksJ17_putCharsAt_0 12 rfl rfl)
theorem dJ17_putCharsAt_13 : decode cJ17_putCharsAt 13 = .ok (.iload_n 1, 1) := dk_27 (dk_at dksJ17_putCharsAt_0 13 rfl rfl)
theorem dJ17_putCharsAt_14 : decode cJ17_putCharsAt 14 = .ok (.iinc 1 1, 3) := dk_132 1 1 (dk_at dksJ17_putCharsAt_0 14 rfl rfl)
theorem dJ17_putCharsAt_17 : decode cJ17_putCharsAt 17 = .ok (.iload_n 2, 1) := dk_28 (dk_at dksJ17_putCharsAt_0 17 rfl rfl)
theorem dJ17_putCharsAt_18 : decode cJ17_putCharsAt 18 = .ok (.invokestatic 111, 3) := dk_184 0 111 (dk_at dksJ17_putCharsAt_0 18 rfl rfl)
theorem dJ17_putCharsAt_21 : decode cJ17_putCharsAt 21 = .ok (.aload_n 0, 1) := dk_42 (dk_at dksJ17_putCharsAt_0 21 rfl rfl)
theorem dJ17_putCharsAt_22 : decode cJ17_putCharsAt 22 = .ok (.iload_n 1, 1) := dk_27 (dk_at dksJ17_putCharsAt_0 22 rfl rfl)
theorem dJ17_putCharsAt_23 : decode cJ17_putCharsAt 23 = .ok (.iinc 1 1, 3) := dk_132 1 1 (dk_at dksJ17_putCharsAt_1 0 rfl rfl)
theorem dJ17_putCharsAt_26 : decode cJ17_putCharsAt 26 = .ok (.iload_n 3, 1) := dk_29 (dk_at dksJ17_putCharsAt_1 3 rfl rfl)
theorem dJ17_putCharsAt_27 : decode cJ17_putCharsAt 27 = .ok (.invokestatic 111, 3) := dk_184 0 111 (dk_at dksJ17_putCharsAt_1 4 rfl rfl)
theorem dJ17_putCharsAt_30 : decode cJ17_putCharsAt 30 = .ok (.aload_n 0, 1) := dk_42 (dk_at dksJ17_putCharsAt_1 7 rfl rfl)
theorem dJ17_putCharsAt_31 : decode cJ17_putCharsAt 31 = .ok (.iload_n 1, 1) := dk_27 (dk_at dksJ17_putCharsAt_1 8 rfl rfl)
theorem dJ17_putCharsAt_32 : decode cJ17_putCharsAt 32 = .ok (.iinc 1 1, 3) := dk_132 1 1 (dk_at dksJ17_putCharsAt_1 9 rfl rfl)
theorem dJ17_putCharsAt_35 : decode cJ17_putCharsAt 35 = .ok (.iload 4, 2) := dk_21 4 (dk_at dksJ17_putCharsAt_1 12 rfl rfl)
theorem dJ17_putCharsAt_37 : decode cJ17_putCharsAt 37 = .ok (.invokestatic 111, 3) := dk_184 0 111 (dk_at dksJ17_putCharsAt_1 14 rfl rfl)
theorem dJ17_putCharsAt_40 : decode cJ17_putCharsAt 40 = .ok (.aload_n 0, 1) := dk_42 (dk_at dksJ17_putCharsAt_1 17 rfl rfl)
theorem dJ17_putCharsAt_41 : decode cJ17_putCharsAt 41 = .ok (.iload_n 1, 1) := dk_27 (dk_at dksJ17_putCharsAt_1 18 rfl rfl)
theorem dJ17_putCharsAt_42 : decode cJ17_putCharsAt 42 = .ok (.iinc 1 1, 3) := dk_132 1 1 (dk_at dksJ17_putCharsAt_1 19 rfl rfl)
theorem dJ17_putCharsAt_45 : decode cJ17_putCharsAt 45 = .ok (.iload 5, 2) := dk_21 5 (dk_at dksJ17_putCharsAt_1 22 rfl rfl)
theorem dJ17_putCharsAt_47 : decode cJ17_putCharsAt 47 = .ok (.invokestatic 111, 3) := dk_184 0 111 (dk_at dksJ17_putCharsAt_2 0 rfl rfl)
theorem dJ17_putCharsAt_50 : decode cJ17_putCharsAt 50 = .ok (.getstatic 44, 3) := dk_178 0 44 (dk_at dksJ17_putCharsAt_2 3 rfl rfl)
theorem dJ17_putCharsAt_53 : decode cJ17_putCharsAt 53 = .ok (.ifCond .ne 17, 3) := dk_154 0 17 (dk_at dksJ17_putCharsAt_2 6 rfl rfl)
theorem dJ17_putCharsAt_56 : decode cJ17_putCharsAt 56 = .ok (.iload_n 1, 1) := dk_27 (dk_at dksJ17_putCharsAt_2 9 rfl rfl)
theorem dJ17_putCharsAt_57 : decode cJ17_putCharsAt 57 = .ok (.iload 6, 2) := dk_21 6 (dk_at dksJ17_putCharsAt_2 10 rfl rfl)
theorem dJ17_putCharsAt_59 : decode cJ17_putCharsAt 59 = .ok (.if_icmp .eq 11, 3) := dk_159 0 11 (dk_at dksJ17_putCharsAt_2 12 rfl rfl)
theorem dJ17_putCharsAt_62 : decode cJ17_putCharsAt 62 = .ok (.new 52, 3) := dk_187 0 52 (dk_at dksJ17_putCharsAt_2 15 rfl rfl)
theorem dJ17_putCharsAt_65 : decode cJ17_putCharsAt 65 = .ok (.dup, 1) := dk_89 (dk_at dksJ17_putCharsAt_2 18 rfl rfl)
theorem dJ17_putCharsAt_66 : decode cJ17_putCharsAt 66 = .ok (.invokespecial 66, 3) := dk_183 0 66 (dk_at dksJ17_putCharsAt_2 19 rfl rfl)
theorem dJ17_putCharsAt_69 : decode cJ17_putCharsAt 69 = .ok (.athrow, 1) := dk_191 (dk_at dksJ17_putCharsAt_2 22 rfl rfl)
theorem dJ17_putCharsAt_70 : decode cJ17_putCharsAt 70 = .ok (.iload 6, 2) := dk_21 6 (dk_at dksJ17_putCharsAt_3 0 rfl rfl)
theorem dJ17_putCharsAt_72 : decode cJ17_putCharsAt 72 = .ok (.ireturn, 1) := dk_172 (dk_at dksJ17_putCharsAt_3 2 rfl rfl)
abbrev cJ17_checkBoundsBeginEnd : ByteArray := prog_36_method_93_code
def yJ17_checkBoundsBeginEnd : MethodName := ⟨RJ17, "checkBoundsBeginEnd", "(II[B)V"⟩
def dkwJ17_checkBoundsBeginEnd_0 : List UInt8 := [26, 27, 44, 184, 0, 48, 184, 0, 241, 177]
abbrev dktJ17_checkBoundsBeginEnd_0 : List UInt8 := dkwJ17_checkBoundsBeginEnd_0 ++ []
theorem dksJ17_checkBoundsBeginEnd_0 : cJ17_checkBoundsBeginEnd.data.toList.drop 0 = dktJ17_checkBoundsBeginEnd_0 := by decide +kernel
theorem dJ17_checkBoundsBeginEnd_0 : decode cJ17_checkBoundsBeginEnd 0 = .ok (.iload_n 0, 1) := dk_26 (dk_at dksJ17_checkBoundsBeginEnd_0 0 rfl rfl)
theorem dJ17_checkBoundsBeginEnd_1 : decode cJ17_checkBoundsBeginEnd 1 = .ok (.iload_n 1, 1) := dk_27 (dk_at dksJ17_checkBoundsBeginEnd_0 1 rfl rfl)
theorem dJ17_checkBoundsBeginEnd_2 : decode cJ17_checkBoundsBeginEnd 2 = .ok (.aload_n 2, 1) := dk_44 (dk_at dksJ17_checkBoundsBeginEnd_0 2 rfl rfl)
theorem dJ17_checkBoundsBeginEnd_3 : decode cJ17_checkBoundsBeginEnd 3 = .ok (.invokestatic 48, 3) := dk_184 0 48 (dk_at dksJ17_checkBoundsBeginEnd_0 3 rfl rfl)
theorem dJ17_checkBoundsBeginEnd_6 : decode cJ17_checkBoundsBeginEnd 6 = .ok (.invokestatic 241, 3) := dk_184 0 241 (dk_at dksJ17_checkBoundsBeginEnd_0 6 rfl rfl)
theorem dJ17_checkBoundsBeginEnd_9 : decode cJ17_checkBoundsBeginEnd 9 = .ok (.return_, 1) := dk_177 (dk_at dksJ17_checkBoundsBeginEnd_0 9 rfl rfl)
abbrev cJ17_getChars : ByteArray := prog_36_method_77_code
def yJ17_getChars : MethodName := ⟨RJ17, "getChars", "(III[B)I"⟩
def dkwJ17_getChars_1 : List UInt8 := [159, 0, 11, 187, 0, 52, 89, 183, 0, 66, 191, 21, 4, 172]
abbrev dktJ17_getChars_1 : List UInt8 := dkwJ17_getChars_1 ++ []
def dkwJ17_getChars_0 : List UInt8 := [27, 28, 45, 184, 0, 96, 26, 28, 45, 184, 1, 137, 54, 4, 178, 0, 44, 154, 0, 17, 27, 21, 4]
abbrev dktJ17_getChars_0 : List UInt8 := dkwJ17_getChars_0 ++ dktJ17_getChars_1
theorem dksJ17_getChars_0 : cJ17_getChars.data.toList.drop 0 = dktJ17_getChars_0 := by decide +kernel
theorem dksJ17_getChars_1 : cJ17_getChars.data.toList.drop 23 = dktJ17_getChars_1 := dk_seg dksJ17_getChars_0 23 rfl rfl
theorem dJ17_getChars_0 : decode cJ17_getChars 0 = .ok (.iload_n 1, 1) := dk_27 (dk_at dksJ17_getChars_0 0 rfl rfl)
theorem dJ17_getChars_1 : decode cJ17_getChars 1 = .ok (.iload_n 2, 1) := dk_28 (dk_at dksJ17_getChars_0 1 rfl rfl)
theorem dJ17_getChars_2 : decode cJ17_getChars 2 = .ok (.aload_n 3, 1) := dk_45 (dk_at dksJ17_getChars_0 2 rfl rfl)
theorem dJ17_getChars_3 : decode cJ17_getChars 3 = .ok (.invokestatic 96, 3) := dk_184 0 96 (dk_at dksJ17_getChars_0 3 rfl rfl)
theorem dJ17_getChars_6 : decode cJ17_getChars 6 = .ok (.iload_n 0, 1) := dk_26 (dk_at dksJ17_getChars_0 6 rfl rfl)
theorem dJ17_getChars_7 : decode cJ17_getChars 7 = .ok (.iload_n 2, 1) := dk_28 (dk_at dksJ17_getChars_0 7 rfl rfl)
theorem dJ17_getChars_8 : decode cJ17_getChars 8 = .ok (.aload_n 3, 1) := dk_45 (dk_at dksJ17_getChars_0 8 rfl rfl)
theorem dJ17_getChars_9 : decode cJ17_getChars 9 = .ok (.invokestatic 393, 3) := dk_184 1 137 (dk_at dksJ17_getChars_0 9 rfl rfl)
theorem dJ17_getChars_12 : decode cJ17_getChars 12 = .ok (.istore 4, 2) := dk_54 4 (dk_at dksJ17_getChars_0 12 rfl rfl)
theorem dJ17_getChars_14 : decode cJ17_getChars 14 = .ok (.getstatic 44, 3) := dk_178 0 44 (dk_at dksJ17_getChars_0 14 rfl rfl)
theorem dJ17_getChars_17 : decode cJ17_getChars 17 = .ok (.ifCond .ne 17, 3) := dk_154 0 17 (dk_at dksJ17_getChars_0 17 rfl rfl)
theorem dJ17_getChars_20 : decode cJ17_getChars 20 = .ok (.iload_n 1, 1) := dk_27 (dk_at dksJ17_getChars_0 20 rfl rfl)
theorem dJ17_getChars_21 : decode cJ17_getChars 21 = .ok (.iload 4, 2) := dk_21 4 (dk_at dksJ17_getChars_0 21 rfl rfl)
theorem dJ17_getChars_23 : decode cJ17_getChars 23 = .ok (.if_icmp .eq 11, 3) := dk_159 0 11 (dk_at dksJ17_getChars_1 0 rfl rfl)
theorem dJ17_getChars_26 : decode cJ17_getChars 26 = .ok (.new 52, 3) := dk_187 0 52 (dk_at dksJ17_getChars_1 3 rfl rfl)
theorem dJ17_getChars_29 : decode cJ17_getChars 29 = .ok (.dup, 1) := dk_89 (dk_at dksJ17_getChars_1 6 rfl rfl)
theorem dJ17_getChars_30 : decode cJ17_getChars 30 = .ok (.invokespecial 66, 3) := dk_183 0 66 (dk_at dksJ17_getChars_1 7 rfl rfl)
theorem dJ17_getChars_33 : decode cJ17_getChars 33 = .ok (.athrow, 1) := dk_191 (dk_at dksJ17_getChars_1 10 rfl rfl)
theorem dJ17_getChars_34 : decode cJ17_getChars 34 = .ok (.iload 4, 2) := dk_21 4 (dk_at dksJ17_getChars_1 11 rfl rfl)
theorem dJ17_getChars_36 : decode cJ17_getChars 36 = .ok (.ireturn, 1) := dk_172 (dk_at dksJ17_getChars_1 13 rfl rfl)
abbrev cJ17_getChars_2 : ByteArray := prog_36_method_89_code
def yJ17_getChars_2 : MethodName := ⟨RJ17, "getChars", "(II[B)I"⟩
def dkwJ17_getChars_2_5 : List UInt8 := [132, 5, 255, 21, 5, 16, 45, 184, 0, 111, 21, 5, 172]
abbrev dktJ17_getChars_2_5 : List UInt8 := dkwJ17_getChars_2_5 ++ []
def dkwJ17_getChars_2_4 : List UInt8 := [162, 0, 18, 44, 132, 5, 255, 21, 5, 178, 1, 151, 26, 116, 51, 184, 0, 111, 21, 6, 153, 0, 14, 44]
abbrev dktJ17_getChars_2_4 : List UInt8 := dkwJ17_getChars_2_4 ++ dktJ17_getChars_2_5
def dkwJ17_getChars_2_3 : List UInt8 := [184, 0, 111, 167, 255, 205, 44, 132, 5, 255, 21, 5, 178, 1, 147, 26, 116, 51, 184, 0, 111, 26, 16, 247]
abbrev dktJ17_getChars_2_3 : List UInt8 := dkwJ17_getChars_2_3 ++ dktJ17_getChars_2_4
def dkwJ17_getChars_2_2 : List UInt8 := [21, 5, 178, 1, 147, 21, 4, 51, 184, 0, 111, 44, 132, 5, 255, 21, 5, 178, 1, 151, 21, 4, 51]
abbrev dktJ17_getChars_2_2 : List UInt8 := dkwJ17_getChars_2_2 ++ dktJ17_getChars_2_3
def dkwJ17_getChars_2_1 : List UInt8 := [16, 156, 163, 0, 51, 26, 16, 100, 108, 62, 29, 16, 100, 104, 26, 100, 54, 4, 29, 59, 44, 132, 5, 255]
abbrev dktJ17_getChars_2_1 : List UInt8 := dkwJ17_getChars_2_1 ++ dktJ17_getChars_2_2
def dkwJ17_getChars_2_0 : List UInt8 := [27, 54, 5, 26, 156, 0, 7, 4, 167, 0, 4, 3, 54, 6, 21, 6, 154, 0, 6, 26, 116, 59, 26]
abbrev dktJ17_getChars_2_0 : List UInt8 := dkwJ17_getChars_2_0 ++ dktJ17_getChars_2_1
theorem dksJ17_getChars_2_0 : cJ17_getChars_2.data.toList.drop 0 = dktJ17_getChars_2_0 := by decide +kernel
theorem dksJ17_getChars_2_1 : cJ17_getChars_2.data.toList.drop 23 = dktJ17_getChars_2_1 := dk_seg dksJ17_getChars_2_0 23 rfl rfl
theorem dksJ17_getChars_2_2 : cJ17_getChars_2.data.toList.drop 47 = dktJ17_getChars_2_2 := dk_seg dksJ17_getChars_2_1 24 rfl rfl
theorem dksJ17_getChars_2_3 : cJ17_getChars_2.data.toList.drop 70 = dktJ17_getChars_2_3 := dk_seg dksJ17_getChars_2_2 23 rfl rfl
theorem dksJ17_getChars_2_4 : cJ17_getChars_2.data.toList.drop 94 = dktJ17_getChars_2_4 := dk_seg dksJ17_getChars_2_3 24 rfl rfl
theorem dksJ17_getChars_2_5 : cJ17_getChars_2.data.toList.drop 118 = dktJ17_getChars_2_5 := dk_seg dksJ17_getChars_2_4 24 rfl rfl
theorem dJ17_getChars_2_0 : decode cJ17_getChars_2 0 = .ok (.iload_n 1, 1) := dk_27 (dk_at dksJ17_getChars_2_0 0 rfl rfl)
theorem dJ17_getChars_2_1 : decode cJ17_getChars_2 1 = .ok (.istore 5, 2) := dk_54 5 (dk_at dksJ17_getChars_2_0 1 rfl rfl)
theorem dJ17_getChars_2_3 : decode cJ17_getChars_2 3 = .ok (.iload_n 0, 1) := dk_26 (dk_at dksJ17_getChars_2_0 3 rfl rfl)
theorem dJ17_getChars_2_4 : decode cJ17_getChars_2 4 = .ok (.ifCond .ge 7, 3) := dk_156 0 7 (dk_at dksJ17_getChars_2_0 4 rfl rfl)
theorem dJ17_getChars_2_7 : decode cJ17_getChars_2 7 = .ok (.iconst 1, 1) := dk_4 (dk_at dksJ17_getChars_2_0 7 rfl rfl)
theorem dJ17_getChars_2_8 : decode cJ17_getChars_2 8 = .ok (.goto 4, 3) := dk_167 0 4 (dk_at dksJ17_getChars_2_0 8 rfl rfl)
theorem dJ17_getChars_2_11 : decode cJ17_getChars_2 11 = .ok (.iconst 0, 1) := dk_3 (dk_at dksJ17_getChars_2_0 11 rfl rfl)
theorem dJ17_getChars_2_12 : decode cJ17_getChars_2 12 = .ok (.istore 6, 2) := dk_54 6 (dk_at dksJ17_getChars_2_0 12 rfl rfl)
theorem dJ17_getChars_2_14 : decode cJ17_getChars_2 14 = .ok (.iload 6, 2) := dk_21 6 (dk_at dksJ17_getChars_2_0 14 rfl rfl)
theorem dJ17_getChars_2_16 : decode cJ17_getChars_2 16 = .ok (.ifCond .ne 6, 3) := dk_154 0 6 (dk_at dksJ17_getChars_2_0 16 rfl rfl)
theorem dJ17_getChars_2_19 : decode cJ17_getChars_2 19 = .ok (.iload_n 0, 1) := dk_26 (dk_at dksJ17_getChars_2_0 19 rfl rfl)
theorem dJ17_getChars_2_20 : decode cJ17_getChars_2 20 = .ok (.ineg, 1) := dk_116 (dk_at dksJ17_getChars_2_0 20 rfl rfl)
theorem dJ17_getChars_2_21 : decode cJ17_getChars_2 21 = .ok (.istore_n 0, 1) := dk_59 (dk_at dksJ17_getChars_2_0 21 rfl rfl)
theorem dJ17_getChars_2_22 : decode cJ17_getChars_2 22 = .ok (.iload_n 0, 1) := dk_26 (dk_at dksJ17_getChars_2_0 22 rfl rfl)
theorem dJ17_getChars_2_23 : decode cJ17_getChars_2 23 = .ok (.bipush (-100), 2) := dk_16 156 (dk_at dksJ17_getChars_2_1 0 rfl rfl)
theorem dJ17_getChars_2_25 : decode cJ17_getChars_2 25 = .ok (.if_icmp .gt 51, 3) := dk_163 0 51 (dk_at dksJ17_getChars_2_1 2 rfl rfl)
theorem dJ17_getChars_2_28 : decode cJ17_getChars_2 28 = .ok (.iload_n 0, 1) := dk_26 (dk_at dksJ17_getChars_2_1 5 rfl rfl)
theorem dJ17_getChars_2_29 : decode cJ17_getChars_2 29 = .ok (.bipush 100, 2) := dk_16 100 (dk_at dksJ17_getChars_2_1 6 rfl rfl)
theorem dJ17_getChars_2_31 : decode cJ17_getChars_2 31 = .ok (.idiv, 1) := dk_108 (dk_at dksJ17_getChars_2_1 8 rfl rfl)
theorem dJ17_getChars_2_32 : decode cJ17_getChars_2 32 = .ok (.istore_n 3, 1) := dk_62 (dk_at dksJ17_getChars_2_1 9 rfl rfl)
theorem dJ17_getChars_2_33 : decode cJ17_getChars_2 33 = .ok (.iload_n 3, 1) := dk_29 (dk_at dksJ17_getChars_2_1 10 rfl rfl)
theorem dJ17_getChars_2_34 : decode cJ17_getChars_2 34 = .ok (.bipush 100, 2) := dk_16 100 (dk_at dksJ17_getChars_2_1 11 rfl rfl)
theorem dJ17_getChars_2_36 : decode cJ17_getChars_2 36 = .ok (.imul, 1) := dk_104 (dk_at dksJ17_getChars_2_1 13 rfl rfl)
theorem dJ17_getChars_2_37 : decode cJ17_getChars_2 37 = .ok (.iload_n 0, 1) := dk_26 (dk_at dksJ17_getChars_2_1 14 rfl rfl)
theorem dJ17_getChars_2_38 : decode cJ17_getChars_2 38 = .ok (.isub, 1) := dk_100 (dk_at dksJ17_getChars_2_1 15 rfl rfl)
theorem dJ17_getChars_2_39 : decode cJ17_getChars_2 39 = .ok (.istore 4, 2) := dk_54 4 (dk_at dksJ17_getChars_2_1 16 rfl rfl)
theorem dJ17_getChars_2_41 : decode cJ17_getChars_2 41 = .ok (.iload_n 3, 1) := dk_29 (dk_at dksJ17_getChars_2_1 18 rfl rfl)
theorem dJ17_getChars_2_42 : decode cJ17_getChars_2 42 = .ok (.istore_n 0, 1) := dk_59 (dk_at dksJ17_getChars_2_1 19 rfl rfl)
theorem dJ17_getChars_2_43 : decode cJ17_getChars_2 43 = .ok (.aload_n 2, 1) := dk_44 (dk_at dksJ17_getChars_2_1 20 rfl rfl)
theorem dJ17_getChars_2_44 : decode cJ17_getChars_2 44 = .ok (.iinc 5 (-1), 3) := dk_132 5 255 (dk_at dksJ17_getChars_2_1 21 rfl rfl)
theorem dJ17_getChars_2_47 : decode cJ17_getChars_2 47 = .ok (.iload 5, 2) := dk_21 5 (dk_at dksJ17_getChars_2_2 0 rfl rfl)
theorem dJ17_getChars_2_49 : decode cJ17_getChars_2 49 = .ok (.getstatic 403, 3) := dk_178 1 147 (dk_at dksJ17_getChars_2_2 2 rfl rfl)
theorem dJ17_getChars_2_52 : decode cJ17_getChars_2 52 = .ok (.iload 4, 2) := dk_21 4 (dk_at dksJ17_getChars_2_2 5 rfl rfl)
theorem dJ17_getChars_2_54 : decode cJ17_getChars_2 54 = .ok (.baload, 1) := dk_51 (dk_at dksJ17_getChars_2_2 7 rfl rfl)
theorem dJ17_getChars_2_55 : decode cJ17_getChars_2 55 = .ok (.invokestatic 111, 3) := dk_184 0 111 (dk_at dksJ17_getChars_2_2 8 rfl rfl)
theorem dJ17_getChars_2_58 : decode cJ17_getChars_2 58 = .ok (.aload_n 2, 1) := dk_44 (dk_at dksJ17_getChars_2_2 11 rfl rfl)
theorem dJ17_getChars_2_59 : decode cJ17_getChars_2 59 = .ok (.iinc 5 (-1), 3) := dk_132 5 255 (dk_at dksJ17_getChars_2_2 12 rfl rfl)
theorem dJ17_getChars_2_62 : decode cJ17_getChars_2 62 = .ok (.iload 5, 2) := dk_21 5 (dk_at dksJ17_getChars_2_2 15 rfl rfl)
theorem dJ17_getChars_2_64 : decode cJ17_getChars_2 64 = .ok (.getstatic 407, 3) := dk_178 1 151 (dk_at dksJ17_getChars_2_2 17 rfl rfl)
theorem dJ17_getChars_2_67 : decode cJ17_getChars_2 67 = .ok (.iload 4, 2) := dk_21 4 (dk_at dksJ17_getChars_2_2 20 rfl rfl)
theorem dJ17_getChars_2_69 : decode cJ17_getChars_2 69 = .ok (.baload, 1) := dk_51 (dk_at dksJ17_getChars_2_2 22 rfl rfl)
theorem dJ17_getChars_2_70 : decode cJ17_getChars_2 70 = .ok (.invokestatic 111, 3) := dk_184 0 111 (dk_at dksJ17_getChars_2_3 0 rfl rfl)
theorem dJ17_getChars_2_73 : decode cJ17_getChars_2 73 = .ok (.goto (-51), 3) := dk_167 255 205 (dk_at dksJ17_getChars_2_3 3 rfl rfl)
theorem dJ17_getChars_2_76 : decode cJ17_getChars_2 76 = .ok (.aload_n 2, 1) := dk_44 (dk_at dksJ17_getChars_2_3 6 rfl rfl)
theorem dJ17_getChars_2_77 : decode cJ17_getChars_2 77 = .ok (.iinc 5 (-1), 3) := dk_132 5 255 (dk_at dksJ17_getChars_2_3 7 rfl rfl)
theorem dJ17_getChars_2_80 : decode cJ17_getChars_2 80 = .ok (.iload 5, 2) := dk_21 5 (dk_at dksJ17_getChars_2_3 10 rfl rfl)
theorem dJ17_getChars_2_82 : decode cJ17_getChars_2 82 = .ok (.getstatic 403, 3) := dk_178 1 147 (dk_at dksJ17_getChars_2_3 12 rfl rfl)
theorem dJ17_getChars_2_85 : decode cJ17_getChars_2 85 = .ok (.iload_n 0, 1) := dk_26 (dk_at dksJ17_getChars_2_3 15 rfl rfl)
theorem dJ17_getChars_2_86 : decode cJ17_getChars_2 86 = .ok (.ineg, 1) := dk_116 (dk_at dksJ17_getChars_2_3 16 rfl rfl)
theorem dJ17_getChars_2_87 : decode cJ17_getChars_2 87 = .ok (.baload, 1) := dk_51 (dk_at dksJ17_getChars_2_3 17 rfl rfl)
theorem dJ17_getChars_2_88 : decode cJ17_getChars_2 88 = .ok (.invokestatic 111, 3) := dk_184 0 111 (dk_at dksJ17_getChars_2_3 18 rfl rfl)
theorem dJ17_getChars_2_91 : decode cJ17_getChars_2 91 = .ok (.iload_n 0, 1) := dk_26 (dk_at dksJ17_getChars_2_3 21 rfl rfl)
theorem dJ17_getChars_2_92 : decode cJ17_getChars_2 92 = .ok (.bipush (-9), 2) := dk_16 247 (dk_at dksJ17_getChars_2_3 22 rfl rfl)
theorem dJ17_getChars_2_94 : decode cJ17_getChars_2 94 = .ok (.if_icmp .ge 18, 3) := dk_162 0 18 (dk_at dksJ17_getChars_2_4 0 rfl rfl)
theorem dJ17_getChars_2_97 : decode cJ17_getChars_2 97 = .ok (.aload_n 2, 1) := dk_44 (dk_at dksJ17_getChars_2_4 3 rfl rfl)
theorem dJ17_getChars_2_98 : decode cJ17_getChars_2 98 = .ok (.iinc 5 (-1), 3) := dk_132 5 255 (dk_at dksJ17_getChars_2_4 4 rfl rfl)
theorem dJ17_getChars_2_101 : decode cJ17_getChars_2 101 = .ok (.iload 5, 2) := dk_21 5 (dk_at dksJ17_getChars_2_4 7 rfl rfl)
theorem dJ17_getChars_2_103 : decode cJ17_getChars_2 103 = .ok (.getstatic 407, 3) := dk_178 1 151 (dk_at dksJ17_getChars_2_4 9 rfl rfl)
theorem dJ17_getChars_2_106 : decode cJ17_getChars_2 106 = .ok (.iload_n 0, 1) := dk_26 (dk_at dksJ17_getChars_2_4 12 rfl rfl)
theorem dJ17_getChars_2_107 : decode cJ17_getChars_2 107 = .ok (.ineg, 1) := dk_116 (dk_at dksJ17_getChars_2_4 13 rfl rfl)
theorem dJ17_getChars_2_108 : decode cJ17_getChars_2 108 = .ok (.baload, 1) := dk_51 (dk_at dksJ17_getChars_2_4 14 rfl rfl)
theorem dJ17_getChars_2_109 : decode cJ17_getChars_2 109 = .ok (.invokestatic 111, 3) := dk_184 0 111 (dk_at dksJ17_getChars_2_4 15 rfl rfl)
theorem dJ17_getChars_2_112 : decode cJ17_getChars_2 112 = .ok (.iload 6, 2) := dk_21 6 (dk_at dksJ17_getChars_2_4 18 rfl rfl)
theorem dJ17_getChars_2_114 : decode cJ17_getChars_2 114 = .ok (.ifCond .eq 14, 3) := dk_153 0 14 (dk_at dksJ17_getChars_2_4 20 rfl rfl)
theorem dJ17_getChars_2_117 : decode cJ17_getChars_2 117 = .ok (.aload_n 2, 1) := dk_44 (dk_at dksJ17_getChars_2_4 23 rfl rfl)
theorem dJ17_getChars_2_118 : decode cJ17_getChars_2 118 = .ok (.iinc 5 (-1), 3) := dk_132 5 255 (dk_at dksJ17_getChars_2_5 0 rfl rfl)
theorem dJ17_getChars_2_121 : decode cJ17_getChars_2 121 = .ok (.iload 5, 2) := dk_21 5 (dk_at dksJ17_getChars_2_5 3 rfl rfl)
theorem dJ17_getChars_2_123 : decode cJ17_getChars_2 123 = .ok (.bipush 45, 2) := dk_16 45 (dk_at dksJ17_getChars_2_5 5 rfl rfl)
theorem dJ17_getChars_2_125 : decode cJ17_getChars_2 125 = .ok (.invokestatic 111, 3) := dk_184 0 111 (dk_at dksJ17_getChars_2_5 7 rfl rfl)
theorem dJ17_getChars_2_128 : decode cJ17_getChars_2 128 = .ok (.iload 5, 2) := dk_21 5 (dk_at dksJ17_getChars_2_5 10 rfl rfl)
theorem dJ17_getChars_2_130 : decode cJ17_getChars_2 130 = .ok (.ireturn, 1) := dk_172 (dk_at dksJ17_getChars_2_5 12 rfl rfl)
abbrev cJ17_charAt : ByteArray := prog_36_method_83_code
def yJ17_charAt : MethodName := ⟨RJ17, "charAt", "([BI)C"⟩
def dkwJ17_charAt_0 : List UInt8 := [27, 42, 184, 0, 67, 42, 27, 184, 0, 71, 172]
abbrev dktJ17_charAt_0 : List UInt8 := dkwJ17_charAt_0 ++ []
theorem dksJ17_charAt_0 : cJ17_charAt.data.toList.drop 0 = dktJ17_charAt_0 := by decide +kernel
theorem dJ17_charAt_0 : decode cJ17_charAt 0 = .ok (.iload_n 1, 1) := dk_27 (dk_at dksJ17_charAt_0 0 rfl rfl)
theorem dJ17_charAt_1 : decode cJ17_charAt 1 = .ok (.aload_n 0, 1) := dk_42 (dk_at dksJ17_charAt_0 1 rfl rfl)
theorem dJ17_charAt_2 : decode cJ17_charAt 2 = .ok (.invokestatic 67, 3) := dk_184 0 67 (dk_at dksJ17_charAt_0 2 rfl rfl)
theorem dJ17_charAt_5 : decode cJ17_charAt 5 = .ok (.aload_n 0, 1) := dk_42 (dk_at dksJ17_charAt_0 5 rfl rfl)
theorem dJ17_charAt_6 : decode cJ17_charAt 6 = .ok (.iload_n 1, 1) := dk_27 (dk_at dksJ17_charAt_0 6 rfl rfl)
theorem dJ17_charAt_7 : decode cJ17_charAt 7 = .ok (.invokestatic 71, 3) := dk_184 0 71 (dk_at dksJ17_charAt_0 7 rfl rfl)
theorem dJ17_charAt_10 : decode cJ17_charAt 10 = .ok (.ireturn, 1) := dk_172 (dk_at dksJ17_charAt_0 10 rfl rfl)
theorem q118 : (Jvm.Cond.initialized "java/lang/StringUTF16") ∈ lw_all := lw_g (lw_at lw_m1 23 rfl) rfl
theorem q552 : (Jvm.Cond.static ({ cls := "java/lang/StringUTF16", name := "newBytesFor", desc := "(I)[B" } : Jvm.MethodName)) ∈ lw_all := lw_g (lw_at lw_m2 217 rfl) rfl
theorem q553 : (Jvm.Cond.code ({ cls := "java/lang/StringUTF16", name := "newBytesFor", desc := "(I)[B" } : Jvm.MethodName) prog_36_method_2_code (1 : Nat) (Option.some (Jvm.ClassFile.FieldType.array Jvm.ClassFile.FieldType.byte))) ∈ lw_all := lw_g (lw_at lw_m2 218 rfl) rfl
theorem q554 : (Jvm.Cond.methodLink "java/lang/StringUTF16" (11 : Nat) ({ cls := "java/lang/StringUTF16", name := "newBytesLength", desc := "(I)I" } : Jvm.MethodName)) ∈ lw_all := lw_g (lw_at lw_m2 219 rfl) rfl
theorem q555 : (Jvm.Cond.static ({ cls := "java/lang/StringUTF16", name := "newBytesLength", desc := "(I)I" } : Jvm.MethodName)) ∈ lw_all := lw_g (lw_at lw_m2 220 rfl) rfl
theorem q556 : (Jvm.Cond.code ({ cls := "java/lang/StringUTF16", name := "newBytesLength", desc := "(I)I" } : Jvm.MethodName) prog_36_method_3_code (1 : Nat) (Option.some Jvm.ClassFile.FieldType.int)) ∈ lw_all := lw_g (lw_at lw_m2 221 rfl) rfl
theorem q557 : (Jvm.Cond.constant "java/lang/StringUTF16" (20 : Nat) (1073741823 : Int32)) ∈ lw_all := lw_g (lw_at lw_m2 222 rfl) rfl
theorem q629 : (Jvm.Cond.static ({ cls := "java/lang/StringUTF16", name := "inflate", desc := "([BI[BII)V" } : Jvm.MethodName)) ∈ lw_all := lw_g (lw_at lw_m3 54 rfl) rfl
theorem q630 : (Jvm.Cond.code ({ cls := "java/lang/StringUTF16", name := "inflate", desc := "([BI[BII)V" } : Jvm.MethodName) prog_36_method_86_code (6 : Nat) (Option.none : Option Jvm.ClassFile.FieldType)) ∈ lw_all := lw_g (lw_at lw_m3 55 rfl) rfl
theorem q631 : (Jvm.Cond.methodLink "java/lang/StringUTF16" (173 : Nat) ({ cls := "java/lang/StringUTF16", name := "checkBoundsOffCount", desc := "(II[B)V" } : Jvm.MethodName)) ∈ lw_all := lw_g (lw_at lw_m3 56 rfl) rfl
theorem q632 : (Jvm.Cond.static ({ cls := "java/lang/StringUTF16", name := "checkBoundsOffCount", desc := "(II[B)V" } : Jvm.MethodName)) ∈ lw_all := lw_g (lw_at lw_m3 57 rfl) rfl
theorem q633 : (Jvm.Cond.code ({ cls := "java/lang/StringUTF16", name := "checkBoundsOffCount", desc := "(II[B)V" } : Jvm.MethodName) prog_36_method_94_code (3 : Nat) (Option.none : Option Jvm.ClassFile.FieldType)) ∈ lw_all := lw_g (lw_at lw_m3 58 rfl) rfl
theorem q634 : (Jvm.Cond.methodLink "java/lang/StringUTF16" (48 : Nat) ({ cls := "java/lang/StringUTF16", name := "length", desc := "([B)I" } : Jvm.MethodName)) ∈ lw_all := lw_g (lw_at lw_m3 59 rfl) rfl
theorem q635 : (Jvm.Cond.static ({ cls := "java/lang/StringUTF16", name := "length", desc := "([B)I" } : Jvm.MethodName)) ∈ lw_all := lw_g (lw_at lw_m3 60 rfl) rfl
theorem q636 : (Jvm.Cond.code ({ cls := "java/lang/StringUTF16", name := "length", desc := "([B)I" } : Jvm.MethodName) prog_36_method_6_code (1 : Nat) (Option.some Jvm.ClassFile.FieldType.int)) ∈ lw_all := lw_g (lw_at lw_m3 61 rfl) rfl
theorem q637 : (Jvm.Cond.methodLink "java/lang/StringUTF16" (419 : Nat) ({ cls := "java/lang/String", name := "checkBoundsOffCount", desc := "(III)I" } : Jvm.MethodName)) ∈ lw_all := lw_g (lw_at lw_m3 62 rfl) rfl
theorem q645 : (Jvm.Cond.methodLink "java/lang/StringUTF16" (111 : Nat) ({ cls := "java/lang/StringUTF16", name := "putChar", desc := "([BII)V" } : Jvm.MethodName)) ∈ lw_all := lw_g (lw_at lw_m3 70 rfl) rfl
theorem q646 : (Jvm.Cond.static ({ cls := "java/lang/StringUTF16", name := "putChar", desc := "([BII)V" } : Jvm.MethodName)) ∈ lw_all := lw_g (lw_at lw_m3 71 rfl) rfl
theorem q647 : (Jvm.Cond.code ({ cls := "java/lang/StringUTF16", name := "putChar", desc := "([BII)V" } : Jvm.MethodName) prog_36_method_4_code (3 : Nat) (Option.none : Option Jvm.ClassFile.FieldType)) ∈ lw_all := lw_g (lw_at lw_m3 72 rfl) rfl
theorem q648 : (Jvm.Cond.fieldLink "java/lang/StringUTF16" (44 : Nat) "java/lang/StringUTF16" "$assertionsDisabled" "Z") ∈ lw_all := lw_g (lw_at lw_m3 73 rfl) rfl
theorem q649 : (Jvm.Cond.laysStatic "java/lang/StringUTF16" "$assertionsDisabled" "Z") ∈ lw_tbl := lw_at lw_m3 74 rfl
theorem q650 : (Jvm.Cond.fieldLink "java/lang/StringUTF16" (59 : Nat) "java/lang/StringUTF16" "HI_BYTE_SHIFT" "I") ∈ lw_all := lw_g (lw_at lw_m3 75 rfl) rfl
theorem q651 : (Jvm.Cond.laysStatic "java/lang/StringUTF16" "HI_BYTE_SHIFT" "I") ∈ lw_tbl := lw_at lw_m3 76 rfl
theorem q652 : (Jvm.Cond.fieldLink "java/lang/StringUTF16" (63 : Nat) "java/lang/StringUTF16" "LO_BYTE_SHIFT" "I") ∈ lw_all := lw_g (lw_at lw_m3 77 rfl) rfl
theorem q653 : (Jvm.Cond.laysStatic "java/lang/StringUTF16" "LO_BYTE_SHIFT" "I") ∈ lw_tbl := lw_at lw_m3 78 rfl
theorem q655 : (Jvm.Cond.static ({ cls := "java/lang/StringUTF16", name := "putCharSB", desc := "([BII)V" } : Jvm.MethodName)) ∈ lw_all := lw_g (lw_at lw_m3 80 rfl) rfl
theorem q656 : (Jvm.Cond.code ({ cls := "java/lang/StringUTF16", name := "putCharSB", desc := "([BII)V" } : Jvm.MethodName) prog_36_method_71_code (3 : Nat) (Option.none : Option Jvm.ClassFile.FieldType)) ∈ lw_all := lw_g (lw_at lw_m3 81 rfl) rfl
theorem q657 : (Jvm.Cond.methodLink "java/lang/StringUTF16" (67 : Nat) ({ cls := "java/lang/StringUTF16", name := "checkIndex", desc := "(I[B)V" } : Jvm.MethodName)) ∈ lw_all := lw_g (lw_at lw_m3 82 rfl) rfl
theorem q658 : (Jvm.Cond.static ({ cls := "java/lang/StringUTF16", name := "checkIndex", desc := "(I[B)V" } : Jvm.MethodName)) ∈ lw_all := lw_g (lw_at lw_m3 83 rfl) rfl
theorem q659 : (Jvm.Cond.code ({ cls := "java/lang/StringUTF16", name := "checkIndex", desc := "(I[B)V" } : Jvm.MethodName) prog_36_method_91_code (2 : Nat) (Option.none : Option Jvm.ClassFile.FieldType)) ∈ lw_all := lw_g (lw_at lw_m3 84 rfl) rfl
theorem q660 : (Jvm.Cond.methodLink "java/lang/StringUTF16" (414 : Nat) ({ cls := "java/lang/String", name := "checkIndex", desc := "(II)V" } : Jvm.MethodName)) ∈ lw_all := lw_g (lw_at lw_m3 85 rfl) rfl
theorem q704 : (Jvm.Cond.static ({ cls := "java/lang/StringUTF16", name := "compress", desc := "([BII)[B" } : Jvm.MethodName)) ∈ lw_all := lw_g (lw_at lw_m3 129 rfl) rfl
theorem q705 : (Jvm.Cond.code ({ cls := "java/lang/StringUTF16", name := "compress", desc := "([BII)[B" } : Jvm.MethodName) prog_36_method_17_code (6 : Nat) (Option.some (Jvm.ClassFile.FieldType.array Jvm.ClassFile.FieldType.byte))) ∈ lw_all := lw_g (lw_at lw_m3 130 rfl) rfl
theorem q706 : (Jvm.Cond.methodLink "java/lang/StringUTF16" (123 : Nat) ({ cls := "java/lang/StringUTF16", name := "compress", desc := "([BI[BII)I" } : Jvm.MethodName)) ∈ lw_all := lw_g (lw_at lw_m3 131 rfl) rfl
theorem q707 : (Jvm.Cond.static ({ cls := "java/lang/StringUTF16", name := "compress", desc := "([BI[BII)I" } : Jvm.MethodName)) ∈ lw_all := lw_g (lw_at lw_m3 132 rfl) rfl
theorem q708 : (Jvm.Cond.code ({ cls := "java/lang/StringUTF16", name := "compress", desc := "([BI[BII)I" } : Jvm.MethodName) prog_36_method_22_code (7 : Nat) (Option.some Jvm.ClassFile.FieldType.int)) ∈ lw_all := lw_g (lw_at lw_m3 133 rfl) rfl
theorem q709 : (Jvm.Cond.methodLink "java/lang/StringUTF16" (71 : Nat) ({ cls := "java/lang/StringUTF16", name := "getChar", desc := "([BI)C" } : Jvm.MethodName)) ∈ lw_all := lw_g (lw_at lw_m3 134 rfl) rfl
theorem q710 : (Jvm.Cond.static ({ cls := "java/lang/StringUTF16", name := "getChar", desc := "([BI)C" } : Jvm.MethodName)) ∈ lw_all := lw_g (lw_at lw_m3 135 rfl) rfl
theorem q711 : (Jvm.Cond.code ({ cls := "java/lang/StringUTF16", name := "getChar", desc := "([BI)C" } : Jvm.MethodName) prog_36_method_5_code (2 : Nat) (Option.some Jvm.ClassFile.FieldType.char)) ∈ lw_all := lw_g (lw_at lw_m3 136 rfl) rfl
theorem q712 : (Jvm.Cond.methodLink "java/lang/StringUTF16" (126 : Nat) ({ cls := "java/util/Arrays", name := "copyOfRange", desc := "([BII)[B" } : Jvm.MethodName)) ∈ lw_all := lw_g (lw_at lw_m3 137 rfl) rfl
theorem q714 : (Jvm.Cond.static ({ cls := "java/lang/StringUTF16", name := "coderFromArrayLen", desc := "([BI)B" } : Jvm.MethodName)) ∈ lw_all := lw_g (lw_at lw_m3 139 rfl) rfl
theorem q715 : (Jvm.Cond.code ({ cls := "java/lang/StringUTF16", name := "coderFromArrayLen", desc := "([BI)B" } : Jvm.MethodName) prog_36_method_15_code (2 : Nat) (Option.some Jvm.ClassFile.FieldType.byte)) ∈ lw_all := lw_g (lw_at lw_m3 140 rfl) rfl
theorem q936 : (Jvm.Cond.static ({ cls := "java/lang/StringUTF16", name := "putCharsAt", desc := "([BICCCC)I" } : Jvm.MethodName)) ∈ lw_all := lw_g (lw_at lw_m4 121 rfl) rfl
theorem q937 : (Jvm.Cond.code ({ cls := "java/lang/StringUTF16", name := "putCharsAt", desc := "([BICCCC)I" } : Jvm.MethodName) prog_36_method_81_code (7 : Nat) (Option.some Jvm.ClassFile.FieldType.int)) ∈ lw_all := lw_g (lw_at lw_m4 122 rfl) rfl
theorem q938 : (Jvm.Cond.methodLink "java/lang/StringUTF16" (96 : Nat) ({ cls := "java/lang/StringUTF16", name := "checkBoundsBeginEnd", desc := "(II[B)V" } : Jvm.MethodName)) ∈ lw_all := lw_g (lw_at lw_m4 123 rfl) rfl
theorem q939 : (Jvm.Cond.static ({ cls := "java/lang/StringUTF16", name := "checkBoundsBeginEnd", desc := "(II[B)V" } : Jvm.MethodName)) ∈ lw_all := lw_g (lw_at lw_m4 124 rfl) rfl
theorem q940 : (Jvm.Cond.code ({ cls := "java/lang/StringUTF16", name := "checkBoundsBeginEnd", desc := "(II[B)V" } : Jvm.MethodName) prog_36_method_93_code (3 : Nat) (Option.none : Option Jvm.ClassFile.FieldType)) ∈ lw_all := lw_g (lw_at lw_m4 125 rfl) rfl
theorem q941 : (Jvm.Cond.methodLink "java/lang/StringUTF16" (241 : Nat) ({ cls := "java/lang/String", name := "checkBoundsBeginEnd", desc := "(III)V" } : Jvm.MethodName)) ∈ lw_all := lw_g (lw_at lw_m4 126 rfl) rfl
theorem q988 : (Jvm.Cond.static ({ cls := "java/lang/StringUTF16", name := "getChars", desc := "(III[B)I" } : Jvm.MethodName)) ∈ lw_all := lw_g (lw_at lw_m4 173 rfl) rfl
theorem q989 : (Jvm.Cond.code ({ cls := "java/lang/StringUTF16", name := "getChars", desc := "(III[B)I" } : Jvm.MethodName) prog_36_method_77_code (5 : Nat) (Option.some Jvm.ClassFile.FieldType.int)) ∈ lw_all := lw_g (lw_at lw_m4 174 rfl) rfl
theorem q990 : (Jvm.Cond.methodLink "java/lang/StringUTF16" (393 : Nat) ({ cls := "java/lang/StringUTF16", name := "getChars", desc := "(II[B)I" } : Jvm.MethodName)) ∈ lw_all := lw_g (lw_at lw_m4 175 rfl) rfl
theorem q991 : (Jvm.Cond.static ({ cls := "java/lang/StringUTF16", name := "getChars", desc := "(II[B)I" } : Jvm.MethodName)) ∈ lw_all := lw_g (lw_at lw_m4 176 rfl) rfl
theorem q992 : (Jvm.Cond.code ({ cls := "java/lang/StringUTF16", name := "getChars", desc := "(II[B)I" } : Jvm.MethodName) prog_36_method_89_code (7 : Nat) (Option.some Jvm.ClassFile.FieldType.int)) ∈ lw_all := lw_g (lw_at lw_m4 177 rfl) rfl
theorem q993 : (Jvm.Cond.fieldLink "java/lang/StringUTF16" (403 : Nat) "java/lang/Integer" "DigitOnes" "[B") ∈ lw_all := lw_g (lw_at lw_m4 178 rfl) rfl
theorem q994 : (Jvm.Cond.fieldLink "java/lang/StringUTF16" (407 : Nat) "java/lang/Integer" "DigitTens" "[B") ∈ lw_all := lw_g (lw_at lw_m4 179 rfl) rfl
theorem q2335 : (Jvm.Cond.static ({ cls := "java/lang/StringUTF16", name := "charAt", desc := "([BI)C" } : Jvm.MethodName)) ∈ lw_all := lw_g (lw_at lw_m10 80 rfl) rfl
theorem q2336 : (Jvm.Cond.code ({ cls := "java/lang/StringUTF16", name := "charAt", desc := "([BI)C" } : Jvm.MethodName) prog_36_method_83_code (2 : Nat) (Option.some Jvm.ClassFile.FieldType.char)) ∈ lw_all := lw_g (lw_at lw_m10 81 rfl) rfl

/-! jdk/internal/util/ArraysSupport -/
set_option maxRecDepth 100000
def RJ18 : String := "jdk/internal/util/ArraysSupport"
abbrev cJ18_newLength : ByteArray := prog_72_method_27_code
def yJ18_newLength : MethodName := ⟨RJ18, "newLength", "(III)I"⟩
def dkwJ18_newLength_1 : List UInt8 := [184, 0, 201, 172]
abbrev dktJ18_newLength_1 : List UInt8 := dkwJ18_newLength_1 ++ []
def dkwJ18_newLength_0 : List UInt8 := [26, 27, 28, 184, 0, 194, 96, 62, 3, 29, 162, 0, 11, 29, 18, 200, 163, 0, 5, 29, 172, 26, 27]
abbrev dktJ18_newLength_0 : List UInt8 := dkwJ18_newLength_0 ++ dktJ18_newLength_1
theorem dksJ18_newLength_0 : cJ18_newLength.data.toList.drop 0 = dktJ18_newLength_0 := by decide +kernel
theorem dksJ18_newLength_1 : cJ18_newLength.data.toList.drop 23 = dktJ18_newLength_1 := dk_seg dksJ18_newLength_0 23 rfl rfl
theorem dJ18_newLength_0 : decode cJ18_newLength 0 = .ok (.iload_n 0, 1) := dk_26 (dk_at dksJ18_newLength_0 0 rfl rfl)
theorem dJ18_newLength_1 : decode cJ18_newLength 1 = .ok (.iload_n 1, 1) := dk_27 (dk_at dksJ18_newLength_0 1 rfl rfl)
theorem dJ18_newLength_2 : decode cJ18_newLength 2 = .ok (.iload_n 2, 1) := dk_28 (dk_at dksJ18_newLength_0 2 rfl rfl)
theorem dJ18_newLength_3 : decode cJ18_newLength 3 = .ok (.invokestatic 194, 3) := dk_184 0 194 (dk_at dksJ18_newLength_0 3 rfl rfl)
theorem dJ18_newLength_6 : decode cJ18_newLength 6 = .ok (.iadd, 1) := dk_96 (dk_at dksJ18_newLength_0 6 rfl rfl)
theorem dJ18_newLength_7 : decode cJ18_newLength 7 = .ok (.istore_n 3, 1) := dk_62 (dk_at dksJ18_newLength_0 7 rfl rfl)
theorem dJ18_newLength_8 : decode cJ18_newLength 8 = .ok (.iconst 0, 1) := dk_3 (dk_at dksJ18_newLength_0 8 rfl rfl)
theorem dJ18_newLength_9 : decode cJ18_newLength 9 = .ok (.iload_n 3, 1) := dk_29 (dk_at dksJ18_newLength_0 9 rfl rfl)
theorem dJ18_newLength_10 : decode cJ18_newLength 10 = .ok (.if_icmp .ge 11, 3) := dk_162 0 11 (dk_at dksJ18_newLength_0 10 rfl rfl)
theorem dJ18_newLength_13 : decode cJ18_newLength 13 = .ok (.iload_n 3, 1) := dk_29 (dk_at dksJ18_newLength_0 13 rfl rfl)
theorem dJ18_newLength_14 : decode cJ18_newLength 14 = .ok (.ldc 200, 2) := dk_18 200 (dk_at dksJ18_newLength_0 14 rfl rfl)
theorem dJ18_newLength_16 : decode cJ18_newLength 16 = .ok (.if_icmp .gt 5, 3) := dk_163 0 5 (dk_at dksJ18_newLength_0 16 rfl rfl)
theorem dJ18_newLength_19 : decode cJ18_newLength 19 = .ok (.iload_n 3, 1) := dk_29 (dk_at dksJ18_newLength_0 19 rfl rfl)
theorem dJ18_newLength_20 : decode cJ18_newLength 20 = .ok (.ireturn, 1) := dk_172 (dk_at dksJ18_newLength_0 20 rfl rfl)
theorem dJ18_newLength_21 : decode cJ18_newLength 21 = .ok (.iload_n 0, 1) := dk_26 (dk_at dksJ18_newLength_0 21 rfl rfl)
theorem dJ18_newLength_22 : decode cJ18_newLength 22 = .ok (.iload_n 1, 1) := dk_27 (dk_at dksJ18_newLength_0 22 rfl rfl)
theorem dJ18_newLength_23 : decode cJ18_newLength 23 = .ok (.invokestatic 201, 3) := dk_184 0 201 (dk_at dksJ18_newLength_1 0 rfl rfl)
theorem dJ18_newLength_26 : decode cJ18_newLength 26 = .ok (.ireturn, 1) := dk_172 (dk_at dksJ18_newLength_1 3 rfl rfl)
abbrev cJ18_hugeLength : ByteArray := prog_72_method_28_code
def yJ18_hugeLength : MethodName := ⟨RJ18, "hugeLength", "(II)I"⟩
def dkwJ18_hugeLength_2 : List UInt8 := [191, 28, 18, 200, 163, 0, 6, 18, 200, 172, 28, 172]
abbrev dktJ18_hugeLength_2 : List UInt8 := dkwJ18_hugeLength_2 ++ []
def dkwJ18_hugeLength_1 : List UInt8 := [26, 182, 0, 98, 18, 208, 182, 0, 94, 27, 182, 0, 98, 18, 210, 182, 0, 94, 182, 0, 101, 183, 0, 212]
abbrev dktJ18_hugeLength_1 : List UInt8 := dkwJ18_hugeLength_1 ++ dktJ18_hugeLength_2
def dkwJ18_hugeLength_0 : List UInt8 := [26, 27, 96, 61, 28, 156, 0, 44, 187, 0, 204, 89, 187, 0, 89, 89, 183, 0, 91, 18, 206, 182, 0, 94]
abbrev dktJ18_hugeLength_0 : List UInt8 := dkwJ18_hugeLength_0 ++ dktJ18_hugeLength_1
theorem dksJ18_hugeLength_0 : cJ18_hugeLength.data.toList.drop 0 = dktJ18_hugeLength_0 := by decide +kernel
theorem dksJ18_hugeLength_1 : cJ18_hugeLength.data.toList.drop 24 = dktJ18_hugeLength_1 := dk_seg dksJ18_hugeLength_0 24 rfl rfl
theorem dksJ18_hugeLength_2 : cJ18_hugeLength.data.toList.drop 48 = dktJ18_hugeLength_2 := dk_seg dksJ18_hugeLength_1 24 rfl rfl
theorem dJ18_hugeLength_0 : decode cJ18_hugeLength 0 = .ok (.iload_n 0, 1) := dk_26 (dk_at dksJ18_hugeLength_0 0 rfl rfl)
theorem dJ18_hugeLength_1 : decode cJ18_hugeLength 1 = .ok (.iload_n 1, 1) := dk_27 (dk_at dksJ18_hugeLength_0 1 rfl rfl)
theorem dJ18_hugeLength_2 : decode cJ18_hugeLength 2 = .ok (.iadd, 1) := dk_96 (dk_at dksJ18_hugeLength_0 2 rfl rfl)
theorem dJ18_hugeLength_3 : decode cJ18_hugeLength 3 = .ok (.istore_n 2, 1) := dk_61 (dk_at dksJ18_hugeLength_0 3 rfl rfl)
theorem dJ18_hugeLength_4 : decode cJ18_hugeLength 4 = .ok (.iload_n 2, 1) := dk_28 (dk_at dksJ18_hugeLength_0 4 rfl rfl)
theorem dJ18_hugeLength_5 : decode cJ18_hugeLength 5 = .ok (.ifCond .ge 44, 3) := dk_156 0 44 (dk_at dksJ18_hugeLength_0 5 rfl rfl)
theorem dJ18_hugeLength_8 : decode cJ18_hugeLength 8 = .ok (.new 204, 3) := dk_187 0 204 (dk_at dksJ18_hugeLength_0 8 rfl rfl)
theorem dJ18_hugeLength_11 : decode cJ18_hugeLength 11 = .ok (.dup, 1) := dk_89 (dk_at dksJ18_hugeLength_0 11 rfl rfl)
theorem dJ18_hugeLength_12 : decode cJ18_hugeLength 12 = .ok (.new 89, 3) := dk_187 0 89 (dk_at dksJ18_hugeLength_0 12 rfl rfl)
theorem dJ18_hugeLength_15 : decode cJ18_hugeLength 15 = .ok (.dup, 1) := dk_89 (dk_at dksJ18_hugeLength_0 15 rfl rfl)
theorem dJ18_hugeLength_16 : decode cJ18_hugeLength 16 = .ok (.invokespecial 91, 3) := dk_183 0 91 (dk_at dksJ18_hugeLength_0 16 rfl rfl)
theorem dJ18_hugeLength_19 : decode cJ18_hugeLength 19 = .ok (.ldc 206, 2) := dk_18 206 (dk_at dksJ18_hugeLength_0 19 rfl rfl)
theorem dJ18_hugeLength_21 : decode cJ18_hugeLength 21 = .ok (.invokevirtual 94, 3) := dk_182 0 94 (dk_at dksJ18_hugeLength_0 21 rfl rfl)
theorem dJ18_hugeLength_24 : decode cJ18_hugeLength 24 = .ok (.iload_n 0, 1) := dk_26 (dk_at dksJ18_hugeLength_1 0 rfl rfl)
theorem dJ18_hugeLength_25 : decode cJ18_hugeLength 25 = .ok (.invokevirtual 98, 3) := dk_182 0 98 (dk_at dksJ18_hugeLength_1 1 rfl rfl)
theorem dJ18_hugeLength_28 : decode cJ18_hugeLength 28 = .ok (.ldc 208, 2) := dk_18 208 (dk_at dksJ18_hugeLength_1 4 rfl rfl)
theorem dJ18_hugeLength_30 : decode cJ18_hugeLength 30 = .ok (.invokevirtual 94, 3) := dk_182 0 94 (dk_at dksJ18_hugeLength_1 6 rfl rfl)
theorem dJ18_hugeLength_33 : decode cJ18_hugeLength 33 = .ok (.iload_n 1, 1) := dk_27 (dk_at dksJ18_hugeLength_1 9 rfl rfl)
theorem dJ18_hugeLength_34 : decode cJ18_hugeLength 34 = .ok (.invokevirtual 98, 3) := dk_182 0 98 (dk_at dksJ18_hugeLength_1 10 rfl rfl)
theorem dJ18_hugeLength_37 : decode cJ18_hugeLength 37 = .ok (.ldc 210, 2) := dk_18 210 (dk_at dksJ18_hugeLength_1 13 rfl rfl)
theorem dJ18_hugeLength_39 : decode cJ18_hugeLength 39 = .ok (.invokevirtual 94, 3) := dk_182 0 94 (dk_at dksJ18_hugeLength_1 15 rfl rfl)
theorem dJ18_hugeLength_42 : decode cJ18_hugeLength 42 = .ok (.invokevirtual 101, 3) := dk_182 0 101 (dk_at dksJ18_hugeLength_1 18 rfl rfl)
theorem dJ18_hugeLength_45 : decode cJ18_hugeLength 45 = .ok (.invokespecial 212, 3) := dk_183 0 212 (dk_at dksJ18_hugeLength_1 21 rfl rfl)
theorem dJ18_hugeLength_48 : decode cJ18_hugeLength 48 = .ok (.athrow, 1) := dk_191 (dk_at dksJ18_hugeLength_2 0 rfl rfl)
theorem dJ18_hugeLength_49 : decode cJ18_hugeLength 49 = .ok (.iload_n 2, 1) := dk_28 (dk_at dksJ18_hugeLength_2 1 rfl rfl)
theorem dJ18_hugeLength_50 : decode cJ18_hugeLength 50 = .ok (.ldc 200, 2) := dk_18 200 (dk_at dksJ18_hugeLength_2 2 rfl rfl)
theorem dJ18_hugeLength_52 : decode cJ18_hugeLength 52 = .ok (.if_icmp .gt 6, 3) := dk_163 0 6 (dk_at dksJ18_hugeLength_2 4 rfl rfl)
theorem dJ18_hugeLength_55 : decode cJ18_hugeLength 55 = .ok (.ldc 200, 2) := dk_18 200 (dk_at dksJ18_hugeLength_2 7 rfl rfl)
theorem dJ18_hugeLength_57 : decode cJ18_hugeLength 57 = .ok (.ireturn, 1) := dk_172 (dk_at dksJ18_hugeLength_2 9 rfl rfl)
theorem dJ18_hugeLength_58 : decode cJ18_hugeLength 58 = .ok (.iload_n 2, 1) := dk_28 (dk_at dksJ18_hugeLength_2 10 rfl rfl)
theorem dJ18_hugeLength_59 : decode cJ18_hugeLength 59 = .ok (.ireturn, 1) := dk_172 (dk_at dksJ18_hugeLength_2 11 rfl rfl)
theorem q119 : (Jvm.Cond.initialized "jdk/internal/util/ArraysSupport") ∈ lw_all := lw_g (lw_at lw_m1 24 rfl) rfl
theorem q587 : (Jvm.Cond.static ({ cls := "jdk/internal/util/ArraysSupport", name := "newLength", desc := "(III)I" } : Jvm.MethodName)) ∈ lw_all := lw_g (lw_at lw_m3 12 rfl) rfl
theorem q588 : (Jvm.Cond.code ({ cls := "jdk/internal/util/ArraysSupport", name := "newLength", desc := "(III)I" } : Jvm.MethodName) prog_72_method_27_code (4 : Nat) (Option.some Jvm.ClassFile.FieldType.int)) ∈ lw_all := lw_g (lw_at lw_m3 13 rfl) rfl
theorem q589 : (Jvm.Cond.methodLink "jdk/internal/util/ArraysSupport" (194 : Nat) ({ cls := "java/lang/Math", name := "max", desc := "(II)I" } : Jvm.MethodName)) ∈ lw_all := lw_g (lw_at lw_m3 14 rfl) rfl
theorem q592 : (Jvm.Cond.constant "jdk/internal/util/ArraysSupport" (200 : Nat) (2147483639 : Int32)) ∈ lw_all := lw_g (lw_at lw_m3 17 rfl) rfl
theorem q593 : (Jvm.Cond.methodLink "jdk/internal/util/ArraysSupport" (201 : Nat) ({ cls := "jdk/internal/util/ArraysSupport", name := "hugeLength", desc := "(II)I" } : Jvm.MethodName)) ∈ lw_all := lw_g (lw_at lw_m3 18 rfl) rfl
theorem q594 : (Jvm.Cond.static ({ cls := "jdk/internal/util/ArraysSupport", name := "hugeLength", desc := "(II)I" } : Jvm.MethodName)) ∈ lw_all := lw_g (lw_at lw_m3 19 rfl) rfl
theorem q595 : (Jvm.Cond.code ({ cls := "jdk/internal/util/ArraysSupport", name := "hugeLength", desc := "(II)I" } : Jvm.MethodName) prog_72_method_28_code (3 : Nat) (Option.some Jvm.ClassFile.FieldType.int)) ∈ lw_all := lw_g (lw_at lw_m3 20 rfl) rfl

/-! java/lang/Math -/
set_option maxRecDepth 100000
def RJ19 : String := "java/lang/Math"
abbrev cJ19_max : ByteArray := prog_30_method_65_code
def yJ19_max : MethodName := ⟨RJ19, "max", "(II)I"⟩
def dkwJ19_max_0 : List UInt8 := [26, 27, 161, 0, 7, 26, 167, 0, 4, 27, 172]
abbrev dktJ19_max_0 : List UInt8 := dkwJ19_max_0 ++ []
theorem dksJ19_max_0 : cJ19_max.data.toList.drop 0 = dktJ19_max_0 := by decide +kernel
theorem dJ19_max_0 : decode cJ19_max 0 = .ok (.iload_n 0, 1) := dk_26 (dk_at dksJ19_max_0 0 rfl rfl)
theorem dJ19_max_1 : decode cJ19_max 1 = .ok (.iload_n 1, 1) := dk_27 (dk_at dksJ19_max_0 1 rfl rfl)
theorem dJ19_max_2 : decode cJ19_max 2 = .ok (.if_icmp .lt 7, 3) := dk_161 0 7 (dk_at dksJ19_max_0 2 rfl rfl)
theorem dJ19_max_5 : decode cJ19_max 5 = .ok (.iload_n 0, 1) := dk_26 (dk_at dksJ19_max_0 5 rfl rfl)
theorem dJ19_max_6 : decode cJ19_max 6 = .ok (.goto 4, 3) := dk_167 0 4 (dk_at dksJ19_max_0 6 rfl rfl)
theorem dJ19_max_9 : decode cJ19_max 9 = .ok (.iload_n 1, 1) := dk_27 (dk_at dksJ19_max_0 9 rfl rfl)
theorem dJ19_max_10 : decode cJ19_max 10 = .ok (.ireturn, 1) := dk_172 (dk_at dksJ19_max_0 10 rfl rfl)
abbrev cJ19_min : ByteArray := prog_30_method_69_code
def yJ19_min : MethodName := ⟨RJ19, "min", "(II)I"⟩
def dkwJ19_min_0 : List UInt8 := [26, 27, 163, 0, 7, 26, 167, 0, 4, 27, 172]
abbrev dktJ19_min_0 : List UInt8 := dkwJ19_min_0 ++ []
theorem dksJ19_min_0 : cJ19_min.data.toList.drop 0 = dktJ19_min_0 := by decide +kernel
theorem dJ19_min_0 : decode cJ19_min 0 = .ok (.iload_n 0, 1) := dk_26 (dk_at dksJ19_min_0 0 rfl rfl)
theorem dJ19_min_1 : decode cJ19_min 1 = .ok (.iload_n 1, 1) := dk_27 (dk_at dksJ19_min_0 1 rfl rfl)
theorem dJ19_min_2 : decode cJ19_min 2 = .ok (.if_icmp .gt 7, 3) := dk_163 0 7 (dk_at dksJ19_min_0 2 rfl rfl)
theorem dJ19_min_5 : decode cJ19_min 5 = .ok (.iload_n 0, 1) := dk_26 (dk_at dksJ19_min_0 5 rfl rfl)
theorem dJ19_min_6 : decode cJ19_min 6 = .ok (.goto 4, 3) := dk_167 0 4 (dk_at dksJ19_min_0 6 rfl rfl)
theorem dJ19_min_9 : decode cJ19_min 9 = .ok (.iload_n 1, 1) := dk_27 (dk_at dksJ19_min_0 9 rfl rfl)
theorem dJ19_min_10 : decode cJ19_min 10 = .ok (.ireturn, 1) := dk_172 (dk_at dksJ19_min_0 10 rfl rfl)
abbrev cJ19_max_2 : ByteArray := prog_30_method_66_code
def yJ19_max_2 : MethodName := ⟨RJ19, "max", "(JJ)J"⟩
def dkwJ19_max_2_0 : List UInt8 := [30, 32, 148, 155, 0, 7, 30, 167, 0, 4, 32, 173]
abbrev dktJ19_max_2_0 : List UInt8 := dkwJ19_max_2_0 ++ []
theorem dksJ19_max_2_0 : cJ19_max_2.data.toList.drop 0 = dktJ19_max_2_0 := by decide +kernel
theorem dJ19_max_2_0 : decode cJ19_max_2 0 = .ok (.lload_n 0, 1) := dk_30 (dk_at dksJ19_max_2_0 0 rfl rfl)
theorem dJ19_max_2_1 : decode cJ19_max_2 1 = .ok (.lload_n 2, 1) := dk_32 (dk_at dksJ19_max_2_0 1 rfl rfl)
theorem dJ19_max_2_2 : decode cJ19_max_2 2 = .ok (.lcmp, 1) := dk_148 (dk_at dksJ19_max_2_0 2 rfl rfl)
theorem dJ19_max_2_3 : decode cJ19_max_2 3 = .ok (.ifCond .lt 7, 3) := dk_155 0 7 (dk_at dksJ19_max_2_0 3 rfl rfl)
theorem dJ19_max_2_6 : decode cJ19_max_2 6 = .ok (.lload_n 0, 1) := dk_30 (dk_at dksJ19_max_2_0 6 rfl rfl)
theorem dJ19_max_2_7 : decode cJ19_max_2 7 = .ok (.goto 4, 3) := dk_167 0 4 (dk_at dksJ19_max_2_0 7 rfl rfl)
theorem dJ19_max_2_10 : decode cJ19_max_2 10 = .ok (.lload_n 2, 1) := dk_32 (dk_at dksJ19_max_2_0 10 rfl rfl)
theorem dJ19_max_2_11 : decode cJ19_max_2 11 = .ok (.lreturn, 1) := dk_173 (dk_at dksJ19_max_2_0 11 rfl rfl)
theorem q120 : (Jvm.Cond.initialized "java/lang/Math") ∈ lw_all := lw_g (lw_at lw_m1 25 rfl) rfl
theorem q590 : (Jvm.Cond.static ({ cls := "java/lang/Math", name := "max", desc := "(II)I" } : Jvm.MethodName)) ∈ lw_all := lw_g (lw_at lw_m3 15 rfl) rfl
theorem q591 : (Jvm.Cond.code ({ cls := "java/lang/Math", name := "max", desc := "(II)I" } : Jvm.MethodName) prog_30_method_65_code (2 : Nat) (Option.some Jvm.ClassFile.FieldType.int)) ∈ lw_all := lw_g (lw_at lw_m3 16 rfl) rfl
theorem q608 : (Jvm.Cond.static ({ cls := "java/lang/Math", name := "min", desc := "(II)I" } : Jvm.MethodName)) ∈ lw_all := lw_g (lw_at lw_m3 33 rfl) rfl
theorem q609 : (Jvm.Cond.code ({ cls := "java/lang/Math", name := "min", desc := "(II)I" } : Jvm.MethodName) prog_30_method_69_code (2 : Nat) (Option.some Jvm.ClassFile.FieldType.int)) ∈ lw_all := lw_g (lw_at lw_m3 34 rfl) rfl
theorem q1421 : (Jvm.Cond.static ({ cls := "java/lang/Math", name := "max", desc := "(JJ)J" } : Jvm.MethodName)) ∈ lw_all := lw_g (lw_at lw_m6 126 rfl) rfl
theorem q1422 : (Jvm.Cond.code ({ cls := "java/lang/Math", name := "max", desc := "(JJ)J" } : Jvm.MethodName) prog_30_method_66_code (4 : Nat) (Option.some Jvm.ClassFile.FieldType.long)) ∈ lw_all := lw_g (lw_at lw_m6 127 rfl) rfl

/-! java/util/Arrays -/
set_option maxRecDepth 100000
def RJ20 : String := "java/util/Arrays"
abbrev cJ20_copyOf : ByteArray := prog_51_method_121_code
def yJ20_copyOf : MethodName := ⟨RJ20, "copyOf", "([BI)[B"⟩
def dkwJ20_copyOf_1 : List UInt8 := [27, 184, 1, 48, 184, 0, 150, 44, 176]
abbrev dktJ20_copyOf_1 : List UInt8 := dkwJ20_copyOf_1 ++ []
def dkwJ20_copyOf_0 : List UInt8 := [27, 42, 190, 160, 0, 11, 42, 182, 1, 54, 192, 1, 55, 176, 27, 188, 8, 77, 42, 3, 44, 3, 42, 190]
abbrev dktJ20_copyOf_0 : List UInt8 := dkwJ20_copyOf_0 ++ dktJ20_copyOf_1
theorem dksJ20_copyOf_0 : cJ20_copyOf.data.toList.drop 0 = dktJ20_copyOf_0 := by decide +kernel
theorem dksJ20_copyOf_1 : cJ20_copyOf.data.toList.drop 24 = dktJ20_copyOf_1 := dk_seg dksJ20_copyOf_0 24 rfl rfl
theorem dJ20_copyOf_0 : decode cJ20_copyOf 0 = .ok (.iload_n 1, 1) := dk_27 (dk_at dksJ20_copyOf_0 0 rfl rfl)
theorem dJ20_copyOf_1 : decode cJ20_copyOf 1 = .ok (.aload_n 0, 1) := dk_42 (dk_at dksJ20_copyOf_0 1 rfl rfl)
theorem dJ20_copyOf_2 : decode cJ20_copyOf 2 = .ok (.arraylength, 1) := dk_190 (dk_at dksJ20_copyOf_0 2 rfl rfl)
theorem dJ20_copyOf_3 : decode cJ20_copyOf 3 = .ok (.if_icmp .ne 11, 3) := dk_160 0 11 (dk_at dksJ20_copyOf_0 3 rfl rfl)
theorem dJ20_copyOf_6 : decode cJ20_copyOf 6 = .ok (.aload_n 0, 1) := dk_42 (dk_at dksJ20_copyOf_0 6 rfl rfl)
theorem dJ20_copyOf_7 : decode cJ20_copyOf 7 = .ok (.invokevirtual 310, 3) := dk_182 1 54 (dk_at dksJ20_copyOf_0 7 rfl rfl)
theorem dJ20_copyOf_10 : decode cJ20_copyOf 10 = .ok (.checkcast 311, 3) := dk_192 1 55 (dk_at dksJ20_copyOf_0 10 rfl rfl)
theorem dJ20_copyOf_13 : decode cJ20_copyOf 13 = .ok (.areturn, 1) := dk_176 (dk_at dksJ20_copyOf_0 13 rfl rfl)
theorem dJ20_copyOf_14 : decode cJ20_copyOf 14 = .ok (.iload_n 1, 1) := dk_27 (dk_at dksJ20_copyOf_0 14 rfl rfl)
theorem dJ20_copyOf_15 : decode cJ20_copyOf 15 = .ok (.newarray .byte, 2) := dk_188_8 (dk_at dksJ20_copyOf_0 15 rfl rfl)
theorem dJ20_copyOf_17 : decode cJ20_copyOf 17 = .ok (.astore_n 2, 1) := dk_77 (dk_at dksJ20_copyOf_0 17 rfl rfl)
theorem dJ20_copyOf_18 : decode cJ20_copyOf 18 = .ok (.aload_n 0, 1) := dk_42 (dk_at dksJ20_copyOf_0 18 rfl rfl)
theorem dJ20_copyOf_19 : decode cJ20_copyOf 19 = .ok (.iconst 0, 1) := dk_3 (dk_at dksJ20_copyOf_0 19 rfl rfl)
theorem dJ20_copyOf_20 : decode cJ20_copyOf 20 = .ok (.aload_n 2, 1) := dk_44 (dk_at dksJ20_copyOf_0 20 rfl rfl)
theorem dJ20_copyOf_21 : decode cJ20_copyOf 21 = .ok (.iconst 0, 1) := dk_3 (dk_at dksJ20_copyOf_0 21 rfl rfl)
theorem dJ20_copyOf_22 : decode cJ20_copyOf 22 = .ok (.aload_n 0, 1) := dk_42 (dk_at dksJ20_copyOf_0 22 rfl rfl)
theorem dJ20_copyOf_23 : decode cJ20_copyOf 23 = .ok (.arraylength, 1) := dk_190 (dk_at dksJ20_copyOf_0 23 rfl rfl)
theorem dJ20_copyOf_24 : decode cJ20_copyOf 24 = .ok (.iload_n 1, 1) := dk_27 (dk_at dksJ20_copyOf_1 0 rfl rfl)
theorem dJ20_copyOf_25 : decode cJ20_copyOf 25 = .ok (.invokestatic 304, 3) := dk_184 1 48 (dk_at dksJ20_copyOf_1 1 rfl rfl)
theorem dJ20_copyOf_28 : decode cJ20_copyOf 28 = .ok (.invokestatic 150, 3) := dk_184 0 150 (dk_at dksJ20_copyOf_1 4 rfl rfl)
theorem dJ20_copyOf_31 : decode cJ20_copyOf 31 = .ok (.aload_n 2, 1) := dk_44 (dk_at dksJ20_copyOf_1 7 rfl rfl)
theorem dJ20_copyOf_32 : decode cJ20_copyOf 32 = .ok (.areturn, 1) := dk_176 (dk_at dksJ20_copyOf_1 8 rfl rfl)
abbrev cJ20_copyOfRange : ByteArray := prog_51_method_132_code
def yJ20_copyOfRange : MethodName := ⟨RJ20, "copyOfRange", "([BII)[B"⟩
def dkwJ20_copyOfRange_1 : List UInt8 := [176]
abbrev dktJ20_copyOfRange_1 : List UInt8 := dkwJ20_copyOfRange_1 ++ []
def dkwJ20_copyOfRange_0 : List UInt8 := [27, 154, 0, 9, 28, 42, 190, 159, 0, 10, 42, 27, 28, 184, 1, 83, 176, 42, 182, 1, 54, 192, 1, 55]
abbrev dktJ20_copyOfRange_0 : List UInt8 := dkwJ20_copyOfRange_0 ++ dktJ20_copyOfRange_1
theorem dksJ20_copyOfRange_0 : cJ20_copyOfRange.data.toList.drop 0 = dktJ20_copyOfRange_0 := by decide +kernel
theorem dksJ20_copyOfRange_1 : cJ20_copyOfRange.data.toList.drop 24 = dktJ20_copyOfRange_1 := dk_seg dksJ20_copyOfRange_0 24 rfl rfl
theorem dJ20_copyOfRange_0 : decode cJ20_copyOfRange 0 = .ok (.iload_n 1, 1) := dk_27 (dk_at dksJ20_copyOfRange_0 0 rfl rfl)
theorem dJ20_copyOfRange_1 : decode cJ20_copyOfRange 1 = .ok (.ifCond .ne 9, 3) := dk_154 0 9 (dk_at dksJ20_copyOfRange_0 1 rfl rfl)
theorem dJ20_copyOfRange_4 : decode cJ20_copyOfRange 4 = .ok (.iload_n 2, 1) := dk_28 (dk_at dksJ20_copyOfRange_0 4 rfl rfl)
theorem dJ20_copyOfRange_5 : decode cJ20_copyOfRange 5 = .ok (.aload_n 0, 1) := dk_42 (dk_at dksJ20_copyOfRange_0 5 rfl rfl)
theorem dJ20_copyOfRange_6 : decode cJ20_copyOfRange 6 = .ok (.arraylength, 1) := dk_190 (dk_at dksJ20_copyOfRange_0 6 rfl rfl)
theorem dJ20_copyOfRange_7 : decode cJ20_copyOfRange 7 = .ok (.if_icmp .eq 10, 3) := dk_159 0 10 (dk_at dksJ20_copyOfRange_0 7 rfl rfl)
theorem dJ20_copyOfRange_10 : decode cJ20_copyOfRange 10 = .ok (.aload_n 0, 1) := dk_42 (dk_at dksJ20_copyOfRange_0 10 rfl rfl)
theorem dJ20_copyOfRange_11 : decode cJ20_copyOfRange 11 = .ok (.iload_n 1, 1) := dk_27 (dk_at dksJ20_copyOfRange_0 11 rfl rfl)
theorem dJ20_copyOfRange_12 : decode cJ20_copyOfRange 12 = .ok (.iload_n 2, 1) := dk_28 (dk_at dksJ20_copyOfRange_0 12 rfl rfl)
theorem dJ20_copyOfRange_13 : decode cJ20_copyOfRange 13 = .ok (.invokestatic 339, 3) := dk_184 1 83 (dk_at dksJ20_copyOfRange_0 13 rfl rfl)
theorem dJ20_copyOfRange_16 : decode cJ20_copyOfRange 16 = .ok (.areturn, 1) := dk_176 (dk_at dksJ20_copyOfRange_0 16 rfl rfl)
theorem dJ20_copyOfRange_17 : decode cJ20_copyOfRange 17 = .ok (.aload_n 0, 1) := dk_42 (dk_at dksJ20_copyOfRange_0 17 rfl rfl)
theorem dJ20_copyOfRange_18 : decode cJ20_copyOfRange 18 = .ok (.invokevirtual 310, 3) := dk_182 1 54 (dk_at dksJ20_copyOfRange_0 18 rfl rfl)
theorem dJ20_copyOfRange_21 : decode cJ20_copyOfRange 21 = .ok (.checkcast 311, 3) := dk_192 1 55 (dk_at dksJ20_copyOfRange_0 21 rfl rfl)
theorem dJ20_copyOfRange_24 : decode cJ20_copyOfRange 24 = .ok (.areturn, 1) := dk_176 (dk_at dksJ20_copyOfRange_1 0 rfl rfl)
abbrev cJ20_copyOfRangeByte : ByteArray := prog_51_method_133_code
def yJ20_copyOfRangeByte : MethodName := ⟨RJ20, "copyOfRangeByte", "([BII)[B"⟩
def dkwJ20_copyOfRangeByte_1 : List UInt8 := [184, 1, 48, 184, 0, 150, 25, 4, 176]
abbrev dktJ20_copyOfRangeByte_1 : List UInt8 := dkwJ20_copyOfRangeByte_1 ++ []
def dkwJ20_copyOfRangeByte_0 : List UInt8 := [27, 28, 184, 1, 87, 28, 27, 100, 62, 29, 188, 8, 58, 4, 42, 27, 25, 4, 3, 42, 190, 27, 100, 29]
abbrev dktJ20_copyOfRangeByte_0 : List UInt8 := dkwJ20_copyOfRangeByte_0 ++ dktJ20_copyOfRangeByte_1
theorem dksJ20_copyOfRangeByte_0 : cJ20_copyOfRangeByte.data.toList.drop 0 = dktJ20_copyOfRangeByte_0 := by decide +kernel
theorem dksJ20_copyOfRangeByte_1 : cJ20_copyOfRangeByte.data.toList.drop 24 = dktJ20_copyOfRangeByte_1 := dk_seg dksJ20_copyOfRangeByte_0 24 rfl rfl
theorem dJ20_copyOfRangeByte_0 : decode cJ20_copyOfRangeByte 0 = .ok (.iload_n 1, 1) := dk_27 (dk_at dksJ20_copyOfRangeByte_0 0 rfl rfl)
theorem dJ20_copyOfRangeByte_1 : decode cJ20_copyOfRangeByte 1 = .ok (.iload_n 2, 1) := dk_28 (dk_at dksJ20_copyOfRangeByte_0 1 rfl rfl)
theorem dJ20_copyOfRangeByte_2 : decode cJ20_copyOfRangeByte 2 = .ok (.invokestatic 343, 3) := dk_184 1 87 (dk_at dksJ20_copyOfRangeByte_0 2 rfl rfl)
theorem dJ20_copyOfRangeByte_5 : decode cJ20_copyOfRangeByte 5 = .ok (.iload_n 2, 1) := dk_28 (dk_at dksJ20_copyOfRangeByte_0 5 rfl rfl)
theorem dJ20_copyOfRangeByte_6 : decode cJ20_copyOfRangeByte 6 = .ok (.iload_n 1, 1) := dk_27 (dk_at dksJ20_copyOfRangeByte_0 6 rfl rfl)
theorem dJ20_copyOfRangeByte_7 : decode cJ20_copyOfRangeByte 7 = .ok (.isub, 1) := dk_100 (dk_at dksJ20_copyOfRangeByte_0 7 rfl rfl)
theorem dJ20_copyOfRangeByte_8 : decode cJ20_copyOfRangeByte 8 = .ok (.istore_n 3, 1) := dk_62 (dk_at dksJ20_copyOfRangeByte_0 8 rfl rfl)
theorem dJ20_copyOfRangeByte_9 : decode cJ20_copyOfRangeByte 9 = .ok (.iload_n 3, 1) := dk_29 (dk_at dksJ20_copyOfRangeByte_0 9 rfl rfl)
theorem dJ20_copyOfRangeByte_10 : decode cJ20_copyOfRangeByte 10 = .ok (.newarray .byte, 2) := dk_188_8 (dk_at dksJ20_copyOfRangeByte_0 10 rfl rfl)
theorem dJ20_copyOfRangeByte_12 : decode cJ20_copyOfRangeByte 12 = .ok (.astore 4, 2) := dk_58 4 (dk_at dksJ20_copyOfRangeByte_0 12 rfl rfl)
theorem dJ20_copyOfRangeByte_14 : decode cJ20_copyOfRangeByte 14 = .ok (.aload_n 0, 1) := dk_42 (dk_at dksJ20_copyOfRangeByte_0 14 rfl rfl)
theorem dJ20_copyOfRangeByte_15 : decode cJ20_copyOfRangeByte 15 = .ok (.iload_n 1, 1) := dk_27 (dk_at dksJ20_copyOfRangeByte_0 15 rfl rfl)
theorem dJ20_copyOfRangeByte_16 : decode cJ20_copyOfRangeByte 16 = .ok (.aload 4, 2) := dk_25 4 (dk_at dksJ20_copyOfRangeByte_0 16 rfl rfl)
theorem dJ20_copyOfRangeByte_18 : decode cJ20_copyOfRangeByte 18 = .ok (.iconst 0, 1) := dk_3 (dk_at dksJ20_copyOfRangeByte_0 18 rfl rfl)
theorem dJ20_copyOfRangeByte_19 : decode cJ20_copyOfRangeByte 19 = .ok (.aload_n 0, 1) := dk_42 (dk_at dksJ20_copyOfRangeByte_0 19 rfl rfl)
theorem dJ20_copyOfRangeByte_20 : decode cJ20_copyOfRangeByte 20 = .ok (.arraylength, 1) := dk_190 (dk_at dksJ20_copyOfRangeByte_0 20 rfl rfl)
theorem dJ20_copyOfRangeByte_21 : decode cJ20_copyOfRangeByte 21 = .ok (.iload_n 1, 1) := dk_27 (dk_at dksJ20_copyOfRangeByte_0 21 rfl rfl)
theorem dJ20_copyOfRangeByte_22 : decode cJ20_copyOfRangeByte 22 = .ok (.isub, 1) := dk_100 (dk_at dksJ20_copyOfRangeByte_0 22 rfl rfl)
theorem dJ20_copyOfRangeByte_23 : decode cJ20_copyOfRangeByte 23 = .ok (.iload_n 3, 1) := dk_29 (dk_at dksJ20_copyOfRangeByte_0 23 rfl rfl)
theorem dJ20_copyOfRangeByte_24 : decode cJ20_copyOfRangeByte 24 = .ok (.invokestatic 304, 3) := dk_184 1 48 (dk_at dksJ20_copyOfRangeByte_1 0 rfl rfl)
theorem dJ20_copyOfRangeByte_27 : decode cJ20_copyOfRangeByte 27 = .ok (.invokestatic 150, 3) := dk_184 0 150 (dk_at dksJ20_copyOfRangeByte_1 3 rfl rfl)
theorem dJ20_copyOfRangeByte_30 : decode cJ20_copyOfRangeByte 30 = .ok (.aload 4, 2) := dk_25 4 (dk_at dksJ20_copyOfRangeByte_1 6 rfl rfl)
theorem dJ20_copyOfRangeByte_32 : decode cJ20_copyOfRangeByte 32 = .ok (.areturn, 1) := dk_176 (dk_at dksJ20_copyOfRangeByte_1 8 rfl rfl)
abbrev cJ20_checkLength : ByteArray := prog_51_method_131_code
def yJ20_checkLength : MethodName := ⟨RJ20, "checkLength", "(II)V"⟩
def dkwJ20_checkLength_1 : List UInt8 := [182, 0, 50, 27, 182, 0, 54, 182, 0, 61, 183, 0, 65, 191, 177]
abbrev dktJ20_checkLength_1 : List UInt8 := dkwJ20_checkLength_1 ++ []
def dkwJ20_checkLength_0 : List UInt8 := [27, 26, 162, 0, 35, 187, 0, 43, 89, 187, 0, 45, 89, 183, 0, 47, 26, 182, 0, 54, 19, 1, 81]
abbrev dktJ20_checkLength_0 : List UInt8 := dkwJ20_checkLength_0 ++ dktJ20_checkLength_1
theorem dksJ20_checkLength_0 : cJ20_checkLength.data.toList.drop 0 = dktJ20_checkLength_0 := by decide +kernel
theorem dksJ20_checkLength_1 : cJ20_checkLength.data.toList.drop 23 = dktJ20_checkLength_1 := dk_seg dksJ20_checkLength_0 23 rfl rfl
theorem dJ20_checkLength_0 : decode cJ20_checkLength 0 = .ok (.iload_n 1, 1) := dk_27 (dk_at dksJ20_checkLength_0 0 rfl rfl)
theorem dJ20_checkLength_1 : decode cJ20_checkLength 1 = .ok (.iload_n 0, 1) := dk_26 (dk_at dksJ20_checkLength_0 1 rfl rfl)
theorem dJ20_checkLength_2 : decode cJ20_checkLength 2 = .ok (.if_icmp .ge 35, 3) := dk_162 0 35 (dk_at dksJ20_checkLength_0 2 rfl rfl)
theorem dJ20_checkLength_5 : decode cJ20_checkLength 5 = .ok (.new 43, 3) := dk_187 0 43 (dk_at dksJ20_checkLength_0 5 rfl rfl)
theorem dJ20_checkLength_8 : decode cJ20_checkLength 8 = .ok (.dup, 1) := dk_89 (dk_at dksJ20_checkLength_0 8 rfl rfl)
theorem dJ20_checkLength_9 : decode cJ20_checkLength 9 = .ok (.new 45, 3) := dk_187 0 45 (dk_at dksJ20_checkLength_0 9 rfl rfl)
theorem dJ20_checkLength_12 : decode cJ20_checkLength 12 = .ok (.dup, 1) := dk_89 (dk_at dksJ20_checkLength_0 12 rfl rfl)
theorem dJ20_checkLength_13 : decode cJ20_checkLength 13 = .ok (.invokespecial 47, 3) := dk_183 0 47 (dk_at dksJ20_checkLength_0 13 rfl rfl)
theorem dJ20_checkLength_16 : decode cJ20_checkLength 16 = .ok (.iload_n 0, 1) := dk_26 (dk_at dksJ20_checkLength_0 16 rfl rfl)
theorem dJ20_checkLength_17 : decode cJ20_checkLength 17 = .ok (.invokevirtual 54, 3) := dk_182 0 54 (dk_at dksJ20_checkLength_0 17 rfl rfl)
theorem dJ20_checkLength_20 : decode cJ20_checkLength 20 = .ok (.ldc_w 337, 3) := dk_19 1 81 (dk_at dksJ20_checkLength_0 20 rfl rfl)
theorem dJ20_checkLength_23 : decode cJ20_checkLength 23 = .ok (.invokevirtual 50, 3) := dk_182 0 50 (dk_at dksJ20_checkLength_1 0 rfl rfl)
theorem dJ20_checkLength_26 : decode cJ20_checkLength 26 = .ok (.iload_n 1, 1) := dk_27 (dk_at dksJ20_checkLength_1 3 rfl rfl)
theorem dJ20_checkLength_27 : decode cJ20_checkLength 27 = .ok (.invokevirtual 54, 3) := dk_182 0 54 (dk_at dksJ20_checkLength_1 4 rfl rfl)
theorem dJ20_checkLength_30 : decode cJ20_checkLength 30 = .ok (.invokevirtual 61, 3) := dk_182 0 61 (dk_at dksJ20_checkLength_1 7 rfl rfl)
theorem dJ20_checkLength_33 : decode cJ20_checkLength 33 = .ok (.invokespecial 65, 3) := dk_183 0 65 (dk_at dksJ20_checkLength_1 10 rfl rfl)
theorem dJ20_checkLength_36 : decode cJ20_checkLength 36 = .ok (.athrow, 1) := dk_191 (dk_at dksJ20_checkLength_1 13 rfl rfl)
theorem dJ20_checkLength_37 : decode cJ20_checkLength 37 = .ok (.return_, 1) := dk_177 (dk_at dksJ20_checkLength_1 14 rfl rfl)
abbrev cJ20_copyOf_2 : ByteArray := prog_51_method_119_code
def yJ20_copyOf_2 : MethodName := ⟨RJ20, "copyOf", "([Ljava/lang/Object;I)[Ljava/lang/Object;"⟩
def dkwJ20_copyOf_2_0 : List UInt8 := [42, 27, 42, 182, 0, 86, 184, 1, 44, 176]
abbrev dktJ20_copyOf_2_0 : List UInt8 := dkwJ20_copyOf_2_0 ++ []
theorem dksJ20_copyOf_2_0 : cJ20_copyOf_2.data.toList.drop 0 = dktJ20_copyOf_2_0 := by decide +kernel
theorem dJ20_copyOf_2_0 : decode cJ20_copyOf_2 0 = .ok (.aload_n 0, 1) := dk_42 (dk_at dksJ20_copyOf_2_0 0 rfl rfl)
theorem dJ20_copyOf_2_1 : decode cJ20_copyOf_2 1 = .ok (.iload_n 1, 1) := dk_27 (dk_at dksJ20_copyOf_2_0 1 rfl rfl)
theorem dJ20_copyOf_2_2 : decode cJ20_copyOf_2 2 = .ok (.aload_n 0, 1) := dk_42 (dk_at dksJ20_copyOf_2_0 2 rfl rfl)
theorem dJ20_copyOf_2_3 : decode cJ20_copyOf_2 3 = .ok (.invokevirtual 86, 3) := dk_182 0 86 (dk_at dksJ20_copyOf_2_0 3 rfl rfl)
theorem dJ20_copyOf_2_6 : decode cJ20_copyOf_2 6 = .ok (.invokestatic 300, 3) := dk_184 1 44 (dk_at dksJ20_copyOf_2_0 6 rfl rfl)
theorem dJ20_copyOf_2_9 : decode cJ20_copyOf_2 9 = .ok (.areturn, 1) := dk_176 (dk_at dksJ20_copyOf_2_0 9 rfl rfl)
abbrev cJ20_copyOf_3 : ByteArray := prog_51_method_120_code
def yJ20_copyOf_3 : MethodName := ⟨RJ20, "copyOf", "([Ljava/lang/Object;ILjava/lang/Class;)[Ljava/lang/Object;"⟩
def dkwJ20_copyOf_3_1 : List UInt8 := [78, 42, 3, 45, 3, 42, 190, 27, 184, 1, 48, 184, 0, 150, 45, 176]
abbrev dktJ20_copyOf_3_1 : List UInt8 := dkwJ20_copyOf_3_1 ++ []
def dkwJ20_copyOf_3_0 : List UInt8 := [44, 18, 110, 166, 0, 10, 27, 189, 0, 2, 167, 0, 14, 44, 182, 0, 90, 27, 184, 0, 95, 192, 0, 110]
abbrev dktJ20_copyOf_3_0 : List UInt8 := dkwJ20_copyOf_3_0 ++ dktJ20_copyOf_3_1
theorem dksJ20_copyOf_3_0 : cJ20_copyOf_3.data.toList.drop 0 = dktJ20_copyOf_3_0 := by decide +kernel
theorem dksJ20_copyOf_3_1 : cJ20_copyOf_3.data.toList.drop 24 = dktJ20_copyOf_3_1 := dk_seg dksJ20_copyOf_3_0 24 rfl rfl
theorem dJ20_copyOf_3_0 : decode cJ20_copyOf_3 0 = .ok (.aload_n 2, 1) := dk_44 (dk_at dksJ20_copyOf_3_0 0 rfl rfl)
theorem dJ20_copyOf_3_1 : decode cJ20_copyOf_3 1 = .ok (.ldc 110, 2) := dk_18 110 (dk_at dksJ20_copyOf_3_0 1 rfl rfl)
theorem dJ20_copyOf_3_3 : decode cJ20_copyOf_3 3 = .ok (.if_acmp .ne 10, 3) := dk_166 0 10 (dk_at dksJ20_copyOf_3_0 3 rfl rfl)
theorem dJ20_copyOf_3_6 : decode cJ20_copyOf_3 6 = .ok (.iload_n 1, 1) := dk_27 (dk_at dksJ20_copyOf_3_0 6 rfl rfl)
theorem dJ20_copyOf_3_7 : decode cJ20_copyOf_3 7 = .ok (.anewarray 2, 3) := dk_189 0 2 (dk_at dksJ20_copyOf_3_0 7 rfl rfl)
theorem dJ20_copyOf_3_10 : decode cJ20_copyOf_3 10 = .ok (.goto 14, 3) := dk_167 0 14 (dk_at dksJ20_copyOf_3_0 10 rfl rfl)
theorem dJ20_copyOf_3_13 : decode cJ20_copyOf_3 13 = .ok (.aload_n 2, 1) := dk_44 (dk_at dksJ20_copyOf_3_0 13 rfl rfl)
theorem dJ20_copyOf_3_14 : decode cJ20_copyOf_3 14 = .ok (.invokevirtual 90, 3) := dk_182 0 90 (dk_at dksJ20_copyOf_3_0 14 rfl rfl)
theorem dJ20_copyOf_3_17 : decode cJ20_copyOf_3 17 = .ok (.iload_n 1, 1) := dk_27 (dk_at dksJ20_copyOf_3_0 17 rfl rfl)
theorem dJ20_copyOf_3_18 : decode cJ20_copyOf_3 18 = .ok (.invokestatic 95, 3) := dk_184 0 95 (dk_at dksJ20_copyOf_3_0 18 rfl rfl)
theorem dJ20_copyOf_3_21 : decode cJ20_copyOf_3 21 = .ok (.checkcast 110, 3) := dk_192 0 110 (dk_at dksJ20_copyOf_3_0 21 rfl rfl)
theorem dJ20_copyOf_3_24 : decode cJ20_copyOf_3 24 = .ok (.astore_n 3, 1) := dk_78 (dk_at dksJ20_copyOf_3_1 0 rfl rfl)
theorem dJ20_copyOf_3_25 : decode cJ20_copyOf_3 25 = .ok (.aload_n 0, 1) := dk_42 (dk_at dksJ20_copyOf_3_1 1 rfl rfl)
theorem dJ20_copyOf_3_26 : decode cJ20_copyOf_3 26 = .ok (.iconst 0, 1) := dk_3 (dk_at dksJ20_copyOf_3_1 2 rfl rfl)
theorem dJ20_copyOf_3_27 : decode cJ20_copyOf_3 27 = .ok (.aload_n 3, 1) := dk_45 (dk_at dksJ20_copyOf_3_1 3 rfl rfl)
theorem dJ20_copyOf_3_28 : decode cJ20_copyOf_3 28 = .ok (.iconst 0, 1) := dk_3 (dk_at dksJ20_copyOf_3_1 4 rfl rfl)
theorem dJ20_copyOf_3_29 : decode cJ20_copyOf_3 29 = .ok (.aload_n 0, 1) := dk_42 (dk_at dksJ20_copyOf_3_1 5 rfl rfl)
theorem dJ20_copyOf_3_30 : decode cJ20_copyOf_3 30 = .ok (.arraylength, 1) := dk_190 (dk_at dksJ20_copyOf_3_1 6 rfl rfl)
theorem dJ20_copyOf_3_31 : decode cJ20_copyOf_3 31 = .ok (.iload_n 1, 1) := dk_27 (dk_at dksJ20_copyOf_3_1 7 rfl rfl)
theorem dJ20_copyOf_3_32 : decode cJ20_copyOf_3 32 = .ok (.invokestatic 304, 3) := dk_184 1 48 (dk_at dksJ20_copyOf_3_1 8 rfl rfl)
theorem dJ20_copyOf_3_35 : decode cJ20_copyOf_3 35 = .ok (.invokestatic 150, 3) := dk_184 0 150 (dk_at dksJ20_copyOf_3_1 11 rfl rfl)
theorem dJ20_copyOf_3_38 : decode cJ20_copyOf_3 38 = .ok (.aload_n 3, 1) := dk_45 (dk_at dksJ20_copyOf_3_1 14 rfl rfl)
theorem dJ20_copyOf_3_39 : decode cJ20_copyOf_3 39 = .ok (.areturn, 1) := dk_176 (dk_at dksJ20_copyOf_3_1 15 rfl rfl)
abbrev cJ20_copyOf_4 : ByteArray := prog_51_method_124_code
def yJ20_copyOf_4 : MethodName := ⟨RJ20, "copyOf", "([JI)[J"⟩
def dkwJ20_copyOf_4_1 : List UInt8 := [27, 184, 1, 48, 184, 0, 150, 44, 176]
abbrev dktJ20_copyOf_4_1 : List UInt8 := dkwJ20_copyOf_4_1 ++ []
def dkwJ20_copyOf_4_0 : List UInt8 := [27, 42, 190, 160, 0, 11, 42, 182, 1, 63, 192, 1, 64, 176, 27, 188, 11, 77, 42, 3, 44, 3, 42, 190]
abbrev dktJ20_copyOf_4_0 : List UInt8 := dkwJ20_copyOf_4_0 ++ dktJ20_copyOf_4_1
theorem dksJ20_copyOf_4_0 : cJ20_copyOf_4.data.toList.drop 0 = dktJ20_copyOf_4_0 := by decide +kernel
theorem dksJ20_copyOf_4_1 : cJ20_copyOf_4.data.toList.drop 24 = dktJ20_copyOf_4_1 := dk_seg dksJ20_copyOf_4_0 24 rfl rfl
theorem dJ20_copyOf_4_0 : decode cJ20_copyOf_4 0 = .ok (.iload_n 1, 1) := dk_27 (dk_at dksJ20_copyOf_4_0 0 rfl rfl)
theorem dJ20_copyOf_4_1 : decode cJ20_copyOf_4 1 = .ok (.aload_n 0, 1) := dk_42 (dk_at dksJ20_copyOf_4_0 1 rfl rfl)
theorem dJ20_copyOf_4_2 : decode cJ20_copyOf_4 2 = .ok (.arraylength, 1) := dk_190 (dk_at dksJ20_copyOf_4_0 2 rfl rfl)
theorem dJ20_copyOf_4_3 : decode cJ20_copyOf_4 3 = .ok (.if_icmp .ne 11, 3) := dk_160 0 11 (dk_at dksJ20_copyOf_4_0 3 rfl rfl)
theorem dJ20_copyOf_4_6 : decode cJ20_copyOf_4 6 = .ok (.aload_n 0, 1) := dk_42 (dk_at dksJ20_copyOf_4_0 6 rfl rfl)
theorem dJ20_copyOf_4_7 : decode cJ20_copyOf_4 7 = .ok (.invokevirtual 319, 3) := dk_182 1 63 (dk_at dksJ20_copyOf_4_0 7 rfl rfl)
theorem dJ20_copyOf_4_10 : decode cJ20_copyOf_4 10 = .ok (.checkcast 320, 3) := dk_192 1 64 (dk_at dksJ20_copyOf_4_0 10 rfl rfl)
theorem dJ20_copyOf_4_13 : decode cJ20_copyOf_4 13 = .ok (.areturn, 1) := dk_176 (dk_at dksJ20_copyOf_4_0 13 rfl rfl)
theorem dJ20_copyOf_4_14 : decode cJ20_copyOf_4 14 = .ok (.iload_n 1, 1) := dk_27 (dk_at dksJ20_copyOf_4_0 14 rfl rfl)
theorem dJ20_copyOf_4_15 : decode cJ20_copyOf_4 15 = .ok (.newarray .long, 2) := dk_188_11 (dk_at dksJ20_copyOf_4_0 15 rfl rfl)
theorem dJ20_copyOf_4_17 : decode cJ20_copyOf_4 17 = .ok (.astore_n 2, 1) := dk_77 (dk_at dksJ20_copyOf_4_0 17 rfl rfl)
theorem dJ20_copyOf_4_18 : decode cJ20_copyOf_4 18 = .ok (.aload_n 0, 1) := dk_42 (dk_at dksJ20_copyOf_4_0 18 rfl rfl)
theorem dJ20_copyOf_4_19 : decode cJ20_copyOf_4 19 = .ok (.iconst 0, 1) := dk_3 (dk_at dksJ20_copyOf_4_0 19 rfl rfl)
theorem dJ20_copyOf_4_20 : decode cJ20_copyOf_4 20 = .ok (.aload_n 2, 1) := dk_44 (dk_at dksJ20_copyOf_4_0 20 rfl rfl)
theorem dJ20_copyOf_4_21 : decode cJ20_copyOf_4 21 = .ok (.iconst 0, 1) := dk_3 (dk_at dksJ20_copyOf_4_0 21 rfl rfl)
theorem dJ20_copyOf_4_22 : decode cJ20_copyOf_4 22 = .ok (.aload_n 0, 1) := dk_42 (dk_at dksJ20_copyOf_4_0 22 rfl rfl)
theorem dJ20_copyOf_4_23 : decode cJ20_copyOf_4 23 = .ok (.arraylength, 1) := dk_190 (dk_at dksJ20_copyOf_4_0 23 rfl rfl)
theorem dJ20_copyOf_4_24 : decode cJ20_copyOf_4 24 = .ok (.iload_n 1, 1) := dk_27 (dk_at dksJ20_copyOf_4_1 0 rfl rfl)
theorem dJ20_copyOf_4_25 : decode cJ20_copyOf_4 25 = .ok (.invokestatic 304, 3) := dk_184 1 48 (dk_at dksJ20_copyOf_4_1 1 rfl rfl)
theorem dJ20_copyOf_4_28 : decode cJ20_copyOf_4 28 = .ok (.invokestatic 150, 3) := dk_184 0 150 (dk_at dksJ20_copyOf_4_1 4 rfl rfl)
theorem dJ20_copyOf_4_31 : decode cJ20_copyOf_4 31 = .ok (.aload_n 2, 1) := dk_44 (dk_at dksJ20_copyOf_4_1 7 rfl rfl)
theorem dJ20_copyOf_4_32 : decode cJ20_copyOf_4 32 = .ok (.areturn, 1) := dk_176 (dk_at dksJ20_copyOf_4_1 8 rfl rfl)
theorem q121 : (Jvm.Cond.initialized "java/util/Arrays") ∈ lw_all := lw_g (lw_at lw_m1 26 rfl) rfl
theorem q598 : (Jvm.Cond.static ({ cls := "java/util/Arrays", name := "copyOf", desc := "([BI)[B" } : Jvm.MethodName)) ∈ lw_all := lw_g (lw_at lw_m3 23 rfl) rfl
theorem q599 : (Jvm.Cond.code ({ cls := "java/util/Arrays", name := "copyOf", desc := "([BI)[B" } : Jvm.MethodName) prog_51_method_121_code (3 : Nat) (Option.some (Jvm.ClassFile.FieldType.array Jvm.ClassFile.FieldType.byte))) ∈ lw_all := lw_g (lw_at lw_m3 24 rfl) rfl
theorem q600 : (Jvm.Cond.methodLink "java/util/Arrays" (310 : Nat) ({ cls := "[B", name := "clone", desc := "()Ljava/lang/Object;" } : Jvm.MethodName)) ∈ lw_all := lw_g (lw_at lw_m3 25 rfl) rfl
theorem q606 : (Jvm.Cond.classLink "java/util/Arrays" (311 : Nat) "[B") ∈ lw_all := lw_g (lw_at lw_m3 31 rfl) rfl
theorem q607 : (Jvm.Cond.methodLink "java/util/Arrays" (304 : Nat) ({ cls := "java/lang/Math", name := "min", desc := "(II)I" } : Jvm.MethodName)) ∈ lw_all := lw_g (lw_at lw_m3 32 rfl) rfl
theorem q610 : (Jvm.Cond.methodLink "java/util/Arrays" (150 : Nat) ({ cls := "java/lang/System", name := "arraycopy", desc := "(Ljava/lang/Object;ILjava/lang/Object;II)V" } : Jvm.MethodName)) ∈ lw_all := lw_g (lw_at lw_m3 35 rfl) rfl
theorem q694 : (Jvm.Cond.static ({ cls := "java/util/Arrays", name := "copyOfRange", desc := "([BII)[B" } : Jvm.MethodName)) ∈ lw_all := lw_g (lw_at lw_m3 119 rfl) rfl
theorem q695 : (Jvm.Cond.code ({ cls := "java/util/Arrays", name := "copyOfRange", desc := "([BII)[B" } : Jvm.MethodName) prog_51_method_132_code (3 : Nat) (Option.some (Jvm.ClassFile.FieldType.array Jvm.ClassFile.FieldType.byte))) ∈ lw_all := lw_g (lw_at lw_m3 120 rfl) rfl
theorem q696 : (Jvm.Cond.methodLink "java/util/Arrays" (339 : Nat) ({ cls := "java/util/Arrays", name := "copyOfRangeByte", desc := "([BII)[B" } : Jvm.MethodName)) ∈ lw_all := lw_g (lw_at lw_m3 121 rfl) rfl
theorem q697 : (Jvm.Cond.static ({ cls := "java/util/Arrays", name := "copyOfRangeByte", desc := "([BII)[B" } : Jvm.MethodName)) ∈ lw_all := lw_g (lw_at lw_m3 122 rfl) rfl
theorem q698 : (Jvm.Cond.code ({ cls := "java/util/Arrays", name := "copyOfRangeByte", desc := "([BII)[B" } : Jvm.MethodName) prog_51_method_133_code (5 : Nat) (Option.some (Jvm.ClassFile.FieldType.array Jvm.ClassFile.FieldType.byte))) ∈ lw_all := lw_g (lw_at lw_m3 123 rfl) rfl
theorem q699 : (Jvm.Cond.methodLink "java/util/Arrays" (343 : Nat) ({ cls := "java/util/Arrays", name := "checkLength", desc := "(II)V" } : Jvm.MethodName)) ∈ lw_all := lw_g (lw_at lw_m3 124 rfl) rfl
theorem q700 : (Jvm.Cond.static ({ cls := "java/util/Arrays", name := "checkLength", desc := "(II)V" } : Jvm.MethodName)) ∈ lw_all := lw_g (lw_at lw_m3 125 rfl) rfl
theorem q701 : (Jvm.Cond.code ({ cls := "java/util/Arrays", name := "checkLength", desc := "(II)V" } : Jvm.MethodName) prog_51_method_131_code (2 : Nat) (Option.none : Option Jvm.ClassFile.FieldType)) ∈ lw_all := lw_g (lw_at lw_m3 126 rfl) rfl
theorem q1112 : (Jvm.Cond.static ({ cls := "java/util/Arrays", name := "copyOf", desc := "([Ljava/lang/Object;I)[Ljava/lang/Object;" } : Jvm.MethodName)) ∈ lw_all := lw_g (lw_at lw_m5 57 rfl) rfl
theorem q1113 : (Jvm.Cond.code ({ cls := "java/util/Arrays", name := "copyOf", desc := "([Ljava/lang/Object;I)[Ljava/lang/Object;" } : Jvm.MethodName) prog_51_method_119_code (2 : Nat) (Option.some (Jvm.ClassFile.FieldType.array (Jvm.ClassFile.FieldType.object "java/lang/Object")))) ∈ lw_all := lw_g (lw_at lw_m5 58 rfl) rfl
theorem q1114 : (Jvm.Cond.methodLink "java/util/Arrays" (86 : Nat) ({ cls := "java/lang/Object", name := "getClass", desc := "()Ljava/lang/Class;" } : Jvm.MethodName)) ∈ lw_all := lw_g (lw_at lw_m5 59 rfl) rfl
theorem q1115 : (Jvm.Cond.methodLink "java/util/Arrays" (300 : Nat) ({ cls := "java/util/Arrays", name := "copyOf", desc := "([Ljava/lang/Object;ILjava/lang/Class;)[Ljava/lang/Object;" } : Jvm.MethodName)) ∈ lw_all := lw_g (lw_at lw_m5 60 rfl) rfl
theorem q1116 : (Jvm.Cond.static ({ cls := "java/util/Arrays", name := "copyOf", desc := "([Ljava/lang/Object;ILjava/lang/Class;)[Ljava/lang/Object;" } : Jvm.MethodName)) ∈ lw_all := lw_g (lw_at lw_m5 61 rfl) rfl
theorem q1117 : (Jvm.Cond.code ({ cls := "java/util/Arrays", name := "copyOf", desc := "([Ljava/lang/Object;ILjava/lang/Class;)[Ljava/lang/Object;" } : Jvm.MethodName) prog_51_method_120_code (4 : Nat) (Option.some (Jvm.ClassFile.FieldType.array (Jvm.ClassFile.FieldType.object "java/lang/Object")))) ∈ lw_all := lw_g (lw_at lw_m5 62 rfl) rfl
theorem q1118 : (Jvm.Cond.classLink "java/util/Arrays" (110 : Nat) "[Ljava/lang/Object;") ∈ lw_all := lw_g (lw_at lw_m5 63 rfl) rfl
theorem q1119 : (Jvm.Cond.classLink "java/util/Arrays" (2 : Nat) "java/lang/Object") ∈ lw_all := lw_g (lw_at lw_m5 64 rfl) rfl
theorem q1269 : (Jvm.Cond.static ({ cls := "java/util/Arrays", name := "copyOf", desc := "([JI)[J" } : Jvm.MethodName)) ∈ lw_all := lw_g (lw_at lw_m5 214 rfl) rfl
theorem q1270 : (Jvm.Cond.code ({ cls := "java/util/Arrays", name := "copyOf", desc := "([JI)[J" } : Jvm.MethodName) prog_51_method_124_code (3 : Nat) (Option.some (Jvm.ClassFile.FieldType.array Jvm.ClassFile.FieldType.long))) ∈ lw_all := lw_g (lw_at lw_m5 215 rfl) rfl
theorem q1271 : (Jvm.Cond.methodLink "java/util/Arrays" (319 : Nat) ({ cls := "[J", name := "clone", desc := "()Ljava/lang/Object;" } : Jvm.MethodName)) ∈ lw_all := lw_g (lw_at lw_m5 216 rfl) rfl
theorem q1275 : (Jvm.Cond.classLink "java/util/Arrays" (320 : Nat) "[J") ∈ lw_all := lw_g (lw_at lw_m5 220 rfl) rfl

/-! java/lang/StringLatin1 -/
set_option maxRecDepth 100000
def RJ21 : String := "java/lang/StringLatin1"
abbrev cJ21_canEncode : ByteArray := prog_35_method_3_code
def yJ21_canEncode : MethodName := ⟨RJ21, "canEncode", "(C)Z"⟩
def dkwJ21_canEncode_0 : List UInt8 := [26, 17, 0, 255, 163, 0, 7, 4, 167, 0, 4, 3, 172]
abbrev dktJ21_canEncode_0 : List UInt8 := dkwJ21_canEncode_0 ++ []
theorem dksJ21_canEncode_0 : cJ21_canEncode.data.toList.drop 0 = dktJ21_canEncode_0 := by decide +kernel
theorem dJ21_canEncode_0 : decode cJ21_canEncode 0 = .ok (.iload_n 0, 1) := dk_26 (dk_at dksJ21_canEncode_0 0 rfl rfl)
theorem dJ21_canEncode_1 : decode cJ21_canEncode 1 = .ok (.sipush 255, 3) := dk_17 0 255 (dk_at dksJ21_canEncode_0 1 rfl rfl)
theorem dJ21_canEncode_4 : decode cJ21_canEncode 4 = .ok (.if_icmp .gt 7, 3) := dk_163 0 7 (dk_at dksJ21_canEncode_0 4 rfl rfl)
theorem dJ21_canEncode_7 : decode cJ21_canEncode 7 = .ok (.iconst 1, 1) := dk_4 (dk_at dksJ21_canEncode_0 7 rfl rfl)
theorem dJ21_canEncode_8 : decode cJ21_canEncode 8 = .ok (.goto 4, 3) := dk_167 0 4 (dk_at dksJ21_canEncode_0 8 rfl rfl)
theorem dJ21_canEncode_11 : decode cJ21_canEncode 11 = .ok (.iconst 0, 1) := dk_3 (dk_at dksJ21_canEncode_0 11 rfl rfl)
theorem dJ21_canEncode_12 : decode cJ21_canEncode 12 = .ok (.ireturn, 1) := dk_172 (dk_at dksJ21_canEncode_0 12 rfl rfl)
abbrev cJ21_inflate : ByteArray := prog_35_method_50_code
def yJ21_inflate : MethodName := ⟨RJ21, "inflate", "([BI[BII)V"⟩
def dkwJ21_inflate_0 : List UInt8 := [42, 27, 44, 29, 21, 4, 184, 0, 240, 177]
abbrev dktJ21_inflate_0 : List UInt8 := dkwJ21_inflate_0 ++ []
theorem dksJ21_inflate_0 : cJ21_inflate.data.toList.drop 0 = dktJ21_inflate_0 := by decide +kernel
theorem dJ21_inflate_0 : decode cJ21_inflate 0 = .ok (.aload_n 0, 1) := dk_42 (dk_at dksJ21_inflate_0 0 rfl rfl)
theorem dJ21_inflate_1 : decode cJ21_inflate 1 = .ok (.iload_n 1, 1) := dk_27 (dk_at dksJ21_inflate_0 1 rfl rfl)
theorem dJ21_inflate_2 : decode cJ21_inflate 2 = .ok (.aload_n 2, 1) := dk_44 (dk_at dksJ21_inflate_0 2 rfl rfl)
theorem dJ21_inflate_3 : decode cJ21_inflate 3 = .ok (.iload_n 3, 1) := dk_29 (dk_at dksJ21_inflate_0 3 rfl rfl)
theorem dJ21_inflate_4 : decode cJ21_inflate 4 = .ok (.iload 4, 2) := dk_21 4 (dk_at dksJ21_inflate_0 4 rfl rfl)
theorem dJ21_inflate_6 : decode cJ21_inflate 6 = .ok (.invokestatic 240, 3) := dk_184 0 240 (dk_at dksJ21_inflate_0 6 rfl rfl)
theorem dJ21_inflate_9 : decode cJ21_inflate 9 = .ok (.return_, 1) := dk_177 (dk_at dksJ21_inflate_0 9 rfl rfl)
abbrev cJ21_equals : ByteArray := prog_35_method_13_code
def yJ21_equals : MethodName := ⟨RJ21, "equals", "([B[B)Z"⟩
def dkwJ21_equals_1 : List UInt8 := [3, 172, 132, 2, 1, 167, 255, 236, 4, 172, 3, 172]
abbrev dktJ21_equals_1 : List UInt8 := dkwJ21_equals_1 ++ []
def dkwJ21_equals_0 : List UInt8 := [42, 190, 43, 190, 160, 0, 30, 3, 61, 28, 42, 190, 162, 0, 20, 42, 28, 51, 43, 28, 51, 159, 0, 5]
abbrev dktJ21_equals_0 : List UInt8 := dkwJ21_equals_0 ++ dktJ21_equals_1
theorem dksJ21_equals_0 : cJ21_equals.data.toList.drop 0 = dktJ21_equals_0 := by decide +kernel
theorem dksJ21_equals_1 : cJ21_equals.data.toList.drop 24 = dktJ21_equals_1 := dk_seg dksJ21_equals_0 24 rfl rfl
theorem dJ21_equals_0 : decode cJ21_equals 0 = .ok (.aload_n 0, 1) := dk_42 (dk_at dksJ21_equals_0 0 rfl rfl)
theorem dJ21_equals_1 : decode cJ21_equals 1 = .ok (.arraylength, 1) := dk_190 (dk_at dksJ21_equals_0 1 rfl rfl)
theorem dJ21_equals_2 : decode cJ21_equals 2 = .ok (.aload_n 1, 1) := dk_43 (dk_at dksJ21_equals_0 2 rfl rfl)
theorem dJ21_equals_3 : decode cJ21_equals 3 = .ok (.arraylength, 1) := dk_190 (dk_at dksJ21_equals_0 3 rfl rfl)
theorem dJ21_equals_4 : decode cJ21_equals 4 = .ok (.if_icmp .ne 30, 3) := dk_160 0 30 (dk_at dksJ21_equals_0 4 rfl rfl)
theorem dJ21_equals_7 : decode cJ21_equals 7 = .ok (.iconst 0, 1) := dk_3 (dk_at dksJ21_equals_0 7 rfl rfl)
theorem dJ21_equals_8 : decode cJ21_equals 8 = .ok (.istore_n 2, 1) := dk_61 (dk_at dksJ21_equals_0 8 rfl rfl)
theorem dJ21_equals_9 : decode cJ21_equals 9 = .ok (.iload_n 2, 1) := dk_28 (dk_at dksJ21_equals_0 9 rfl rfl)
theorem dJ21_equals_10 : decode cJ21_equals 10 = .ok (.aload_n 0, 1) := dk_42 (dk_at dksJ21_equals_0 10 rfl rfl)
theorem dJ21_equals_11 : decode cJ21_equals 11 = .ok (.arraylength, 1) := dk_190 (dk_at dksJ21_equals_0 11 rfl rfl)
theorem dJ21_equals_12 : decode cJ21_equals 12 = .ok (.if_icmp .ge 20, 3) := dk_162 0 20 (dk_at dksJ21_equals_0 12 rfl rfl)
theorem dJ21_equals_15 : decode cJ21_equals 15 = .ok (.aload_n 0, 1) := dk_42 (dk_at dksJ21_equals_0 15 rfl rfl)
theorem dJ21_equals_16 : decode cJ21_equals 16 = .ok (.iload_n 2, 1) := dk_28 (dk_at dksJ21_equals_0 16 rfl rfl)
theorem dJ21_equals_17 : decode cJ21_equals 17 = .ok (.baload, 1) := dk_51 (dk_at dksJ21_equals_0 17 rfl rfl)
theorem dJ21_equals_18 : decode cJ21_equals 18 = .ok (.aload_n 1, 1) := dk_43 (dk_at dksJ21_equals_0 18 rfl rfl)
theorem dJ21_equals_19 : decode cJ21_equals 19 = .ok (.iload_n 2, 1) := dk_28 (dk_at dksJ21_equals_0 19 rfl rfl)
theorem dJ21_equals_20 : decode cJ21_equals 20 = .ok (.baload, 1) := dk_51 (dk_at dksJ21_equals_0 20 rfl rfl)
theorem dJ21_equals_21 : decode cJ21_equals 21 = .ok (.if_icmp .eq 5, 3) := dk_159 0 5 (dk_at dksJ21_equals_0 21 rfl rfl)
theorem dJ21_equals_24 : decode cJ21_equals 24 = .ok (.iconst 0, 1) := dk_3 (dk_at dksJ21_equals_1 0 rfl rfl)
theorem dJ21_equals_25 : decode cJ21_equals 25 = .ok (.ireturn, 1) := dk_172 (dk_at dksJ21_equals_1 1 rfl rfl)
theorem dJ21_equals_26 : decode cJ21_equals 26 = .ok (.iinc 2 1, 3) := dk_132 2 1 (dk_at dksJ21_equals_1 2 rfl rfl)
theorem dJ21_equals_29 : decode cJ21_equals 29 = .ok (.goto (-20), 3) := dk_167 255 236 (dk_at dksJ21_equals_1 5 rfl rfl)
theorem dJ21_equals_32 : decode cJ21_equals 32 = .ok (.iconst 1, 1) := dk_4 (dk_at dksJ21_equals_1 8 rfl rfl)
theorem dJ21_equals_33 : decode cJ21_equals 33 = .ok (.ireturn, 1) := dk_172 (dk_at dksJ21_equals_1 9 rfl rfl)
theorem dJ21_equals_34 : decode cJ21_equals 34 = .ok (.iconst 0, 1) := dk_3 (dk_at dksJ21_equals_1 10 rfl rfl)
theorem dJ21_equals_35 : decode cJ21_equals 35 = .ok (.ireturn, 1) := dk_172 (dk_at dksJ21_equals_1 11 rfl rfl)
abbrev cJ21_charAt : ByteArray := prog_35_method_2_code
def yJ21_charAt : MethodName := ⟨RJ21, "charAt", "([BI)C"⟩
def dkwJ21_charAt_0 : List UInt8 := [27, 42, 190, 184, 0, 9, 42, 27, 51, 17, 0, 255, 126, 146, 172]
abbrev dktJ21_charAt_0 : List UInt8 := dkwJ21_charAt_0 ++ []
theorem dksJ21_charAt_0 : cJ21_charAt.data.toList.drop 0 = dktJ21_charAt_0 := by decide +kernel
theorem dJ21_charAt_0 : decode cJ21_charAt 0 = .ok (.iload_n 1, 1) := dk_27 (dk_at dksJ21_charAt_0 0 rfl rfl)
theorem dJ21_charAt_1 : decode cJ21_charAt 1 = .ok (.aload_n 0, 1) := dk_42 (dk_at dksJ21_charAt_0 1 rfl rfl)
theorem dJ21_charAt_2 : decode cJ21_charAt 2 = .ok (.arraylength, 1) := dk_190 (dk_at dksJ21_charAt_0 2 rfl rfl)
theorem dJ21_charAt_3 : decode cJ21_charAt 3 = .ok (.invokestatic 9, 3) := dk_184 0 9 (dk_at dksJ21_charAt_0 3 rfl rfl)
theorem dJ21_charAt_6 : decode cJ21_charAt 6 = .ok (.aload_n 0, 1) := dk_42 (dk_at dksJ21_charAt_0 6 rfl rfl)
theorem dJ21_charAt_7 : decode cJ21_charAt 7 = .ok (.iload_n 1, 1) := dk_27 (dk_at dksJ21_charAt_0 7 rfl rfl)
theorem dJ21_charAt_8 : decode cJ21_charAt 8 = .ok (.baload, 1) := dk_51 (dk_at dksJ21_charAt_0 8 rfl rfl)
theorem dJ21_charAt_9 : decode cJ21_charAt 9 = .ok (.sipush 255, 3) := dk_17 0 255 (dk_at dksJ21_charAt_0 9 rfl rfl)
theorem dJ21_charAt_12 : decode cJ21_charAt 12 = .ok (.iand, 1) := dk_126 (dk_at dksJ21_charAt_0 12 rfl rfl)
theorem dJ21_charAt_13 : decode cJ21_charAt 13 = .ok (.i2c, 1) := dk_146 (dk_at dksJ21_charAt_0 13 rfl rfl)
theorem dJ21_charAt_14 : decode cJ21_charAt 14 = .ok (.ireturn, 1) := dk_172 (dk_at dksJ21_charAt_0 14 rfl rfl)
theorem q123 : (Jvm.Cond.initialized "java/lang/StringLatin1") ∈ lw_all := lw_g (lw_at lw_m1 28 rfl) rfl
theorem q619 : (Jvm.Cond.static ({ cls := "java/lang/StringLatin1", name := "canEncode", desc := "(C)Z" } : Jvm.MethodName)) ∈ lw_all := lw_g (lw_at lw_m3 44 rfl) rfl
theorem q620 : (Jvm.Cond.code ({ cls := "java/lang/StringLatin1", name := "canEncode", desc := "(C)Z" } : Jvm.MethodName) prog_35_method_3_code (1 : Nat) (Option.some Jvm.ClassFile.FieldType.boolean)) ∈ lw_all := lw_g (lw_at lw_m3 45 rfl) rfl
theorem q626 : (Jvm.Cond.static ({ cls := "java/lang/StringLatin1", name := "inflate", desc := "([BI[BII)V" } : Jvm.MethodName)) ∈ lw_all := lw_g (lw_at lw_m3 51 rfl) rfl
theorem q627 : (Jvm.Cond.code ({ cls := "java/lang/StringLatin1", name := "inflate", desc := "([BI[BII)V" } : Jvm.MethodName) prog_35_method_50_code (5 : Nat) (Option.none : Option Jvm.ClassFile.FieldType)) ∈ lw_all := lw_g (lw_at lw_m3 52 rfl) rfl
theorem q628 : (Jvm.Cond.methodLink "java/lang/StringLatin1" (240 : Nat) ({ cls := "java/lang/StringUTF16", name := "inflate", desc := "([BI[BII)V" } : Jvm.MethodName)) ∈ lw_all := lw_g (lw_at lw_m3 53 rfl) rfl
theorem q1058 : (Jvm.Cond.static ({ cls := "java/lang/StringLatin1", name := "equals", desc := "([B[B)Z" } : Jvm.MethodName)) ∈ lw_all := lw_g (lw_at lw_m5 3 rfl) rfl
theorem q1059 : (Jvm.Cond.code ({ cls := "java/lang/StringLatin1", name := "equals", desc := "([B[B)Z" } : Jvm.MethodName) prog_35_method_13_code (3 : Nat) (Option.some Jvm.ClassFile.FieldType.boolean)) ∈ lw_all := lw_g (lw_at lw_m5 4 rfl) rfl
theorem q2331 : (Jvm.Cond.static ({ cls := "java/lang/StringLatin1", name := "charAt", desc := "([BI)C" } : Jvm.MethodName)) ∈ lw_all := lw_g (lw_at lw_m10 76 rfl) rfl
theorem q2332 : (Jvm.Cond.code ({ cls := "java/lang/StringLatin1", name := "charAt", desc := "([BI)C" } : Jvm.MethodName) prog_35_method_2_code (2 : Nat) (Option.some Jvm.ClassFile.FieldType.char)) ∈ lw_all := lw_g (lw_at lw_m10 77 rfl) rfl
theorem q2333 : (Jvm.Cond.methodLink "java/lang/StringLatin1" (9 : Nat) ({ cls := "java/lang/String", name := "checkIndex", desc := "(II)V" } : Jvm.MethodName)) ∈ lw_all := lw_g (lw_at lw_m10 78 rfl) rfl

/-! jdk/internal/util/Preconditions -/
set_option maxRecDepth 100000
def RJ22 : String := "jdk/internal/util/Preconditions"
abbrev cJ22_checkFromIndexSize : ByteArray := prog_73_method_13_code
def yJ22_checkFromIndexSize : MethodName := ⟨RJ22, "checkFromIndexSize", "(IIILjava/util/function/BiFunction;)I"⟩
def dkwJ22_checkFromIndexSize_1 : List UInt8 := [172]
abbrev dktJ22_checkFromIndexSize_1 : List UInt8 := dkwJ22_checkFromIndexSize_1 ++ []
def dkwJ22_checkFromIndexSize_0 : List UInt8 := [28, 26, 128, 27, 128, 155, 0, 10, 27, 28, 26, 100, 164, 0, 11, 45, 26, 27, 28, 184, 0, 103, 191, 26]
abbrev dktJ22_checkFromIndexSize_0 : List UInt8 := dkwJ22_checkFromIndexSize_0 ++ dktJ22_checkFromIndexSize_1
theorem dksJ22_checkFromIndexSize_0 : cJ22_checkFromIndexSize.data.toList.drop 0 = dktJ22_checkFromIndexSize_0 := by decide +kernel
theorem dksJ22_checkFromIndexSize_1 : cJ22_checkFromIndexSize.data.toList.drop 24 = dktJ22_checkFromIndexSize_1 := dk_seg dksJ22_checkFromIndexSize_0 24 rfl rfl
theorem dJ22_checkFromIndexSize_0 : decode cJ22_checkFromIndexSize 0 = .ok (.iload_n 2, 1) := dk_28 (dk_at dksJ22_checkFromIndexSize_0 0 rfl rfl)
theorem dJ22_checkFromIndexSize_1 : decode cJ22_checkFromIndexSize 1 = .ok (.iload_n 0, 1) := dk_26 (dk_at dksJ22_checkFromIndexSize_0 1 rfl rfl)
theorem dJ22_checkFromIndexSize_2 : decode cJ22_checkFromIndexSize 2 = .ok (.ior, 1) := dk_128 (dk_at dksJ22_checkFromIndexSize_0 2 rfl rfl)
theorem dJ22_checkFromIndexSize_3 : decode cJ22_checkFromIndexSize 3 = .ok (.iload_n 1, 1) := dk_27 (dk_at dksJ22_checkFromIndexSize_0 3 rfl rfl)
theorem dJ22_checkFromIndexSize_4 : decode cJ22_checkFromIndexSize 4 = .ok (.ior, 1) := dk_128 (dk_at dksJ22_checkFromIndexSize_0 4 rfl rfl)
theorem dJ22_checkFromIndexSize_5 : decode cJ22_checkFromIndexSize 5 = .ok (.ifCond .lt 10, 3) := dk_155 0 10 (dk_at dksJ22_checkFromIndexSize_0 5 rfl rfl)
theorem dJ22_checkFromIndexSize_8 : decode cJ22_checkFromIndexSize 8 = .ok (.iload_n 1, 1) := dk_27 (dk_at dksJ22_checkFromIndexSize_0 8 rfl rfl)
theorem dJ22_checkFromIndexSize_9 : decode cJ22_checkFromIndexSize 9 = .ok (.iload_n 2, 1) := dk_28 (dk_at dksJ22_checkFromIndexSize_0 9 rfl rfl)
theorem dJ22_checkFromIndexSize_10 : decode cJ22_checkFromIndexSize 10 = .ok (.iload_n 0, 1) := dk_26 (dk_at dksJ22_checkFromIndexSize_0 10 rfl rfl)
theorem dJ22_checkFromIndexSize_11 : decode cJ22_checkFromIndexSize 11 = .ok (.isub, 1) := dk_100 (dk_at dksJ22_checkFromIndexSize_0 11 rfl rfl)
theorem dJ22_checkFromIndexSize_12 : decode cJ22_checkFromIndexSize 12 = .ok (.if_icmp .le 11, 3) := dk_164 0 11 (dk_at dksJ22_checkFromIndexSize_0 12 rfl rfl)
theorem dJ22_checkFromIndexSize_15 : decode cJ22_checkFromIndexSize 15 = .ok (.aload_n 3, 1) := dk_45 (dk_at dksJ22_checkFromIndexSize_0 15 rfl rfl)
theorem dJ22_checkFromIndexSize_16 : decode cJ22_checkFromIndexSize 16 = .ok (.iload_n 0, 1) := dk_26 (dk_at dksJ22_checkFromIndexSize_0 16 rfl rfl)
theorem dJ22_checkFromIndexSize_17 : decode cJ22_checkFromIndexSize 17 = .ok (.iload_n 1, 1) := dk_27 (dk_at dksJ22_checkFromIndexSize_0 17 rfl rfl)
theorem dJ22_checkFromIndexSize_18 : decode cJ22_checkFromIndexSize 18 = .ok (.iload_n 2, 1) := dk_28 (dk_at dksJ22_checkFromIndexSize_0 18 rfl rfl)
theorem dJ22_checkFromIndexSize_19 : decode cJ22_checkFromIndexSize 19 = .ok (.invokestatic 103, 3) := dk_184 0 103 (dk_at dksJ22_checkFromIndexSize_0 19 rfl rfl)
theorem dJ22_checkFromIndexSize_22 : decode cJ22_checkFromIndexSize 22 = .ok (.athrow, 1) := dk_191 (dk_at dksJ22_checkFromIndexSize_0 22 rfl rfl)
theorem dJ22_checkFromIndexSize_23 : decode cJ22_checkFromIndexSize 23 = .ok (.iload_n 0, 1) := dk_26 (dk_at dksJ22_checkFromIndexSize_0 23 rfl rfl)
theorem dJ22_checkFromIndexSize_24 : decode cJ22_checkFromIndexSize 24 = .ok (.ireturn, 1) := dk_172 (dk_at dksJ22_checkFromIndexSize_1 0 rfl rfl)
abbrev cJ22_checkIndex : ByteArray := prog_73_method_11_code
def yJ22_checkIndex : MethodName := ⟨RJ22, "checkIndex", "(IILjava/util/function/BiFunction;)I"⟩
def dkwJ22_checkIndex_0 : List UInt8 := [26, 155, 0, 8, 26, 27, 161, 0, 10, 44, 26, 27, 184, 0, 95, 191, 26, 172]
abbrev dktJ22_checkIndex_0 : List UInt8 := dkwJ22_checkIndex_0 ++ []
theorem dksJ22_checkIndex_0 : cJ22_checkIndex.data.toList.drop 0 = dktJ22_checkIndex_0 := by decide +kernel
theorem dJ22_checkIndex_0 : decode cJ22_checkIndex 0 = .ok (.iload_n 0, 1) := dk_26 (dk_at dksJ22_checkIndex_0 0 rfl rfl)
theorem dJ22_checkIndex_1 : decode cJ22_checkIndex 1 = .ok (.ifCond .lt 8, 3) := dk_155 0 8 (dk_at dksJ22_checkIndex_0 1 rfl rfl)
theorem dJ22_checkIndex_4 : decode cJ22_checkIndex 4 = .ok (.iload_n 0, 1) := dk_26 (dk_at dksJ22_checkIndex_0 4 rfl rfl)
theorem dJ22_checkIndex_5 : decode cJ22_checkIndex 5 = .ok (.iload_n 1, 1) := dk_27 (dk_at dksJ22_checkIndex_0 5 rfl rfl)
theorem dJ22_checkIndex_6 : decode cJ22_checkIndex 6 = .ok (.if_icmp .lt 10, 3) := dk_161 0 10 (dk_at dksJ22_checkIndex_0 6 rfl rfl)
theorem dJ22_checkIndex_9 : decode cJ22_checkIndex 9 = .ok (.aload_n 2, 1) := dk_44 (dk_at dksJ22_checkIndex_0 9 rfl rfl)
theorem dJ22_checkIndex_10 : decode cJ22_checkIndex 10 = .ok (.iload_n 0, 1) := dk_26 (dk_at dksJ22_checkIndex_0 10 rfl rfl)
theorem dJ22_checkIndex_11 : decode cJ22_checkIndex 11 = .ok (.iload_n 1, 1) := dk_27 (dk_at dksJ22_checkIndex_0 11 rfl rfl)
theorem dJ22_checkIndex_12 : decode cJ22_checkIndex 12 = .ok (.invokestatic 95, 3) := dk_184 0 95 (dk_at dksJ22_checkIndex_0 12 rfl rfl)
theorem dJ22_checkIndex_15 : decode cJ22_checkIndex 15 = .ok (.athrow, 1) := dk_191 (dk_at dksJ22_checkIndex_0 15 rfl rfl)
theorem dJ22_checkIndex_16 : decode cJ22_checkIndex 16 = .ok (.iload_n 0, 1) := dk_26 (dk_at dksJ22_checkIndex_0 16 rfl rfl)
theorem dJ22_checkIndex_17 : decode cJ22_checkIndex 17 = .ok (.ireturn, 1) := dk_172 (dk_at dksJ22_checkIndex_0 17 rfl rfl)
abbrev cJ22_checkFromToIndex : ByteArray := prog_73_method_12_code
def yJ22_checkFromToIndex : MethodName := ⟨RJ22, "checkFromToIndex", "(IIILjava/util/function/BiFunction;)I"⟩
def dkwJ22_checkFromToIndex_0 : List UInt8 := [26, 155, 0, 13, 26, 27, 163, 0, 8, 27, 28, 164, 0, 11, 45, 26, 27, 28, 184, 0, 99, 191, 26, 172]
abbrev dktJ22_checkFromToIndex_0 : List UInt8 := dkwJ22_checkFromToIndex_0 ++ []
theorem dksJ22_checkFromToIndex_0 : cJ22_checkFromToIndex.data.toList.drop 0 = dktJ22_checkFromToIndex_0 := by decide +kernel
theorem dJ22_checkFromToIndex_0 : decode cJ22_checkFromToIndex 0 = .ok (.iload_n 0, 1) := dk_26 (dk_at dksJ22_checkFromToIndex_0 0 rfl rfl)
theorem dJ22_checkFromToIndex_1 : decode cJ22_checkFromToIndex 1 = .ok (.ifCond .lt 13, 3) := dk_155 0 13 (dk_at dksJ22_checkFromToIndex_0 1 rfl rfl)
theorem dJ22_checkFromToIndex_4 : decode cJ22_checkFromToIndex 4 = .ok (.iload_n 0, 1) := dk_26 (dk_at dksJ22_checkFromToIndex_0 4 rfl rfl)
theorem dJ22_checkFromToIndex_5 : decode cJ22_checkFromToIndex 5 = .ok (.iload_n 1, 1) := dk_27 (dk_at dksJ22_checkFromToIndex_0 5 rfl rfl)
theorem dJ22_checkFromToIndex_6 : decode cJ22_checkFromToIndex 6 = .ok (.if_icmp .gt 8, 3) := dk_163 0 8 (dk_at dksJ22_checkFromToIndex_0 6 rfl rfl)
theorem dJ22_checkFromToIndex_9 : decode cJ22_checkFromToIndex 9 = .ok (.iload_n 1, 1) := dk_27 (dk_at dksJ22_checkFromToIndex_0 9 rfl rfl)
theorem dJ22_checkFromToIndex_10 : decode cJ22_checkFromToIndex 10 = .ok (.iload_n 2, 1) := dk_28 (dk_at dksJ22_checkFromToIndex_0 10 rfl rfl)
theorem dJ22_checkFromToIndex_11 : decode cJ22_checkFromToIndex 11 = .ok (.if_icmp .le 11, 3) := dk_164 0 11 (dk_at dksJ22_checkFromToIndex_0 11 rfl rfl)
theorem dJ22_checkFromToIndex_14 : decode cJ22_checkFromToIndex 14 = .ok (.aload_n 3, 1) := dk_45 (dk_at dksJ22_checkFromToIndex_0 14 rfl rfl)
theorem dJ22_checkFromToIndex_15 : decode cJ22_checkFromToIndex 15 = .ok (.iload_n 0, 1) := dk_26 (dk_at dksJ22_checkFromToIndex_0 15 rfl rfl)
theorem dJ22_checkFromToIndex_16 : decode cJ22_checkFromToIndex 16 = .ok (.iload_n 1, 1) := dk_27 (dk_at dksJ22_checkFromToIndex_0 16 rfl rfl)
theorem dJ22_checkFromToIndex_17 : decode cJ22_checkFromToIndex 17 = .ok (.iload_n 2, 1) := dk_28 (dk_at dksJ22_checkFromToIndex_0 17 rfl rfl)
theorem dJ22_checkFromToIndex_18 : decode cJ22_checkFromToIndex 18 = .ok (.invokestatic 99, 3) := dk_184 0 99 (dk_at dksJ22_checkFromToIndex_0 18 rfl rfl)
theorem dJ22_checkFromToIndex_21 : decode cJ22_checkFromToIndex 21 = .ok (.athrow, 1) := dk_191 (dk_at dksJ22_checkFromToIndex_0 21 rfl rfl)
theorem dJ22_checkFromToIndex_22 : decode cJ22_checkFromToIndex 22 = .ok (.iload_n 0, 1) := dk_26 (dk_at dksJ22_checkFromToIndex_0 22 rfl rfl)
theorem dJ22_checkFromToIndex_23 : decode cJ22_checkFromToIndex 23 = .ok (.ireturn, 1) := dk_172 (dk_at dksJ22_checkFromToIndex_0 23 rfl rfl)
theorem q124 : (Jvm.Cond.initialized "jdk/internal/util/Preconditions") ∈ lw_all := lw_g (lw_at lw_m1 29 rfl) rfl
theorem q641 : (Jvm.Cond.laysStatic "jdk/internal/util/Preconditions" "SIOOBE_FORMATTER" "Ljava/util/function/BiFunction;") ∈ lw_tbl := lw_at lw_m3 66 rfl
theorem q643 : (Jvm.Cond.static ({ cls := "jdk/internal/util/Preconditions", name := "checkFromIndexSize", desc := "(IIILjava/util/function/BiFunction;)I" } : Jvm.MethodName)) ∈ lw_all := lw_g (lw_at lw_m3 68 rfl) rfl
theorem q644 : (Jvm.Cond.code ({ cls := "jdk/internal/util/Preconditions", name := "checkFromIndexSize", desc := "(IIILjava/util/function/BiFunction;)I" } : Jvm.MethodName) prog_73_method_13_code (4 : Nat) (Option.some Jvm.ClassFile.FieldType.int)) ∈ lw_all := lw_g (lw_at lw_m3 69 rfl) rfl
theorem q664 : (Jvm.Cond.static ({ cls := "jdk/internal/util/Preconditions", name := "checkIndex", desc := "(IILjava/util/function/BiFunction;)I" } : Jvm.MethodName)) ∈ lw_all := lw_g (lw_at lw_m3 89 rfl) rfl
theorem q665 : (Jvm.Cond.code ({ cls := "jdk/internal/util/Preconditions", name := "checkIndex", desc := "(IILjava/util/function/BiFunction;)I" } : Jvm.MethodName) prog_73_method_11_code (3 : Nat) (Option.some Jvm.ClassFile.FieldType.int)) ∈ lw_all := lw_g (lw_at lw_m3 90 rfl) rfl
theorem q945 : (Jvm.Cond.static ({ cls := "jdk/internal/util/Preconditions", name := "checkFromToIndex", desc := "(IIILjava/util/function/BiFunction;)I" } : Jvm.MethodName)) ∈ lw_all := lw_g (lw_at lw_m4 130 rfl) rfl
theorem q946 : (Jvm.Cond.code ({ cls := "jdk/internal/util/Preconditions", name := "checkFromToIndex", desc := "(IIILjava/util/function/BiFunction;)I" } : Jvm.MethodName) prog_73_method_12_code (4 : Nat) (Option.some Jvm.ClassFile.FieldType.int)) ∈ lw_all := lw_g (lw_at lw_m4 131 rfl) rfl

/-! java/lang/Throwable -/
set_option maxRecDepth 100000
def RJ23 : String := "java/lang/Throwable"
def TJ23 : u_T := fun k => match k with
  | 0 => ("java/lang/Throwable", "cause", "Ljava/lang/Throwable;", false)
  | 1 => ("java/lang/Throwable", "stackTrace", "[Ljava/lang/StackTraceElement;", false)
  | 2 => ("java/lang/Throwable", "suppressedExceptions", "Ljava/util/List;", false)
  | 3 => ("java/lang/Throwable", "detailMessage", "Ljava/lang/String;", false)
  | _ => ("java/lang/Throwable", "backtrace", "Ljava/lang/Object;", false)
def tyJ23 : Nat → FieldType := fun k => match k with
  | 0 => .object "java/lang/Throwable"
  | 1 => .array (.object "java/lang/StackTraceElement")
  | 2 => .object "java/util/List"
  | 3 => .object "java/lang/String"
  | _ => .object "java/lang/Object"
abbrev wsJ230 : List Cond := u_ws RJ23 TJ23 5
theorem nmJ23 : ∀ a, a < 5 → ∀ b, b < 5 → a ≠ b → (TJ23 a).2.1 ≠ (TJ23 b).2.1 := by decide +kernel
theorem tyJ23_ok : ∀ k, k < 5 → parseFieldDescriptor (TJ23 k).2.2.1 = some (tyJ23 k) := by decide +kernel
abbrev cJ23_init : ByteArray := prog_38_method_1_code
def yJ23_init : MethodName := ⟨RJ23, "<init>", "()V"⟩
def dkwJ23_init_1 : List UInt8 := [182, 0, 27, 87, 177]
abbrev dktJ23_init_1 : List UInt8 := dkwJ23_init_1 ++ []
def dkwJ23_init_0 : List UInt8 := [42, 183, 0, 1, 42, 42, 181, 0, 7, 42, 178, 0, 13, 181, 0, 17, 42, 178, 0, 20, 181, 0, 24, 42]
abbrev dktJ23_init_0 : List UInt8 := dkwJ23_init_0 ++ dktJ23_init_1
theorem dksJ23_init_0 : cJ23_init.data.toList.drop 0 = dktJ23_init_0 := by decide +kernel
theorem dksJ23_init_1 : cJ23_init.data.toList.drop 24 = dktJ23_init_1 := dk_seg dksJ23_init_0 24 rfl rfl
theorem dJ23_init_0 : decode cJ23_init 0 = .ok (.aload_n 0, 1) := dk_42 (dk_at dksJ23_init_0 0 rfl rfl)
theorem dJ23_init_1 : decode cJ23_init 1 = .ok (.invokespecial 1, 3) := dk_183 0 1 (dk_at dksJ23_init_0 1 rfl rfl)
theorem dJ23_init_4 : decode cJ23_init 4 = .ok (.aload_n 0, 1) := dk_42 (dk_at dksJ23_init_0 4 rfl rfl)
theorem dJ23_init_5 : decode cJ23_init 5 = .ok (.aload_n 0, 1) := dk_42 (dk_at dksJ23_init_0 5 rfl rfl)
theorem dJ23_init_6 : decode cJ23_init 6 = .ok (.putfield 7, 3) := dk_181 0 7 (dk_at dksJ23_init_0 6 rfl rfl)
theorem dJ23_init_9 : decode cJ23_init 9 = .ok (.aload_n 0, 1) := dk_42 (dk_at dksJ23_init_0 9 rfl rfl)
theorem dJ23_init_10 : decode cJ23_init 10 = .ok (.getstatic 13, 3) := dk_178 0 13 (dk_at dksJ23_init_0 10 rfl rfl)
theorem dJ23_init_13 : decode cJ23_init 13 = .ok (.putfield 17, 3) := dk_181 0 17 (dk_at dksJ23_init_0 13 rfl rfl)
theorem dJ23_init_16 : decode cJ23_init 16 = .ok (.aload_n 0, 1) := dk_42 (dk_at dksJ23_init_0 16 rfl rfl)
theorem dJ23_init_17 : decode cJ23_init 17 = .ok (.getstatic 20, 3) := dk_178 0 20 (dk_at dksJ23_init_0 17 rfl rfl)
theorem dJ23_init_20 : decode cJ23_init 20 = .ok (.putfield 24, 3) := dk_181 0 24 (dk_at dksJ23_init_0 20 rfl rfl)
theorem dJ23_init_23 : decode cJ23_init 23 = .ok (.aload_n 0, 1) := dk_42 (dk_at dksJ23_init_0 23 rfl rfl)
theorem dJ23_init_24 : decode cJ23_init 24 = .ok (.invokevirtual 27, 3) := dk_182 0 27 (dk_at dksJ23_init_1 0 rfl rfl)
theorem dJ23_init_27 : decode cJ23_init 27 = .ok (.pop, 1) := dk_87 (dk_at dksJ23_init_1 3 rfl rfl)
theorem dJ23_init_28 : decode cJ23_init 28 = .ok (.return_, 1) := dk_177 (dk_at dksJ23_init_1 4 rfl rfl)
abbrev cJ23_init_2 : ByteArray := prog_38_method_5_code
def yJ23_init_2 : MethodName := ⟨RJ23, "<init>", "(Ljava/lang/String;Ljava/lang/Throwable;ZZ)V"⟩
def dkwJ23_init_2_2 : List UInt8 := [44, 181, 0, 7, 29, 154, 0, 8, 42, 1, 181, 0, 24, 177]
abbrev dktJ23_init_2_2 : List UInt8 := dkwJ23_init_2_2 ++ []
def dkwJ23_init_2_1 : List UInt8 := [21, 4, 153, 0, 11, 42, 182, 0, 27, 87, 167, 0, 8, 42, 1, 181, 0, 17, 42, 43, 181, 0, 31, 42]
abbrev dktJ23_init_2_1 : List UInt8 := dkwJ23_init_2_1 ++ dktJ23_init_2_2
def dkwJ23_init_2_0 : List UInt8 := [42, 183, 0, 1, 42, 42, 181, 0, 7, 42, 178, 0, 13, 181, 0, 17, 42, 178, 0, 20, 181, 0, 24]
abbrev dktJ23_init_2_0 : List UInt8 := dkwJ23_init_2_0 ++ dktJ23_init_2_1
theorem dksJ23_init_2_0 : cJ23_init_2.data.toList.drop 0 = dktJ23_init_2_0 := by decide +kernel
theorem dksJ23_init_2_1 : cJ23_init_2.data.toList.drop 23 = dktJ23_init_2_1 := dk_seg dksJ23_init_2_0 23 rfl rfl
theorem dksJ23_init_2_2 : cJ23_init_2.data.toList.drop 47 = dktJ23_init_2_2 := dk_seg dksJ23_init_2_1 24 rfl rfl
theorem dJ23_init_2_0 : decode cJ23_init_2 0 = .ok (.aload_n 0, 1) := dk_42 (dk_at dksJ23_init_2_0 0 rfl rfl)
theorem dJ23_init_2_1 : decode cJ23_init_2 1 = .ok (.invokespecial 1, 3) := dk_183 0 1 (dk_at dksJ23_init_2_0 1 rfl rfl)
theorem dJ23_init_2_4 : decode cJ23_init_2 4 = .ok (.aload_n 0, 1) := dk_42 (dk_at dksJ23_init_2_0 4 rfl rfl)
theorem dJ23_init_2_5 : decode cJ23_init_2 5 = .ok (.aload_n 0, 1) := dk_42 (dk_at dksJ23_init_2_0 5 rfl rfl)
theorem dJ23_init_2_6 : decode cJ23_init_2 6 = .ok (.putfield 7, 3) := dk_181 0 7 (dk_at dksJ23_init_2_0 6 rfl rfl)
theorem dJ23_init_2_9 : decode cJ23_init_2 9 = .ok (.aload_n 0, 1) := dk_42 (dk_at dksJ23_init_2_0 9 rfl rfl)
theorem dJ23_init_2_10 : decode cJ23_init_2 10 = .ok (.getstatic 13, 3) := dk_178 0 13 (dk_at dksJ23_init_2_0 10 rfl rfl)
theorem dJ23_init_2_13 : decode cJ23_init_2 13 = .ok (.putfield 17, 3) := dk_181 0 17 (dk_at dksJ23_init_2_0 13 rfl rfl)
theorem dJ23_init_2_16 : decode cJ23_init_2 16 = .ok (.aload_n 0, 1) := dk_42 (dk_at dksJ23_init_2_0 16 rfl rfl)
theorem dJ23_init_2_17 : decode cJ23_init_2 17 = .ok (.getstatic 20, 3) := dk_178 0 20 (dk_at dksJ23_init_2_0 17 rfl rfl)
theorem dJ23_init_2_20 : decode cJ23_init_2 20 = .ok (.putfield 24, 3) := dk_181 0 24 (dk_at dksJ23_init_2_0 20 rfl rfl)
theorem dJ23_init_2_23 : decode cJ23_init_2 23 = .ok (.iload 4, 2) := dk_21 4 (dk_at dksJ23_init_2_1 0 rfl rfl)
theorem dJ23_init_2_25 : decode cJ23_init_2 25 = .ok (.ifCond .eq 11, 3) := dk_153 0 11 (dk_at dksJ23_init_2_1 2 rfl rfl)
theorem dJ23_init_2_28 : decode cJ23_init_2 28 = .ok (.aload_n 0, 1) := dk_42 (dk_at dksJ23_init_2_1 5 rfl rfl)
theorem dJ23_init_2_29 : decode cJ23_init_2 29 = .ok (.invokevirtual 27, 3) := dk_182 0 27 (dk_at dksJ23_init_2_1 6 rfl rfl)
theorem dJ23_init_2_32 : decode cJ23_init_2 32 = .ok (.pop, 1) := dk_87 (dk_at dksJ23_init_2_1 9 rfl rfl)
theorem dJ23_init_2_33 : decode cJ23_init_2 33 = .ok (.goto 8, 3) := dk_167 0 8 (dk_at dksJ23_init_2_1 10 rfl rfl)
theorem dJ23_init_2_36 : decode cJ23_init_2 36 = .ok (.aload_n 0, 1) := dk_42 (dk_at dksJ23_init_2_1 13 rfl rfl)
theorem dJ23_init_2_37 : decode cJ23_init_2 37 = .ok (.aconst_null, 1) := dk_1 (dk_at dksJ23_init_2_1 14 rfl rfl)
theorem dJ23_init_2_38 : decode cJ23_init_2 38 = .ok (.putfield 17, 3) := dk_181 0 17 (dk_at dksJ23_init_2_1 15 rfl rfl)
theorem dJ23_init_2_41 : decode cJ23_init_2 41 = .ok (.aload_n 0, 1) := dk_42 (dk_at dksJ23_init_2_1 18 rfl rfl)
theorem dJ23_init_2_42 : decode cJ23_init_2 42 = .ok (.aload_n 1, 1) := dk_43 (dk_at dksJ23_init_2_1 19 rfl rfl)
theorem dJ23_init_2_43 : decode cJ23_init_2 43 = .ok (.putfield 31, 3) := dk_181 0 31 (dk_at dksJ23_init_2_1 20 rfl rfl)
theorem dJ23_init_2_46 : decode cJ23_init_2 46 = .ok (.aload_n 0, 1) := dk_42 (dk_at dksJ23_init_2_1 23 rfl rfl)
theorem dJ23_init_2_47 : decode cJ23_init_2 47 = .ok (.aload_n 2, 1) := dk_44 (dk_at dksJ23_init_2_2 0 rfl rfl)
theorem dJ23_init_2_48 : decode cJ23_init_2 48 = .ok (.putfield 7, 3) := dk_181 0 7 (dk_at dksJ23_init_2_2 1 rfl rfl)
theorem dJ23_init_2_51 : decode cJ23_init_2 51 = .ok (.iload_n 3, 1) := dk_29 (dk_at dksJ23_init_2_2 4 rfl rfl)
theorem dJ23_init_2_52 : decode cJ23_init_2 52 = .ok (.ifCond .ne 8, 3) := dk_154 0 8 (dk_at dksJ23_init_2_2 5 rfl rfl)
theorem dJ23_init_2_55 : decode cJ23_init_2 55 = .ok (.aload_n 0, 1) := dk_42 (dk_at dksJ23_init_2_2 8 rfl rfl)
theorem dJ23_init_2_56 : decode cJ23_init_2 56 = .ok (.aconst_null, 1) := dk_1 (dk_at dksJ23_init_2_2 9 rfl rfl)
theorem dJ23_init_2_57 : decode cJ23_init_2 57 = .ok (.putfield 24, 3) := dk_181 0 24 (dk_at dksJ23_init_2_2 10 rfl rfl)
theorem dJ23_init_2_60 : decode cJ23_init_2 60 = .ok (.return_, 1) := dk_177 (dk_at dksJ23_init_2_2 13 rfl rfl)
abbrev cJ23_init_3 : ByteArray := prog_38_method_2_code
def yJ23_init_3 : MethodName := ⟨RJ23, "<init>", "(Ljava/lang/String;)V"⟩
def dkwJ23_init_3_1 : List UInt8 := [182, 0, 27, 87, 42, 43, 181, 0, 31, 177]
abbrev dktJ23_init_3_1 : List UInt8 := dkwJ23_init_3_1 ++ []
def dkwJ23_init_3_0 : List UInt8 := [42, 183, 0, 1, 42, 42, 181, 0, 7, 42, 178, 0, 13, 181, 0, 17, 42, 178, 0, 20, 181, 0, 24, 42]
abbrev dktJ23_init_3_0 : List UInt8 := dkwJ23_init_3_0 ++ dktJ23_init_3_1
theorem dksJ23_init_3_0 : cJ23_init_3.data.toList.drop 0 = dktJ23_init_3_0 := by decide +kernel
theorem dksJ23_init_3_1 : cJ23_init_3.data.toList.drop 24 = dktJ23_init_3_1 := dk_seg dksJ23_init_3_0 24 rfl rfl
theorem dJ23_init_3_0 : decode cJ23_init_3 0 = .ok (.aload_n 0, 1) := dk_42 (dk_at dksJ23_init_3_0 0 rfl rfl)
theorem dJ23_init_3_1 : decode cJ23_init_3 1 = .ok (.invokespecial 1, 3) := dk_183 0 1 (dk_at dksJ23_init_3_0 1 rfl rfl)
theorem dJ23_init_3_4 : decode cJ23_init_3 4 = .ok (.aload_n 0, 1) := dk_42 (dk_at dksJ23_init_3_0 4 rfl rfl)
theorem dJ23_init_3_5 : decode cJ23_init_3 5 = .ok (.aload_n 0, 1) := dk_42 (dk_at dksJ23_init_3_0 5 rfl rfl)
theorem dJ23_init_3_6 : decode cJ23_init_3 6 = .ok (.putfield 7, 3) := dk_181 0 7 (dk_at dksJ23_init_3_0 6 rfl rfl)
theorem dJ23_init_3_9 : decode cJ23_init_3 9 = .ok (.aload_n 0, 1) := dk_42 (dk_at dksJ23_init_3_0 9 rfl rfl)
theorem dJ23_init_3_10 : decode cJ23_init_3 10 = .ok (.getstatic 13, 3) := dk_178 0 13 (dk_at dksJ23_init_3_0 10 rfl rfl)
theorem dJ23_init_3_13 : decode cJ23_init_3 13 = .ok (.putfield 17, 3) := dk_181 0 17 (dk_at dksJ23_init_3_0 13 rfl rfl)
theorem dJ23_init_3_16 : decode cJ23_init_3 16 = .ok (.aload_n 0, 1) := dk_42 (dk_at dksJ23_init_3_0 16 rfl rfl)
theorem dJ23_init_3_17 : decode cJ23_init_3 17 = .ok (.getstatic 20, 3) := dk_178 0 20 (dk_at dksJ23_init_3_0 17 rfl rfl)
theorem dJ23_init_3_20 : decode cJ23_init_3 20 = .ok (.putfield 24, 3) := dk_181 0 24 (dk_at dksJ23_init_3_0 20 rfl rfl)
theorem dJ23_init_3_23 : decode cJ23_init_3 23 = .ok (.aload_n 0, 1) := dk_42 (dk_at dksJ23_init_3_0 23 rfl rfl)
theorem dJ23_init_3_24 : decode cJ23_init_3 24 = .ok (.invokevirtual 27, 3) := dk_182 0 27 (dk_at dksJ23_init_3_1 0 rfl rfl)
theorem dJ23_init_3_27 : decode cJ23_init_3 27 = .ok (.pop, 1) := dk_87 (dk_at dksJ23_init_3_1 3 rfl rfl)
theorem dJ23_init_3_28 : decode cJ23_init_3 28 = .ok (.aload_n 0, 1) := dk_42 (dk_at dksJ23_init_3_1 4 rfl rfl)
theorem dJ23_init_3_29 : decode cJ23_init_3 29 = .ok (.aload_n 1, 1) := dk_43 (dk_at dksJ23_init_3_1 5 rfl rfl)
theorem dJ23_init_3_30 : decode cJ23_init_3 30 = .ok (.putfield 31, 3) := dk_181 0 31 (dk_at dksJ23_init_3_1 6 rfl rfl)
theorem dJ23_init_3_33 : decode cJ23_init_3 33 = .ok (.return_, 1) := dk_177 (dk_at dksJ23_init_3_1 9 rfl rfl)
abbrev cJ23_init_4 : ByteArray := prog_38_method_4_code
def yJ23_init_4 : MethodName := ⟨RJ23, "<init>", "(Ljava/lang/Throwable;)V"⟩
def dkwJ23_init_4_2 : List UInt8 := [181, 0, 7, 177]
abbrev dktJ23_init_4_2 : List UInt8 := dkwJ23_init_4_2 ++ []
def dkwJ23_init_4_1 : List UInt8 := [182, 0, 27, 87, 42, 43, 199, 0, 7, 1, 167, 0, 7, 43, 182, 0, 35, 181, 0, 31, 42, 43]
abbrev dktJ23_init_4_1 : List UInt8 := dkwJ23_init_4_1 ++ dktJ23_init_4_2
def dkwJ23_init_4_0 : List UInt8 := [42, 183, 0, 1, 42, 42, 181, 0, 7, 42, 178, 0, 13, 181, 0, 17, 42, 178, 0, 20, 181, 0, 24, 42]
abbrev dktJ23_init_4_0 : List UInt8 := dkwJ23_init_4_0 ++ dktJ23_init_4_1
theorem dksJ23_init_4_0 : cJ23_init_4.data.toList.drop 0 = dktJ23_init_4_0 := by decide +kernel
theorem dksJ23_init_4_1 : cJ23_init_4.data.toList.drop 24 = dktJ23_init_4_1 := dk_seg dksJ23_init_4_0 24 rfl rfl
theorem dksJ23_init_4_2 : cJ23_init_4.data.toList.drop 46 = dktJ23_init_4_2 := dk_seg dksJ23_init_4_1 22 rfl rfl
theorem dJ23_init_4_0 : decode cJ23_init_4 0 = .ok (.aload_n 0, 1) := dk_42 (dk_at dksJ23_init_4_0 0 rfl rfl)
theorem dJ23_init_4_1 : decode cJ23_init_4 1 = .ok (.invokespecial 1, 3) := dk_183 0 1 (dk_at dksJ23_init_4_0 1 rfl rfl)
theorem dJ23_init_4_4 : decode cJ23_init_4 4 = .ok (.aload_n 0, 1) := dk_42 (dk_at dksJ23_init_4_0 4 rfl rfl)
theorem dJ23_init_4_5 : decode cJ23_init_4 5 = .ok (.aload_n 0, 1) := dk_42 (dk_at dksJ23_init_4_0 5 rfl rfl)
theorem dJ23_init_4_6 : decode cJ23_init_4 6 = .ok (.putfield 7, 3) := dk_181 0 7 (dk_at dksJ23_init_4_0 6 rfl rfl)
theorem dJ23_init_4_9 : decode cJ23_init_4 9 = .ok (.aload_n 0, 1) := dk_42 (dk_at dksJ23_init_4_0 9 rfl rfl)
theorem dJ23_init_4_10 : decode cJ23_init_4 10 = .ok (.getstatic 13, 3) := dk_178 0 13 (dk_at dksJ23_init_4_0 10 rfl rfl)
theorem dJ23_init_4_13 : decode cJ23_init_4 13 = .ok (.putfield 17, 3) := dk_181 0 17 (dk_at dksJ23_init_4_0 13 rfl rfl)
theorem dJ23_init_4_16 : decode cJ23_init_4 16 = .ok (.aload_n 0, 1) := dk_42 (dk_at dksJ23_init_4_0 16 rfl rfl)
theorem dJ23_init_4_17 : decode cJ23_init_4 17 = .ok (.getstatic 20, 3) := dk_178 0 20 (dk_at dksJ23_init_4_0 17 rfl rfl)
theorem dJ23_init_4_20 : decode cJ23_init_4 20 = .ok (.putfield 24, 3) := dk_181 0 24 (dk_at dksJ23_init_4_0 20 rfl rfl)
theorem dJ23_init_4_23 : decode cJ23_init_4 23 = .ok (.aload_n 0, 1) := dk_42 (dk_at dksJ23_init_4_0 23 rfl rfl)
theorem dJ23_init_4_24 : decode cJ23_init_4 24 = .ok (.invokevirtual 27, 3) := dk_182 0 27 (dk_at dksJ23_init_4_1 0 rfl rfl)
theorem dJ23_init_4_27 : decode cJ23_init_4 27 = .ok (.pop, 1) := dk_87 (dk_at dksJ23_init_4_1 3 rfl rfl)
theorem dJ23_init_4_28 : decode cJ23_init_4 28 = .ok (.aload_n 0, 1) := dk_42 (dk_at dksJ23_init_4_1 4 rfl rfl)
theorem dJ23_init_4_29 : decode cJ23_init_4 29 = .ok (.aload_n 1, 1) := dk_43 (dk_at dksJ23_init_4_1 5 rfl rfl)
theorem dJ23_init_4_30 : decode cJ23_init_4 30 = .ok (.ifnonnull 7, 3) := dk_199 0 7 (dk_at dksJ23_init_4_1 6 rfl rfl)
theorem dJ23_init_4_33 : decode cJ23_init_4 33 = .ok (.aconst_null, 1) := dk_1 (dk_at dksJ23_init_4_1 9 rfl rfl)
theorem dJ23_init_4_34 : decode cJ23_init_4 34 = .ok (.goto 7, 3) := dk_167 0 7 (dk_at dksJ23_init_4_1 10 rfl rfl)
theorem dJ23_init_4_37 : decode cJ23_init_4 37 = .ok (.aload_n 1, 1) := dk_43 (dk_at dksJ23_init_4_1 13 rfl rfl)
theorem dJ23_init_4_38 : decode cJ23_init_4 38 = .ok (.invokevirtual 35, 3) := dk_182 0 35 (dk_at dksJ23_init_4_1 14 rfl rfl)
theorem dJ23_init_4_41 : decode cJ23_init_4 41 = .ok (.putfield 31, 3) := dk_181 0 31 (dk_at dksJ23_init_4_1 17 rfl rfl)
theorem dJ23_init_4_44 : decode cJ23_init_4 44 = .ok (.aload_n 0, 1) := dk_42 (dk_at dksJ23_init_4_1 20 rfl rfl)
theorem dJ23_init_4_45 : decode cJ23_init_4 45 = .ok (.aload_n 1, 1) := dk_43 (dk_at dksJ23_init_4_1 21 rfl rfl)
theorem dJ23_init_4_46 : decode cJ23_init_4 46 = .ok (.putfield 7, 3) := dk_181 0 7 (dk_at dksJ23_init_4_2 0 rfl rfl)
theorem dJ23_init_4_49 : decode cJ23_init_4 49 = .ok (.return_, 1) := dk_177 (dk_at dksJ23_init_4_2 3 rfl rfl)
abbrev cJ23_toString : ByteArray := prog_38_method_11_code
def yJ23_toString : MethodName := ⟨RJ23, "toString", "()Ljava/lang/String;"⟩
def dkwJ23_toString_1 : List UInt8 := [43, 182, 0, 49, 18, 81, 182, 0, 49, 44, 182, 0, 49, 182, 0, 60, 167, 0, 4, 43, 176]
abbrev dktJ23_toString_1 : List UInt8 := dkwJ23_toString_1 ++ []
def dkwJ23_toString_0 : List UInt8 := [42, 182, 0, 69, 182, 0, 73, 76, 42, 182, 0, 78, 77, 44, 198, 0, 29, 187, 0, 44, 89, 183, 0, 46]
abbrev dktJ23_toString_0 : List UInt8 := dkwJ23_toString_0 ++ dktJ23_toString_1
theorem dksJ23_toString_0 : cJ23_toString.data.toList.drop 0 = dktJ23_toString_0 := by decide +kernel
theorem dksJ23_toString_1 : cJ23_toString.data.toList.drop 24 = dktJ23_toString_1 := dk_seg dksJ23_toString_0 24 rfl rfl
theorem dJ23_toString_0 : decode cJ23_toString 0 = .ok (.aload_n 0, 1) := dk_42 (dk_at dksJ23_toString_0 0 rfl rfl)
theorem dJ23_toString_1 : decode cJ23_toString 1 = .ok (.invokevirtual 69, 3) := dk_182 0 69 (dk_at dksJ23_toString_0 1 rfl rfl)
theorem dJ23_toString_4 : decode cJ23_toString 4 = .ok (.invokevirtual 73, 3) := dk_182 0 73 (dk_at dksJ23_toString_0 4 rfl rfl)
theorem dJ23_toString_7 : decode cJ23_toString 7 = .ok (.astore_n 1, 1) := dk_76 (dk_at dksJ23_toString_0 7 rfl rfl)
theorem dJ23_toString_8 : decode cJ23_toString 8 = .ok (.aload_n 0, 1) := dk_42 (dk_at dksJ23_toString_0 8 rfl rfl)
theorem dJ23_toString_9 : decode cJ23_toString 9 = .ok (.invokevirtual 78, 3) := dk_182 0 78 (dk_at dksJ23_toString_0 9 rfl rfl)
theorem dJ23_toString_12 : decode cJ23_toString 12 = .ok (.astore_n 2, 1) := dk_77 (dk_at dksJ23_toString_0 12 rfl rfl)
theorem dJ23_toString_13 : decode cJ23_toString 13 = .ok (.aload_n 2, 1) := dk_44 (dk_at dksJ23_toString_0 13 rfl rfl)
theorem dJ23_toString_14 : decode cJ23_toString 14 = .ok (.ifnull 29, 3) := dk_198 0 29 (dk_at dksJ23_toString_0 14 rfl rfl)
theorem dJ23_toString_17 : decode cJ23_toString 17 = .ok (.new 44, 3) := dk_187 0 44 (dk_at dksJ23_toString_0 17 rfl rfl)
theorem dJ23_toString_20 : decode cJ23_toString 20 = .ok (.dup, 1) := dk_89 (dk_at dksJ23_toString_0 20 rfl rfl)
theorem dJ23_toString_21 : decode cJ23_toString 21 = .ok (.invokespecial 46, 3) := dk_183 0 46 (dk_at dksJ23_toString_0 21 rfl rfl)
theorem dJ23_toString_24 : decode cJ23_toString 24 = .ok (.aload_n 1, 1) := dk_43 (dk_at dksJ23_toString_1 0 rfl rfl)
theorem dJ23_toString_25 : decode cJ23_toString 25 = .ok (.invokevirtual 49, 3) := dk_182 0 49 (dk_at dksJ23_toString_1 1 rfl rfl)
theorem dJ23_toString_28 : decode cJ23_toString 28 = .ok (.ldc 81, 2) := dk_18 81 (dk_at dksJ23_toString_1 4 rfl rfl)
theorem dJ23_toString_30 : decode cJ23_toString 30 = .ok (.invokevirtual 49, 3) := dk_182 0 49 (dk_at dksJ23_toString_1 6 rfl rfl)
theorem dJ23_toString_33 : decode cJ23_toString 33 = .ok (.aload_n 2, 1) := dk_44 (dk_at dksJ23_toString_1 9 rfl rfl)
theorem dJ23_toString_34 : decode cJ23_toString 34 = .ok (.invokevirtual 49, 3) := dk_182 0 49 (dk_at dksJ23_toString_1 10 rfl rfl)
theorem dJ23_toString_37 : decode cJ23_toString 37 = .ok (.invokevirtual 60, 3) := dk_182 0 60 (dk_at dksJ23_toString_1 13 rfl rfl)
theorem dJ23_toString_40 : decode cJ23_toString 40 = .ok (.goto 4, 3) := dk_167 0 4 (dk_at dksJ23_toString_1 16 rfl rfl)
theorem dJ23_toString_43 : decode cJ23_toString 43 = .ok (.aload_n 1, 1) := dk_43 (dk_at dksJ23_toString_1 19 rfl rfl)
theorem dJ23_toString_44 : decode cJ23_toString 44 = .ok (.areturn, 1) := dk_176 (dk_at dksJ23_toString_1 20 rfl rfl)
abbrev cJ23_getLocalizedMessage : ByteArray := prog_38_method_7_code
def yJ23_getLocalizedMessage : MethodName := ⟨RJ23, "getLocalizedMessage", "()Ljava/lang/String;"⟩
theorem dJ23_getLocalizedMessage_0 : decode cJ23_getLocalizedMessage 0 = .ok (.aload_n 0, 1) := by decide +kernel
theorem dJ23_getLocalizedMessage_1 : decode cJ23_getLocalizedMessage 1 = .ok (.invokevirtual 39, 3) := by decide +kernel
theorem dJ23_getLocalizedMessage_4 : decode cJ23_getLocalizedMessage 4 = .ok (.areturn, 1) := by decide +kernel
abbrev cJ23_getMessage : ByteArray := prog_38_method_6_code
def yJ23_getMessage : MethodName := ⟨RJ23, "getMessage", "()Ljava/lang/String;"⟩
theorem dJ23_getMessage_0 : decode cJ23_getMessage 0 = .ok (.aload_n 0, 1) := by decide +kernel
theorem dJ23_getMessage_1 : decode cJ23_getMessage 1 = .ok (.getfield 31, 3) := by decide +kernel
theorem dJ23_getMessage_4 : decode cJ23_getMessage 4 = .ok (.areturn, 1) := by decide +kernel
theorem q125 : (Jvm.Cond.initialized "java/lang/Throwable") ∈ lw_all := lw_g (lw_at lw_m1 30 rfl) rfl
theorem q777 : (Jvm.Cond.declares ({ cls := "java/lang/Throwable", name := "<init>", desc := "()V" } : Jvm.MethodName)) ∈ lw_tbl := lw_at lw_m3 202 rfl
theorem q778 : (Jvm.Cond.declares ({ cls := "java/lang/Throwable", name := "<init>", desc := "(Ljava/lang/String;)V" } : Jvm.MethodName)) ∈ lw_tbl := lw_at lw_m3 203 rfl
theorem q782 : (Jvm.Cond.lays "java/lang/Throwable" "java/lang/Throwable" "cause" "Ljava/lang/Throwable;") ∈ lw_all := lw_g (lw_at lw_m3 207 rfl) rfl
theorem q784 : (Jvm.Cond.lays "java/lang/Throwable" "java/lang/Throwable" "stackTrace" "[Ljava/lang/StackTraceElement;") ∈ lw_all := lw_g (lw_at lw_m3 209 rfl) rfl
theorem q786 : (Jvm.Cond.lays "java/lang/Throwable" "java/lang/Throwable" "suppressedExceptions" "Ljava/util/List;") ∈ lw_all := lw_g (lw_at lw_m3 211 rfl) rfl
theorem q788 : (Jvm.Cond.lays "java/lang/Throwable" "java/lang/Throwable" "detailMessage" "Ljava/lang/String;") ∈ lw_all := lw_g (lw_at lw_m3 213 rfl) rfl
theorem q790 : (Jvm.Cond.lays "java/lang/Throwable" "java/lang/Throwable" "backtrace" "Ljava/lang/Object;") ∈ lw_all := lw_g (lw_at lw_m3 215 rfl) rfl
theorem q791 : (Jvm.Cond.fieldLink "java/lang/Throwable" (198 : Nat) "java/lang/Throwable" "backtrace" "Ljava/lang/Object;") ∈ lw_all := lw_g (lw_at lw_m3 216 rfl) rfl
theorem q792 : (Jvm.Cond.superclass "java/lang/Throwable" "java/lang/Object") ∈ lw_all := lw_g (lw_at lw_m3 217 rfl) rfl
theorem q793 : (Jvm.Cond.instanceMethod ({ cls := "java/lang/Throwable", name := "<init>", desc := "()V" } : Jvm.MethodName)) ∈ lw_all := lw_g (lw_at lw_m3 218 rfl) rfl
theorem q794 : (Jvm.Cond.code ({ cls := "java/lang/Throwable", name := "<init>", desc := "()V" } : Jvm.MethodName) prog_38_method_1_code (1 : Nat) (Option.none : Option Jvm.ClassFile.FieldType)) ∈ lw_all := lw_g (lw_at lw_m3 219 rfl) rfl
theorem q795 : (Jvm.Cond.methodLink "java/lang/Throwable" (1 : Nat) ({ cls := "java/lang/Object", name := "<init>", desc := "()V" } : Jvm.MethodName)) ∈ lw_all := lw_g (lw_at lw_m3 220 rfl) rfl
theorem q796 : (Jvm.Cond.fieldLink "java/lang/Throwable" (13 : Nat) "java/lang/Throwable" "UNASSIGNED_STACK" "[Ljava/lang/StackTraceElement;") ∈ lw_all := lw_g (lw_at lw_m3 221 rfl) rfl
theorem q797 : (Jvm.Cond.laysStatic "java/lang/Throwable" "UNASSIGNED_STACK" "[Ljava/lang/StackTraceElement;") ∈ lw_tbl := lw_at lw_m3 222 rfl
theorem q798 : (Jvm.Cond.fieldLink "java/lang/Throwable" (20 : Nat) "java/lang/Throwable" "SUPPRESSED_SENTINEL" "Ljava/util/List;") ∈ lw_all := lw_g (lw_at lw_m3 223 rfl) rfl
theorem q799 : (Jvm.Cond.laysStatic "java/lang/Throwable" "SUPPRESSED_SENTINEL" "Ljava/util/List;") ∈ lw_tbl := lw_at lw_m3 224 rfl
theorem q800 : (Jvm.Cond.methodLink "java/lang/Throwable" (27 : Nat) ({ cls := "java/lang/Throwable", name := "fillInStackTrace", desc := "()Ljava/lang/Throwable;" } : Jvm.MethodName)) ∈ lw_all := lw_g (lw_at lw_m3 225 rfl) rfl
theorem q801 : (Jvm.Cond.instanceMethod ({ cls := "java/lang/Throwable", name := "fillInStackTrace", desc := "()Ljava/lang/Throwable;" } : Jvm.MethodName)) ∈ lw_all := lw_g (lw_at lw_m3 226 rfl) rfl
theorem q802 : (Jvm.Cond.sameMethod "java/lang/Throwable" "java/lang/Throwable" "fillInStackTrace" "()Ljava/lang/Throwable;") ∈ lw_all := lw_g (lw_at lw_m3 227 rfl) rfl
theorem q808 : (Jvm.Cond.codeSync ({ cls := "java/lang/Throwable", name := "fillInStackTrace", desc := "()Ljava/lang/Throwable;" } : Jvm.MethodName) prog_38_method_18_code (1 : Nat) (Option.some (Jvm.ClassFile.FieldType.object "java/lang/Throwable"))) ∈ lw_all := lw_g (lw_at lw_m3 233 rfl) rfl
theorem q809 : (Jvm.Cond.methodLink "java/lang/Throwable" (202 : Nat) ({ cls := "java/lang/Throwable", name := "fillInStackTrace", desc := "(I)Ljava/lang/Throwable;" } : Jvm.MethodName)) ∈ lw_all := lw_g (lw_at lw_m3 234 rfl) rfl
theorem q810 : (Jvm.Cond.privateMethod ({ cls := "java/lang/Throwable", name := "fillInStackTrace", desc := "(I)Ljava/lang/Throwable;" } : Jvm.MethodName)) ∈ lw_tbl := lw_at lw_m3 235 rfl
theorem q811 : (Jvm.Cond.instanceMethod ({ cls := "java/lang/Throwable", name := "fillInStackTrace", desc := "(I)Ljava/lang/Throwable;" } : Jvm.MethodName)) ∈ lw_all := lw_g (lw_at lw_m3 236 rfl) rfl
theorem q812 : (Jvm.Cond.instantiable "java/lang/Throwable" (6 : Nat)) ∈ lw_all := lw_g (lw_at lw_m3 237 rfl) rfl
theorem q813 : (Jvm.Cond.native ({ cls := "java/lang/Throwable", name := "fillInStackTrace", desc := "(I)Ljava/lang/Throwable;" } : Jvm.MethodName)) ∈ lw_all := lw_g (lw_at lw_m3 238 rfl) rfl
theorem q821 : (Jvm.Cond.instanceMethod ({ cls := "java/lang/Throwable", name := "<init>", desc := "(Ljava/lang/String;Ljava/lang/Throwable;ZZ)V" } : Jvm.MethodName)) ∈ lw_all := lw_g (lw_at lw_m4 6 rfl) rfl
theorem q822 : (Jvm.Cond.code ({ cls := "java/lang/Throwable", name := "<init>", desc := "(Ljava/lang/String;Ljava/lang/Throwable;ZZ)V" } : Jvm.MethodName) prog_38_method_5_code (5 : Nat) (Option.none : Option Jvm.ClassFile.FieldType)) ∈ lw_all := lw_g (lw_at lw_m4 7 rfl) rfl
theorem q827 : (Jvm.Cond.fieldLink "java/lang/Throwable" (198 : Nat) "java/lang/Throwable" "backtrace" "Ljava/lang/Object;") ∈ lw_all := lw_g (lw_at lw_m4 12 rfl) rfl
theorem q828 : (Jvm.Cond.fieldLink "java/lang/Throwable" (31 : Nat) "java/lang/Throwable" "detailMessage" "Ljava/lang/String;") ∈ lw_all := lw_g (lw_at lw_m4 13 rfl) rfl
theorem q829 : (Jvm.Cond.fieldLink "java/lang/Throwable" (7 : Nat) "java/lang/Throwable" "cause" "Ljava/lang/Throwable;") ∈ lw_all := lw_g (lw_at lw_m4 14 rfl) rfl
theorem q830 : (Jvm.Cond.fieldLink "java/lang/Throwable" (17 : Nat) "java/lang/Throwable" "stackTrace" "[Ljava/lang/StackTraceElement;") ∈ lw_all := lw_g (lw_at lw_m4 15 rfl) rfl
theorem q831 : (Jvm.Cond.fieldLink "java/lang/Throwable" (24 : Nat) "java/lang/Throwable" "suppressedExceptions" "Ljava/util/List;") ∈ lw_all := lw_g (lw_at lw_m4 16 rfl) rfl
theorem q836 : (Jvm.Cond.soleField "java/lang/Throwable" "backtrace") ∈ lw_all := lw_g (lw_at lw_m4 21 rfl) rfl
theorem q837 : (Jvm.Cond.soleField "java/lang/Throwable" "detailMessage") ∈ lw_all := lw_g (lw_at lw_m4 22 rfl) rfl
theorem q838 : (Jvm.Cond.soleField "java/lang/Throwable" "cause") ∈ lw_all := lw_g (lw_at lw_m4 23 rfl) rfl
theorem q839 : (Jvm.Cond.soleField "java/lang/Throwable" "stackTrace") ∈ lw_all := lw_g (lw_at lw_m4 24 rfl) rfl
theorem q841 : (Jvm.Cond.soleField "java/lang/Throwable" "depth") ∈ lw_all := lw_g (lw_at lw_m4 26 rfl) rfl
theorem q842 : (Jvm.Cond.soleField "java/lang/Throwable" "suppressedExceptions") ∈ lw_all := lw_g (lw_at lw_m4 27 rfl) rfl
theorem q1012 : (Jvm.Cond.instanceMethod ({ cls := "java/lang/Throwable", name := "<init>", desc := "(Ljava/lang/String;)V" } : Jvm.MethodName)) ∈ lw_all := lw_g (lw_at lw_m4 197 rfl) rfl
theorem q1013 : (Jvm.Cond.code ({ cls := "java/lang/Throwable", name := "<init>", desc := "(Ljava/lang/String;)V" } : Jvm.MethodName) prog_38_method_2_code (2 : Nat) (Option.none : Option Jvm.ClassFile.FieldType)) ∈ lw_all := lw_g (lw_at lw_m4 198 rfl) rfl
theorem q1674 : (Jvm.Cond.instanceMethod ({ cls := "java/lang/Throwable", name := "<init>", desc := "(Ljava/lang/Throwable;)V" } : Jvm.MethodName)) ∈ lw_all := lw_g (lw_at lw_m7 139 rfl) rfl
theorem q1675 : (Jvm.Cond.code ({ cls := "java/lang/Throwable", name := "<init>", desc := "(Ljava/lang/Throwable;)V" } : Jvm.MethodName) prog_38_method_4_code (2 : Nat) (Option.none : Option Jvm.ClassFile.FieldType)) ∈ lw_all := lw_g (lw_at lw_m7 140 rfl) rfl
theorem q1676 : (Jvm.Cond.methodLink "java/lang/Throwable" (35 : Nat) ({ cls := "java/lang/Throwable", name := "toString", desc := "()Ljava/lang/String;" } : Jvm.MethodName)) ∈ lw_all := lw_g (lw_at lw_m7 141 rfl) rfl
theorem q1677 : (Jvm.Cond.instanceMethod ({ cls := "java/lang/Throwable", name := "toString", desc := "()Ljava/lang/String;" } : Jvm.MethodName)) ∈ lw_all := lw_g (lw_at lw_m7 142 rfl) rfl
theorem q1678 : (Jvm.Cond.sameMethod "java/lang/Throwable" "java/lang/Throwable" "toString" "()Ljava/lang/String;") ∈ lw_all := lw_g (lw_at lw_m7 143 rfl) rfl
theorem q1685 : (Jvm.Cond.code ({ cls := "java/lang/Throwable", name := "toString", desc := "()Ljava/lang/String;" } : Jvm.MethodName) prog_38_method_11_code (3 : Nat) (Option.some (Jvm.ClassFile.FieldType.object "java/lang/String"))) ∈ lw_all := lw_g (lw_at lw_m7 150 rfl) rfl
theorem q1686 : (Jvm.Cond.methodLink "java/lang/Throwable" (69 : Nat) ({ cls := "java/lang/Object", name := "getClass", desc := "()Ljava/lang/Class;" } : Jvm.MethodName)) ∈ lw_all := lw_g (lw_at lw_m7 151 rfl) rfl
theorem q1687 : (Jvm.Cond.methodLink "java/lang/Throwable" (78 : Nat) ({ cls := "java/lang/Throwable", name := "getLocalizedMessage", desc := "()Ljava/lang/String;" } : Jvm.MethodName)) ∈ lw_all := lw_g (lw_at lw_m7 152 rfl) rfl
theorem q1688 : (Jvm.Cond.instanceMethod ({ cls := "java/lang/Throwable", name := "getLocalizedMessage", desc := "()Ljava/lang/String;" } : Jvm.MethodName)) ∈ lw_all := lw_g (lw_at lw_m7 153 rfl) rfl
theorem q1689 : (Jvm.Cond.sameMethod "java/lang/Throwable" "java/lang/Throwable" "getLocalizedMessage" "()Ljava/lang/String;") ∈ lw_all := lw_g (lw_at lw_m7 154 rfl) rfl
theorem q1696 : (Jvm.Cond.code ({ cls := "java/lang/Throwable", name := "getLocalizedMessage", desc := "()Ljava/lang/String;" } : Jvm.MethodName) prog_38_method_7_code (1 : Nat) (Option.some (Jvm.ClassFile.FieldType.object "java/lang/String"))) ∈ lw_all := lw_g (lw_at lw_m7 161 rfl) rfl
theorem q1697 : (Jvm.Cond.methodLink "java/lang/Throwable" (39 : Nat) ({ cls := "java/lang/Throwable", name := "getMessage", desc := "()Ljava/lang/String;" } : Jvm.MethodName)) ∈ lw_all := lw_g (lw_at lw_m7 162 rfl) rfl
theorem q1698 : (Jvm.Cond.instanceMethod ({ cls := "java/lang/Throwable", name := "getMessage", desc := "()Ljava/lang/String;" } : Jvm.MethodName)) ∈ lw_all := lw_g (lw_at lw_m7 163 rfl) rfl
theorem q1699 : (Jvm.Cond.sameMethod "java/lang/Throwable" "java/lang/Throwable" "getMessage" "()Ljava/lang/String;") ∈ lw_all := lw_g (lw_at lw_m7 164 rfl) rfl
theorem q1706 : (Jvm.Cond.code ({ cls := "java/lang/Throwable", name := "getMessage", desc := "()Ljava/lang/String;" } : Jvm.MethodName) prog_38_method_6_code (1 : Nat) (Option.some (Jvm.ClassFile.FieldType.object "java/lang/String"))) ∈ lw_all := lw_g (lw_at lw_m7 171 rfl) rfl
theorem q1707 : (Jvm.Cond.classLink "java/lang/Throwable" (44 : Nat) "java/lang/StringBuilder") ∈ lw_all := lw_g (lw_at lw_m7 172 rfl) rfl
theorem q1708 : (Jvm.Cond.methodLink "java/lang/Throwable" (46 : Nat) ({ cls := "java/lang/StringBuilder", name := "<init>", desc := "()V" } : Jvm.MethodName)) ∈ lw_all := lw_g (lw_at lw_m7 173 rfl) rfl
theorem q1709 : (Jvm.Cond.methodLink "java/lang/Throwable" (49 : Nat) ({ cls := "java/lang/StringBuilder", name := "append", desc := "(Ljava/lang/String;)Ljava/lang/StringBuilder;" } : Jvm.MethodName)) ∈ lw_all := lw_g (lw_at lw_m7 174 rfl) rfl
theorem q1710 : (Jvm.Cond.stringRef "java/lang/Throwable" (81 : Nat) ": ") ∈ lw_tbl := lw_at lw_m7 175 rfl
theorem q1711 : (Jvm.Cond.methodLink "java/lang/Throwable" (60 : Nat) ({ cls := "java/lang/StringBuilder", name := "toString", desc := "()Ljava/lang/String;" } : Jvm.MethodName)) ∈ lw_all := lw_g (lw_at lw_m7 176 rfl) rfl
theorem q2686 : (Jvm.Cond.sameMethod "java/lang/Throwable" "java/lang/Throwable" "fillInStackTrace" "(I)Ljava/lang/Throwable;") ∈ lw_all := lw_g (lw_at lw_m11 191 rfl) rfl
theorem q2730 : (Jvm.Cond.castable "java/lang/Throwable" "java/lang/Object") ∈ lw_tbl := lw_at lw_m11 235 rfl
theorem in_J23 : ∀ w ∈ wsJ230, w ∈ lw_all := lw_in wsJ230 [782, 784, 786, 788, 790] (by decide +kernel) (by decide +kernel)

/-! java/lang/Exception -/
set_option maxRecDepth 100000
def RJ24 : String := "java/lang/Exception"
abbrev cJ24_init : ByteArray := prog_24_method_5_code
def yJ24_init : MethodName := ⟨RJ24, "<init>", "(Ljava/lang/String;Ljava/lang/Throwable;ZZ)V"⟩
def dkwJ24_init_0 : List UInt8 := [42, 43, 44, 29, 21, 4, 183, 0, 16, 177]
abbrev dktJ24_init_0 : List UInt8 := dkwJ24_init_0 ++ []
theorem dksJ24_init_0 : cJ24_init.data.toList.drop 0 = dktJ24_init_0 := by decide +kernel
theorem dJ24_init_0 : decode cJ24_init 0 = .ok (.aload_n 0, 1) := dk_42 (dk_at dksJ24_init_0 0 rfl rfl)
theorem dJ24_init_1 : decode cJ24_init 1 = .ok (.aload_n 1, 1) := dk_43 (dk_at dksJ24_init_0 1 rfl rfl)
theorem dJ24_init_2 : decode cJ24_init 2 = .ok (.aload_n 2, 1) := dk_44 (dk_at dksJ24_init_0 2 rfl rfl)
theorem dJ24_init_3 : decode cJ24_init 3 = .ok (.iload_n 3, 1) := dk_29 (dk_at dksJ24_init_0 3 rfl rfl)
theorem dJ24_init_4 : decode cJ24_init 4 = .ok (.iload 4, 2) := dk_21 4 (dk_at dksJ24_init_0 4 rfl rfl)
theorem dJ24_init_6 : decode cJ24_init 6 = .ok (.invokespecial 16, 3) := dk_183 0 16 (dk_at dksJ24_init_0 6 rfl rfl)
theorem dJ24_init_9 : decode cJ24_init 9 = .ok (.return_, 1) := dk_177 (dk_at dksJ24_init_0 9 rfl rfl)
abbrev cJ24_init_2 : ByteArray := prog_24_method_2_code
def yJ24_init_2 : MethodName := ⟨RJ24, "<init>", "(Ljava/lang/String;)V"⟩
def dkwJ24_init_2_0 : List UInt8 := [42, 43, 183, 0, 7, 177]
abbrev dktJ24_init_2_0 : List UInt8 := dkwJ24_init_2_0 ++ []
theorem dksJ24_init_2_0 : cJ24_init_2.data.toList.drop 0 = dktJ24_init_2_0 := by decide +kernel
theorem dJ24_init_2_0 : decode cJ24_init_2 0 = .ok (.aload_n 0, 1) := dk_42 (dk_at dksJ24_init_2_0 0 rfl rfl)
theorem dJ24_init_2_1 : decode cJ24_init_2 1 = .ok (.aload_n 1, 1) := dk_43 (dk_at dksJ24_init_2_0 1 rfl rfl)
theorem dJ24_init_2_2 : decode cJ24_init_2 2 = .ok (.invokespecial 7, 3) := dk_183 0 7 (dk_at dksJ24_init_2_0 2 rfl rfl)
theorem dJ24_init_2_5 : decode cJ24_init_2 5 = .ok (.return_, 1) := dk_177 (dk_at dksJ24_init_2_0 5 rfl rfl)
abbrev cJ24_init_3 : ByteArray := prog_24_method_4_code
def yJ24_init_3 : MethodName := ⟨RJ24, "<init>", "(Ljava/lang/Throwable;)V"⟩
def dkwJ24_init_3_0 : List UInt8 := [42, 43, 183, 0, 13, 177]
abbrev dktJ24_init_3_0 : List UInt8 := dkwJ24_init_3_0 ++ []
theorem dksJ24_init_3_0 : cJ24_init_3.data.toList.drop 0 = dktJ24_init_3_0 := by decide +kernel
theorem dJ24_init_3_0 : decode cJ24_init_3 0 = .ok (.aload_n 0, 1) := dk_42 (dk_at dksJ24_init_3_0 0 rfl rfl)
theorem dJ24_init_3_1 : decode cJ24_init_3 1 = .ok (.aload_n 1, 1) := dk_43 (dk_at dksJ24_init_3_0 1 rfl rfl)
theorem dJ24_init_3_2 : decode cJ24_init_3 2 = .ok (.invokespecial 13, 3) := dk_183 0 13 (dk_at dksJ24_init_3_0 2 rfl rfl)
theorem dJ24_init_3_5 : decode cJ24_init_3 5 = .ok (.return_, 1) := dk_177 (dk_at dksJ24_init_3_0 5 rfl rfl)
abbrev cJ24_init_4 : ByteArray := prog_24_method_1_code
def yJ24_init_4 : MethodName := ⟨RJ24, "<init>", "()V"⟩
theorem dJ24_init_4_0 : decode cJ24_init_4 0 = .ok (.aload_n 0, 1) := by decide +kernel
theorem dJ24_init_4_1 : decode cJ24_init_4 1 = .ok (.invokespecial 1, 3) := by decide +kernel
theorem dJ24_init_4_4 : decode cJ24_init_4 4 = .ok (.return_, 1) := by decide +kernel
theorem q126 : (Jvm.Cond.initialized "java/lang/Exception") ∈ lw_all := lw_g (lw_at lw_m1 31 rfl) rfl
theorem q775 : (Jvm.Cond.declares ({ cls := "java/lang/Exception", name := "<init>", desc := "()V" } : Jvm.MethodName)) ∈ lw_tbl := lw_at lw_m3 200 rfl
theorem q776 : (Jvm.Cond.declares ({ cls := "java/lang/Exception", name := "<init>", desc := "(Ljava/lang/String;)V" } : Jvm.MethodName)) ∈ lw_tbl := lw_at lw_m3 201 rfl
theorem q818 : (Jvm.Cond.instanceMethod ({ cls := "java/lang/Exception", name := "<init>", desc := "(Ljava/lang/String;Ljava/lang/Throwable;ZZ)V" } : Jvm.MethodName)) ∈ lw_all := lw_g (lw_at lw_m4 3 rfl) rfl
theorem q819 : (Jvm.Cond.code ({ cls := "java/lang/Exception", name := "<init>", desc := "(Ljava/lang/String;Ljava/lang/Throwable;ZZ)V" } : Jvm.MethodName) prog_24_method_5_code (5 : Nat) (Option.none : Option Jvm.ClassFile.FieldType)) ∈ lw_all := lw_g (lw_at lw_m4 4 rfl) rfl
theorem q820 : (Jvm.Cond.methodLink "java/lang/Exception" (16 : Nat) ({ cls := "java/lang/Throwable", name := "<init>", desc := "(Ljava/lang/String;Ljava/lang/Throwable;ZZ)V" } : Jvm.MethodName)) ∈ lw_all := lw_g (lw_at lw_m4 5 rfl) rfl
theorem q1009 : (Jvm.Cond.instanceMethod ({ cls := "java/lang/Exception", name := "<init>", desc := "(Ljava/lang/String;)V" } : Jvm.MethodName)) ∈ lw_all := lw_g (lw_at lw_m4 194 rfl) rfl
theorem q1010 : (Jvm.Cond.code ({ cls := "java/lang/Exception", name := "<init>", desc := "(Ljava/lang/String;)V" } : Jvm.MethodName) prog_24_method_2_code (2 : Nat) (Option.none : Option Jvm.ClassFile.FieldType)) ∈ lw_all := lw_g (lw_at lw_m4 195 rfl) rfl
theorem q1011 : (Jvm.Cond.methodLink "java/lang/Exception" (7 : Nat) ({ cls := "java/lang/Throwable", name := "<init>", desc := "(Ljava/lang/String;)V" } : Jvm.MethodName)) ∈ lw_all := lw_g (lw_at lw_m4 196 rfl) rfl
theorem q1671 : (Jvm.Cond.instanceMethod ({ cls := "java/lang/Exception", name := "<init>", desc := "(Ljava/lang/Throwable;)V" } : Jvm.MethodName)) ∈ lw_all := lw_g (lw_at lw_m7 136 rfl) rfl
theorem q1672 : (Jvm.Cond.code ({ cls := "java/lang/Exception", name := "<init>", desc := "(Ljava/lang/Throwable;)V" } : Jvm.MethodName) prog_24_method_4_code (2 : Nat) (Option.none : Option Jvm.ClassFile.FieldType)) ∈ lw_all := lw_g (lw_at lw_m7 137 rfl) rfl
theorem q1673 : (Jvm.Cond.methodLink "java/lang/Exception" (13 : Nat) ({ cls := "java/lang/Throwable", name := "<init>", desc := "(Ljava/lang/Throwable;)V" } : Jvm.MethodName)) ∈ lw_all := lw_g (lw_at lw_m7 138 rfl) rfl
theorem q1949 : (Jvm.Cond.instanceMethod ({ cls := "java/lang/Exception", name := "<init>", desc := "()V" } : Jvm.MethodName)) ∈ lw_all := lw_g (lw_at lw_m8 174 rfl) rfl
theorem q1950 : (Jvm.Cond.code ({ cls := "java/lang/Exception", name := "<init>", desc := "()V" } : Jvm.MethodName) prog_24_method_1_code (1 : Nat) (Option.none : Option Jvm.ClassFile.FieldType)) ∈ lw_all := lw_g (lw_at lw_m8 175 rfl) rfl
theorem q1951 : (Jvm.Cond.methodLink "java/lang/Exception" (1 : Nat) ({ cls := "java/lang/Throwable", name := "<init>", desc := "()V" } : Jvm.MethodName)) ∈ lw_all := lw_g (lw_at lw_m8 176 rfl) rfl

/-! java/lang/RuntimeException -/
set_option maxRecDepth 100000
def RJ25 : String := "java/lang/RuntimeException"
abbrev cJ25_init : ByteArray := prog_32_method_2_code
def yJ25_init : MethodName := ⟨RJ25, "<init>", "(Ljava/lang/String;)V"⟩
def dkwJ25_init_0 : List UInt8 := [42, 43, 183, 0, 7, 177]
abbrev dktJ25_init_0 : List UInt8 := dkwJ25_init_0 ++ []
theorem dksJ25_init_0 : cJ25_init.data.toList.drop 0 = dktJ25_init_0 := by decide +kernel
theorem dJ25_init_0 : decode cJ25_init 0 = .ok (.aload_n 0, 1) := dk_42 (dk_at dksJ25_init_0 0 rfl rfl)
theorem dJ25_init_1 : decode cJ25_init 1 = .ok (.aload_n 1, 1) := dk_43 (dk_at dksJ25_init_0 1 rfl rfl)
theorem dJ25_init_2 : decode cJ25_init 2 = .ok (.invokespecial 7, 3) := dk_183 0 7 (dk_at dksJ25_init_0 2 rfl rfl)
theorem dJ25_init_5 : decode cJ25_init 5 = .ok (.return_, 1) := dk_177 (dk_at dksJ25_init_0 5 rfl rfl)
abbrev cJ25_init_2 : ByteArray := prog_32_method_4_code
def yJ25_init_2 : MethodName := ⟨RJ25, "<init>", "(Ljava/lang/Throwable;)V"⟩
def dkwJ25_init_2_0 : List UInt8 := [42, 43, 183, 0, 13, 177]
abbrev dktJ25_init_2_0 : List UInt8 := dkwJ25_init_2_0 ++ []
theorem dksJ25_init_2_0 : cJ25_init_2.data.toList.drop 0 = dktJ25_init_2_0 := by decide +kernel
theorem dJ25_init_2_0 : decode cJ25_init_2 0 = .ok (.aload_n 0, 1) := dk_42 (dk_at dksJ25_init_2_0 0 rfl rfl)
theorem dJ25_init_2_1 : decode cJ25_init_2 1 = .ok (.aload_n 1, 1) := dk_43 (dk_at dksJ25_init_2_0 1 rfl rfl)
theorem dJ25_init_2_2 : decode cJ25_init_2 2 = .ok (.invokespecial 13, 3) := dk_183 0 13 (dk_at dksJ25_init_2_0 2 rfl rfl)
theorem dJ25_init_2_5 : decode cJ25_init_2 5 = .ok (.return_, 1) := dk_177 (dk_at dksJ25_init_2_0 5 rfl rfl)
abbrev cJ25_init_3 : ByteArray := prog_32_method_1_code
def yJ25_init_3 : MethodName := ⟨RJ25, "<init>", "()V"⟩
theorem dJ25_init_3_0 : decode cJ25_init_3 0 = .ok (.aload_n 0, 1) := by decide +kernel
theorem dJ25_init_3_1 : decode cJ25_init_3 1 = .ok (.invokespecial 1, 3) := by decide +kernel
theorem dJ25_init_3_4 : decode cJ25_init_3 4 = .ok (.return_, 1) := by decide +kernel
theorem q128 : (Jvm.Cond.initialized "java/lang/RuntimeException") ∈ lw_all := lw_g (lw_at lw_m1 33 rfl) rfl
theorem q911 : (Jvm.Cond.declares ({ cls := "java/lang/RuntimeException", name := "<init>", desc := "()V" } : Jvm.MethodName)) ∈ lw_tbl := lw_at lw_m4 96 rfl
theorem q912 : (Jvm.Cond.declares ({ cls := "java/lang/RuntimeException", name := "<init>", desc := "(Ljava/lang/String;)V" } : Jvm.MethodName)) ∈ lw_tbl := lw_at lw_m4 97 rfl
theorem q1006 : (Jvm.Cond.instanceMethod ({ cls := "java/lang/RuntimeException", name := "<init>", desc := "(Ljava/lang/String;)V" } : Jvm.MethodName)) ∈ lw_all := lw_g (lw_at lw_m4 191 rfl) rfl
theorem q1007 : (Jvm.Cond.code ({ cls := "java/lang/RuntimeException", name := "<init>", desc := "(Ljava/lang/String;)V" } : Jvm.MethodName) prog_32_method_2_code (2 : Nat) (Option.none : Option Jvm.ClassFile.FieldType)) ∈ lw_all := lw_g (lw_at lw_m4 192 rfl) rfl
theorem q1008 : (Jvm.Cond.methodLink "java/lang/RuntimeException" (7 : Nat) ({ cls := "java/lang/Exception", name := "<init>", desc := "(Ljava/lang/String;)V" } : Jvm.MethodName)) ∈ lw_all := lw_g (lw_at lw_m4 193 rfl) rfl
theorem q1668 : (Jvm.Cond.instanceMethod ({ cls := "java/lang/RuntimeException", name := "<init>", desc := "(Ljava/lang/Throwable;)V" } : Jvm.MethodName)) ∈ lw_all := lw_g (lw_at lw_m7 133 rfl) rfl
theorem q1669 : (Jvm.Cond.code ({ cls := "java/lang/RuntimeException", name := "<init>", desc := "(Ljava/lang/Throwable;)V" } : Jvm.MethodName) prog_32_method_4_code (2 : Nat) (Option.none : Option Jvm.ClassFile.FieldType)) ∈ lw_all := lw_g (lw_at lw_m7 134 rfl) rfl
theorem q1670 : (Jvm.Cond.methodLink "java/lang/RuntimeException" (13 : Nat) ({ cls := "java/lang/Exception", name := "<init>", desc := "(Ljava/lang/Throwable;)V" } : Jvm.MethodName)) ∈ lw_all := lw_g (lw_at lw_m7 135 rfl) rfl
theorem q1946 : (Jvm.Cond.instanceMethod ({ cls := "java/lang/RuntimeException", name := "<init>", desc := "()V" } : Jvm.MethodName)) ∈ lw_all := lw_g (lw_at lw_m8 171 rfl) rfl
theorem q1947 : (Jvm.Cond.code ({ cls := "java/lang/RuntimeException", name := "<init>", desc := "()V" } : Jvm.MethodName) prog_32_method_1_code (1 : Nat) (Option.none : Option Jvm.ClassFile.FieldType)) ∈ lw_all := lw_g (lw_at lw_m8 172 rfl) rfl
theorem q1948 : (Jvm.Cond.methodLink "java/lang/RuntimeException" (1 : Nat) ({ cls := "java/lang/Exception", name := "<init>", desc := "()V" } : Jvm.MethodName)) ∈ lw_all := lw_g (lw_at lw_m8 173 rfl) rfl

/-! java/lang/IndexOutOfBoundsException -/
set_option maxRecDepth 100000
def RJ26 : String := "java/lang/IndexOutOfBoundsException"
def TJ26 : u_T := fun k => match k with
  | 0 => ("java/lang/Throwable", "cause", "Ljava/lang/Throwable;", false)
  | 1 => ("java/lang/Throwable", "stackTrace", "[Ljava/lang/StackTraceElement;", false)
  | 2 => ("java/lang/Throwable", "suppressedExceptions", "Ljava/util/List;", false)
  | 3 => ("java/lang/Throwable", "detailMessage", "Ljava/lang/String;", false)
  | 4 => ("java/lang/Throwable", "backtrace", "Ljava/lang/Object;", false)
  | _ => ("java/lang/Throwable", "depth", "I", false)
def tyJ26 : Nat → FieldType := fun k => match k with
  | 0 => .object "java/lang/Throwable"
  | 1 => .array (.object "java/lang/StackTraceElement")
  | 2 => .object "java/util/List"
  | 3 => .object "java/lang/String"
  | 4 => .object "java/lang/Object"
  | _ => .int
abbrev wsJ260 : List Cond := u_ws RJ26 TJ26 6
theorem nmJ26 : ∀ a, a < 6 → ∀ b, b < 6 → a ≠ b → (TJ26 a).2.1 ≠ (TJ26 b).2.1 := by decide +kernel
theorem tyJ26_ok : ∀ k, k < 6 → parseFieldDescriptor (TJ26 k).2.2.1 = some (tyJ26 k) := by decide +kernel
abbrev cJ26_init : ByteArray := prog_26_method_2_code
def yJ26_init : MethodName := ⟨RJ26, "<init>", "(Ljava/lang/String;)V"⟩
def dkwJ26_init_0 : List UInt8 := [42, 43, 183, 0, 7, 177]
abbrev dktJ26_init_0 : List UInt8 := dkwJ26_init_0 ++ []
theorem dksJ26_init_0 : cJ26_init.data.toList.drop 0 = dktJ26_init_0 := by decide +kernel
theorem dJ26_init_0 : decode cJ26_init 0 = .ok (.aload_n 0, 1) := dk_42 (dk_at dksJ26_init_0 0 rfl rfl)
theorem dJ26_init_1 : decode cJ26_init 1 = .ok (.aload_n 1, 1) := dk_43 (dk_at dksJ26_init_0 1 rfl rfl)
theorem dJ26_init_2 : decode cJ26_init 2 = .ok (.invokespecial 7, 3) := dk_183 0 7 (dk_at dksJ26_init_0 2 rfl rfl)
theorem dJ26_init_5 : decode cJ26_init 5 = .ok (.return_, 1) := dk_177 (dk_at dksJ26_init_0 5 rfl rfl)
abbrev cJ26_init_2 : ByteArray := prog_26_method_1_code
def yJ26_init_2 : MethodName := ⟨RJ26, "<init>", "()V"⟩
theorem dJ26_init_2_0 : decode cJ26_init_2 0 = .ok (.aload_n 0, 1) := by decide +kernel
theorem dJ26_init_2_1 : decode cJ26_init_2 1 = .ok (.invokespecial 1, 3) := by decide +kernel
theorem dJ26_init_2_4 : decode cJ26_init_2 4 = .ok (.return_, 1) := by decide +kernel
theorem q129 : (Jvm.Cond.initialized "java/lang/IndexOutOfBoundsException") ∈ lw_all := lw_g (lw_at lw_m1 34 rfl) rfl
theorem q464 : (Jvm.Cond.selects "java/lang/IndexOutOfBoundsException" ({ cls := "java/lang/Object", name := "getClass", desc := "()Ljava/lang/Class;" } : Jvm.MethodName) ({ cls := "java/lang/Object", name := "getClass", desc := "()Ljava/lang/Class;" } : Jvm.MethodName)) ∈ lw_all := lw_g (lw_at lw_m2 129 rfl) rfl
theorem q805 : (Jvm.Cond.selects "java/lang/IndexOutOfBoundsException" ({ cls := "java/lang/Throwable", name := "fillInStackTrace", desc := "()Ljava/lang/Throwable;" } : Jvm.MethodName) ({ cls := "java/lang/Throwable", name := "fillInStackTrace", desc := "()Ljava/lang/Throwable;" } : Jvm.MethodName)) ∈ lw_all := lw_g (lw_at lw_m3 230 rfl) rfl
theorem q909 : (Jvm.Cond.instantiable "java/lang/IndexOutOfBoundsException" (6 : Nat)) ∈ lw_all := lw_g (lw_at lw_m4 94 rfl) rfl
theorem q910 : (Jvm.Cond.castable "java/lang/IndexOutOfBoundsException" "java/lang/IndexOutOfBoundsException") ∈ lw_tbl := lw_at lw_m4 95 rfl
theorem q913 : (Jvm.Cond.selects "java/lang/IndexOutOfBoundsException" ({ cls := "java/lang/Throwable", name := "fillInStackTrace", desc := "(I)Ljava/lang/Throwable;" } : Jvm.MethodName) ({ cls := "java/lang/Throwable", name := "fillInStackTrace", desc := "(I)Ljava/lang/Throwable;" } : Jvm.MethodName)) ∈ lw_all := lw_g (lw_at lw_m4 98 rfl) rfl
theorem q914 : (Jvm.Cond.lays "java/lang/IndexOutOfBoundsException" "java/lang/Throwable" "cause" "Ljava/lang/Throwable;") ∈ lw_all := lw_g (lw_at lw_m4 99 rfl) rfl
theorem q915 : (Jvm.Cond.lays "java/lang/IndexOutOfBoundsException" "java/lang/Throwable" "stackTrace" "[Ljava/lang/StackTraceElement;") ∈ lw_all := lw_g (lw_at lw_m4 100 rfl) rfl
theorem q916 : (Jvm.Cond.lays "java/lang/IndexOutOfBoundsException" "java/lang/Throwable" "suppressedExceptions" "Ljava/util/List;") ∈ lw_all := lw_g (lw_at lw_m4 101 rfl) rfl
theorem q917 : (Jvm.Cond.lays "java/lang/IndexOutOfBoundsException" "java/lang/Throwable" "detailMessage" "Ljava/lang/String;") ∈ lw_all := lw_g (lw_at lw_m4 102 rfl) rfl
theorem q918 : (Jvm.Cond.lays "java/lang/IndexOutOfBoundsException" "java/lang/Throwable" "backtrace" "Ljava/lang/Object;") ∈ lw_all := lw_g (lw_at lw_m4 103 rfl) rfl
theorem q1003 : (Jvm.Cond.instanceMethod ({ cls := "java/lang/IndexOutOfBoundsException", name := "<init>", desc := "(Ljava/lang/String;)V" } : Jvm.MethodName)) ∈ lw_all := lw_g (lw_at lw_m4 188 rfl) rfl
theorem q1004 : (Jvm.Cond.code ({ cls := "java/lang/IndexOutOfBoundsException", name := "<init>", desc := "(Ljava/lang/String;)V" } : Jvm.MethodName) prog_26_method_2_code (2 : Nat) (Option.none : Option Jvm.ClassFile.FieldType)) ∈ lw_all := lw_g (lw_at lw_m4 189 rfl) rfl
theorem q1005 : (Jvm.Cond.methodLink "java/lang/IndexOutOfBoundsException" (7 : Nat) ({ cls := "java/lang/RuntimeException", name := "<init>", desc := "(Ljava/lang/String;)V" } : Jvm.MethodName)) ∈ lw_all := lw_g (lw_at lw_m4 190 rfl) rfl
theorem q1014 : (Jvm.Cond.lays "java/lang/IndexOutOfBoundsException" "java/lang/Throwable" "depth" "I") ∈ lw_all := lw_g (lw_at lw_m4 199 rfl) rfl
theorem q1015 : (Jvm.Cond.superclass "java/lang/IndexOutOfBoundsException" "java/lang/RuntimeException") ∈ lw_all := lw_g (lw_at lw_m4 200 rfl) rfl
theorem q1682 : (Jvm.Cond.selects "java/lang/IndexOutOfBoundsException" ({ cls := "java/lang/Throwable", name := "toString", desc := "()Ljava/lang/String;" } : Jvm.MethodName) ({ cls := "java/lang/Throwable", name := "toString", desc := "()Ljava/lang/String;" } : Jvm.MethodName)) ∈ lw_all := lw_g (lw_at lw_m7 147 rfl) rfl
theorem q1693 : (Jvm.Cond.selects "java/lang/IndexOutOfBoundsException" ({ cls := "java/lang/Throwable", name := "getLocalizedMessage", desc := "()Ljava/lang/String;" } : Jvm.MethodName) ({ cls := "java/lang/Throwable", name := "getLocalizedMessage", desc := "()Ljava/lang/String;" } : Jvm.MethodName)) ∈ lw_all := lw_g (lw_at lw_m7 158 rfl) rfl
theorem q1703 : (Jvm.Cond.selects "java/lang/IndexOutOfBoundsException" ({ cls := "java/lang/Throwable", name := "getMessage", desc := "()Ljava/lang/String;" } : Jvm.MethodName) ({ cls := "java/lang/Throwable", name := "getMessage", desc := "()Ljava/lang/String;" } : Jvm.MethodName)) ∈ lw_all := lw_g (lw_at lw_m7 168 rfl) rfl
theorem q2106 : (Jvm.Cond.declares ({ cls := "java/lang/IndexOutOfBoundsException", name := "<init>", desc := "()V" } : Jvm.MethodName)) ∈ lw_tbl := lw_at lw_m9 91 rfl
theorem q2107 : (Jvm.Cond.declares ({ cls := "java/lang/IndexOutOfBoundsException", name := "<init>", desc := "(Ljava/lang/String;)V" } : Jvm.MethodName)) ∈ lw_tbl := lw_at lw_m9 92 rfl
theorem q2119 : (Jvm.Cond.instanceMethod ({ cls := "java/lang/IndexOutOfBoundsException", name := "<init>", desc := "()V" } : Jvm.MethodName)) ∈ lw_all := lw_g (lw_at lw_m9 104 rfl) rfl
theorem q2120 : (Jvm.Cond.code ({ cls := "java/lang/IndexOutOfBoundsException", name := "<init>", desc := "()V" } : Jvm.MethodName) prog_26_method_1_code (1 : Nat) (Option.none : Option Jvm.ClassFile.FieldType)) ∈ lw_all := lw_g (lw_at lw_m9 105 rfl) rfl
theorem q2121 : (Jvm.Cond.methodLink "java/lang/IndexOutOfBoundsException" (1 : Nat) ({ cls := "java/lang/RuntimeException", name := "<init>", desc := "()V" } : Jvm.MethodName)) ∈ lw_all := lw_g (lw_at lw_m9 106 rfl) rfl
theorem q2712 : (Jvm.Cond.castable "java/lang/IndexOutOfBoundsException" "java/lang/Object") ∈ lw_tbl := lw_at lw_m11 217 rfl
theorem in_J26 : ∀ w ∈ wsJ260, w ∈ lw_all := lw_in wsJ260 [914, 915, 916, 917, 918, 1014] (by decide +kernel) (by decide +kernel)

/-! java/lang/Integer -/
set_option maxRecDepth 100000
def RJ27 : String := "java/lang/Integer"
abbrev cJ27_stringSize : ByteArray := prog_27_method_13_code
def yJ27_stringSize : MethodName := ⟨RJ27, "stringSize", "(I)I"⟩
def dkwJ27_stringSize_1 : List UInt8 := [164, 0, 7, 29, 27, 96, 172, 16, 10, 28, 104, 61, 132, 3, 1, 167, 255, 233, 16, 10, 27, 96, 172]
abbrev dktJ27_stringSize_1 : List UInt8 := dkwJ27_stringSize_1 ++ []
def dkwJ27_stringSize_0 : List UInt8 := [4, 60, 26, 155, 0, 8, 3, 60, 26, 116, 59, 16, 246, 61, 4, 62, 29, 16, 10, 162, 0, 23, 26, 28]
abbrev dktJ27_stringSize_0 : List UInt8 := dkwJ27_stringSize_0 ++ dktJ27_stringSize_1
theorem dksJ27_stringSize_0 : cJ27_stringSize.data.toList.drop 0 = dktJ27_stringSize_0 := by decide +kernel
theorem dksJ27_stringSize_1 : cJ27_stringSize.data.toList.drop 24 = dktJ27_stringSize_1 := dk_seg dksJ27_stringSize_0 24 rfl rfl
theorem dJ27_stringSize_0 : decode cJ27_stringSize 0 = .ok (.iconst 1, 1) := dk_4 (dk_at dksJ27_stringSize_0 0 rfl rfl)
theorem dJ27_stringSize_1 : decode cJ27_stringSize 1 = .ok (.istore_n 1, 1) := dk_60 (dk_at dksJ27_stringSize_0 1 rfl rfl)
theorem dJ27_stringSize_2 : decode cJ27_stringSize 2 = .ok (.iload_n 0, 1) := dk_26 (dk_at dksJ27_stringSize_0 2 rfl rfl)
theorem dJ27_stringSize_3 : decode cJ27_stringSize 3 = .ok (.ifCond .lt 8, 3) := dk_155 0 8 (dk_at dksJ27_stringSize_0 3 rfl rfl)
theorem dJ27_stringSize_6 : decode cJ27_stringSize 6 = .ok (.iconst 0, 1) := dk_3 (dk_at dksJ27_stringSize_0 6 rfl rfl)
theorem dJ27_stringSize_7 : decode cJ27_stringSize 7 = .ok (.istore_n 1, 1) := dk_60 (dk_at dksJ27_stringSize_0 7 rfl rfl)
theorem dJ27_stringSize_8 : decode cJ27_stringSize 8 = .ok (.iload_n 0, 1) := dk_26 (dk_at dksJ27_stringSize_0 8 rfl rfl)
theorem dJ27_stringSize_9 : decode cJ27_stringSize 9 = .ok (.ineg, 1) := dk_116 (dk_at dksJ27_stringSize_0 9 rfl rfl)
theorem dJ27_stringSize_10 : decode cJ27_stringSize 10 = .ok (.istore_n 0, 1) := dk_59 (dk_at dksJ27_stringSize_0 10 rfl rfl)
theorem dJ27_stringSize_11 : decode cJ27_stringSize 11 = .ok (.bipush (-10), 2) := dk_16 246 (dk_at dksJ27_stringSize_0 11 rfl rfl)
theorem dJ27_stringSize_13 : decode cJ27_stringSize 13 = .ok (.istore_n 2, 1) := dk_61 (dk_at dksJ27_stringSize_0 13 rfl rfl)
theorem dJ27_stringSize_14 : decode cJ27_stringSize 14 = .ok (.iconst 1, 1) := dk_4 (dk_at dksJ27_stringSize_0 14 rfl rfl)
theorem dJ27_stringSize_15 : decode cJ27_stringSize 15 = .ok (.istore_n 3, 1) := dk_62 (dk_at dksJ27_stringSize_0 15 rfl rfl)
theorem dJ27_stringSize_16 : decode cJ27_stringSize 16 = .ok (.iload_n 3, 1) := dk_29 (dk_at dksJ27_stringSize_0 16 rfl rfl)
theorem dJ27_stringSize_17 : decode cJ27_stringSize 17 = .ok (.bipush 10, 2) := dk_16 10 (dk_at dksJ27_stringSize_0 17 rfl rfl)
theorem dJ27_stringSize_19 : decode cJ27_stringSize 19 = .ok (.if_icmp .ge 23, 3) := dk_162 0 23 (dk_at dksJ27_stringSize_0 19 rfl rfl)
theorem dJ27_stringSize_22 : decode cJ27_stringSize 22 = .ok (.iload_n 0, 1) := dk_26 (dk_at dksJ27_stringSize_0 22 rfl rfl)
theorem dJ27_stringSize_23 : decode cJ27_stringSize 23 = .ok (.iload_n 2, 1) := dk_28 (dk_at dksJ27_stringSize_0 23 rfl rfl)
theorem dJ27_stringSize_24 : decode cJ27_stringSize 24 = .ok (.if_icmp .le 7, 3) := dk_164 0 7 (dk_at dksJ27_stringSize_1 0 rfl rfl)
theorem dJ27_stringSize_27 : decode cJ27_stringSize 27 = .ok (.iload_n 3, 1) := dk_29 (dk_at dksJ27_stringSize_1 3 rfl rfl)
theorem dJ27_stringSize_28 : decode cJ27_stringSize 28 = .ok (.iload_n 1, 1) := dk_27 (dk_at dksJ27_stringSize_1 4 rfl rfl)
theorem dJ27_stringSize_29 : decode cJ27_stringSize 29 = .ok (.iadd, 1) := dk_96 (dk_at dksJ27_stringSize_1 5 rfl rfl)
theorem dJ27_stringSize_30 : decode cJ27_stringSize 30 = .ok (.ireturn, 1) := dk_172 (dk_at dksJ27_stringSize_1 6 rfl rfl)
theorem dJ27_stringSize_31 : decode cJ27_stringSize 31 = .ok (.bipush 10, 2) := dk_16 10 (dk_at dksJ27_stringSize_1 7 rfl rfl)
theorem dJ27_stringSize_33 : decode cJ27_stringSize 33 = .ok (.iload_n 2, 1) := dk_28 (dk_at dksJ27_stringSize_1 9 rfl rfl)
theorem dJ27_stringSize_34 : decode cJ27_stringSize 34 = .ok (.imul, 1) := dk_104 (dk_at dksJ27_stringSize_1 10 rfl rfl)
theorem dJ27_stringSize_35 : decode cJ27_stringSize 35 = .ok (.istore_n 2, 1) := dk_61 (dk_at dksJ27_stringSize_1 11 rfl rfl)
theorem dJ27_stringSize_36 : decode cJ27_stringSize 36 = .ok (.iinc 3 1, 3) := dk_132 3 1 (dk_at dksJ27_stringSize_1 12 rfl rfl)
theorem dJ27_stringSize_39 : decode cJ27_stringSize 39 = .ok (.goto (-23), 3) := dk_167 255 233 (dk_at dksJ27_stringSize_1 15 rfl rfl)
theorem dJ27_stringSize_42 : decode cJ27_stringSize 42 = .ok (.bipush 10, 2) := dk_16 10 (dk_at dksJ27_stringSize_1 18 rfl rfl)
theorem dJ27_stringSize_44 : decode cJ27_stringSize 44 = .ok (.iload_n 1, 1) := dk_27 (dk_at dksJ27_stringSize_1 20 rfl rfl)
theorem dJ27_stringSize_45 : decode cJ27_stringSize 45 = .ok (.iadd, 1) := dk_96 (dk_at dksJ27_stringSize_1 21 rfl rfl)
theorem dJ27_stringSize_46 : decode cJ27_stringSize 46 = .ok (.ireturn, 1) := dk_172 (dk_at dksJ27_stringSize_1 22 rfl rfl)
abbrev cJ27_getChars : ByteArray := prog_27_method_12_code
def yJ27_getChars : MethodName := ⟨RJ27, "getChars", "(II[B)I"⟩
def dkwJ27_getChars_5 : List UInt8 := [16, 45, 84, 21, 5, 172]
abbrev dktJ27_getChars_5 : List UInt8 := dkwJ27_getChars_5 ++ []
def dkwJ27_getChars_4 : List UInt8 := [132, 5, 255, 21, 5, 178, 0, 87, 26, 116, 51, 84, 21, 6, 153, 0, 12, 44, 132, 5, 255, 21, 5]
abbrev dktJ27_getChars_4 : List UInt8 := dkwJ27_getChars_4 ++ dktJ27_getChars_5
def dkwJ27_getChars_3 : List UInt8 := [167, 255, 209, 44, 132, 5, 255, 21, 5, 178, 0, 83, 26, 116, 51, 84, 26, 16, 247, 162, 0, 16, 44]
abbrev dktJ27_getChars_3 : List UInt8 := dkwJ27_getChars_3 ++ dktJ27_getChars_4
def dkwJ27_getChars_2 : List UInt8 := [21, 5, 178, 0, 83, 21, 4, 51, 84, 44, 132, 5, 255, 21, 5, 178, 0, 87, 21, 4, 51, 84]
abbrev dktJ27_getChars_2 : List UInt8 := dkwJ27_getChars_2 ++ dktJ27_getChars_3
def dkwJ27_getChars_1 : List UInt8 := [16, 156, 163, 0, 47, 26, 16, 100, 108, 62, 29, 16, 100, 104, 26, 100, 54, 4, 29, 59, 44, 132, 5, 255]
abbrev dktJ27_getChars_1 : List UInt8 := dkwJ27_getChars_1 ++ dktJ27_getChars_2
def dkwJ27_getChars_0 : List UInt8 := [27, 54, 5, 26, 156, 0, 7, 4, 167, 0, 4, 3, 54, 6, 21, 6, 154, 0, 6, 26, 116, 59, 26]
abbrev dktJ27_getChars_0 : List UInt8 := dkwJ27_getChars_0 ++ dktJ27_getChars_1
theorem dksJ27_getChars_0 : cJ27_getChars.data.toList.drop 0 = dktJ27_getChars_0 := by decide +kernel
theorem dksJ27_getChars_1 : cJ27_getChars.data.toList.drop 23 = dktJ27_getChars_1 := dk_seg dksJ27_getChars_0 23 rfl rfl
theorem dksJ27_getChars_2 : cJ27_getChars.data.toList.drop 47 = dktJ27_getChars_2 := dk_seg dksJ27_getChars_1 24 rfl rfl
theorem dksJ27_getChars_3 : cJ27_getChars.data.toList.drop 69 = dktJ27_getChars_3 := dk_seg dksJ27_getChars_2 22 rfl rfl
theorem dksJ27_getChars_4 : cJ27_getChars.data.toList.drop 92 = dktJ27_getChars_4 := dk_seg dksJ27_getChars_3 23 rfl rfl
theorem dksJ27_getChars_5 : cJ27_getChars.data.toList.drop 115 = dktJ27_getChars_5 := dk_seg dksJ27_getChars_4 23 rfl rfl
theorem dJ27_getChars_0 : decode cJ27_getChars 0 = .ok (.iload_n 1, 1) := dk_27 (dk_at dksJ27_getChars_0 0 rfl rfl)
theorem dJ27_getChars_1 : decode cJ27_getChars 1 = .ok (.istore 5, 2) := dk_54 5 (dk_at dksJ27_getChars_0 1 rfl rfl)
theorem dJ27_getChars_3 : decode cJ27_getChars 3 = .ok (.iload_n 0, 1) := dk_26 (dk_at dksJ27_getChars_0 3 rfl rfl)
theorem dJ27_getChars_4 : decode cJ27_getChars 4 = .ok (.ifCond .ge 7, 3) := dk_156 0 7 (dk_at dksJ27_getChars_0 4 rfl rfl)
theorem dJ27_getChars_7 : decode cJ27_getChars 7 = .ok (.iconst 1, 1) := dk_4 (dk_at dksJ27_getChars_0 7 rfl rfl)
theorem dJ27_getChars_8 : decode cJ27_getChars 8 = .ok (.goto 4, 3) := dk_167 0 4 (dk_at dksJ27_getChars_0 8 rfl rfl)
theorem dJ27_getChars_11 : decode cJ27_getChars 11 = .ok (.iconst 0, 1) := dk_3 (dk_at dksJ27_getChars_0 11 rfl rfl)
theorem dJ27_getChars_12 : decode cJ27_getChars 12 = .ok (.istore 6, 2) := dk_54 6 (dk_at dksJ27_getChars_0 12 rfl rfl)
theorem dJ27_getChars_14 : decode cJ27_getChars 14 = .ok (.iload 6, 2) := dk_21 6 (dk_at dksJ27_getChars_0 14 rfl rfl)
theorem dJ27_getChars_16 : decode cJ27_getChars 16 = .ok (.ifCond .ne 6, 3) := dk_154 0 6 (dk_at dksJ27_getChars_0 16 rfl rfl)
theorem dJ27_getChars_19 : decode cJ27_getChars 19 = .ok (.iload_n 0, 1) := dk_26 (dk_at dksJ27_getChars_0 19 rfl rfl)
theorem dJ27_getChars_20 : decode cJ27_getChars 20 = .ok (.ineg, 1) := dk_116 (dk_at dksJ27_getChars_0 20 rfl rfl)
theorem dJ27_getChars_21 : decode cJ27_getChars 21 = .ok (.istore_n 0, 1) := dk_59 (dk_at dksJ27_getChars_0 21 rfl rfl)
theorem dJ27_getChars_22 : decode cJ27_getChars 22 = .ok (.iload_n 0, 1) := dk_26 (dk_at dksJ27_getChars_0 22 rfl rfl)
theorem dJ27_getChars_23 : decode cJ27_getChars 23 = .ok (.bipush (-100), 2) := dk_16 156 (dk_at dksJ27_getChars_1 0 rfl rfl)
theorem dJ27_getChars_25 : decode cJ27_getChars 25 = .ok (.if_icmp .gt 47, 3) := dk_163 0 47 (dk_at dksJ27_getChars_1 2 rfl rfl)
theorem dJ27_getChars_28 : decode cJ27_getChars 28 = .ok (.iload_n 0, 1) := dk_26 (dk_at dksJ27_getChars_1 5 rfl rfl)
theorem dJ27_getChars_29 : decode cJ27_getChars 29 = .ok (.bipush 100, 2) := dk_16 100 (dk_at dksJ27_getChars_1 6 rfl rfl)
theorem dJ27_getChars_31 : decode cJ27_getChars 31 = .ok (.idiv, 1) := dk_108 (dk_at dksJ27_getChars_1 8 rfl rfl)
theorem dJ27_getChars_32 : decode cJ27_getChars 32 = .ok (.istore_n 3, 1) := dk_62 (dk_at dksJ27_getChars_1 9 rfl rfl)
theorem dJ27_getChars_33 : decode cJ27_getChars 33 = .ok (.iload_n 3, 1) := dk_29 (dk_at dksJ27_getChars_1 10 rfl rfl)
theorem dJ27_getChars_34 : decode cJ27_getChars 34 = .ok (.bipush 100, 2) := dk_16 100 (dk_at dksJ27_getChars_1 11 rfl rfl)
theorem dJ27_getChars_36 : decode cJ27_getChars 36 = .ok (.imul, 1) := dk_104 (dk_at dksJ27_getChars_1 13 rfl rfl)
theorem dJ27_getChars_37 : decode cJ27_getChars 37 = .ok (.iload_n 0, 1) := dk_26 (dk_at dksJ27_getChars_1 14 rfl rfl)
theorem dJ27_getChars_38 : decode cJ27_getChars 38 = .ok (.isub, 1) := dk_100 (dk_at dksJ27_getChars_1 15 rfl rfl)
theorem dJ27_getChars_39 : decode cJ27_getChars 39 = .ok (.istore 4, 2) := dk_54 4 (dk_at dksJ27_getChars_1 16 rfl rfl)
theorem dJ27_getChars_41 : decode cJ27_getChars 41 = .ok (.iload_n 3, 1) := dk_29 (dk_at dksJ27_getChars_1 18 rfl rfl)
theorem dJ27_getChars_42 : decode cJ27_getChars 42 = .ok (.istore_n 0, 1) := dk_59 (dk_at dksJ27_getChars_1 19 rfl rfl)
theorem dJ27_getChars_43 : decode cJ27_getChars 43 = .ok (.aload_n 2, 1) := dk_44 (dk_at dksJ27_getChars_1 20 rfl rfl)
theorem dJ27_getChars_44 : decode cJ27_getChars 44 = .ok (.iinc 5 (-1), 3) := dk_132 5 255 (dk_at dksJ27_getChars_1 21 rfl rfl)
theorem dJ27_getChars_47 : decode cJ27_getChars 47 = .ok (.iload 5, 2) := dk_21 5 (dk_at dksJ27_getChars_2 0 rfl rfl)
theorem dJ27_getChars_49 : decode cJ27_getChars 49 = .ok (.getstatic 83, 3) := dk_178 0 83 (dk_at dksJ27_getChars_2 2 rfl rfl)
theorem dJ27_getChars_52 : decode cJ27_getChars 52 = .ok (.iload 4, 2) := dk_21 4 (dk_at dksJ27_getChars_2 5 rfl rfl)
theorem dJ27_getChars_54 : decode cJ27_getChars 54 = .ok (.baload, 1) := dk_51 (dk_at dksJ27_getChars_2 7 rfl rfl)
theorem dJ27_getChars_55 : decode cJ27_getChars 55 = .ok (.bastore, 1) := dk_84 (dk_at dksJ27_getChars_2 8 rfl rfl)
theorem dJ27_getChars_56 : decode cJ27_getChars 56 = .ok (.aload_n 2, 1) := dk_44 (dk_at dksJ27_getChars_2 9 rfl rfl)
theorem dJ27_getChars_57 : decode cJ27_getChars 57 = .ok (.iinc 5 (-1), 3) := dk_132 5 255 (dk_at dksJ27_getChars_2 10 rfl rfl)
theorem dJ27_getChars_60 : decode cJ27_getChars 60 = .ok (.iload 5, 2) := dk_21 5 (dk_at dksJ27_getChars_2 13 rfl rfl)
theorem dJ27_getChars_62 : decode cJ27_getChars 62 = .ok (.getstatic 87, 3) := dk_178 0 87 (dk_at dksJ27_getChars_2 15 rfl rfl)
theorem dJ27_getChars_65 : decode cJ27_getChars 65 = .ok (.iload 4, 2) := dk_21 4 (dk_at dksJ27_getChars_2 18 rfl rfl)
theorem dJ27_getChars_67 : decode cJ27_getChars 67 = .ok (.baload, 1) := dk_51 (dk_at dksJ27_getChars_2 20 rfl rfl)
theorem dJ27_getChars_68 : decode cJ27_getChars 68 = .ok (.bastore, 1) := dk_84 (dk_at dksJ27_getChars_2 21 rfl rfl)
theorem dJ27_getChars_69 : decode cJ27_getChars 69 = .ok (.goto (-47), 3) := dk_167 255 209 (dk_at dksJ27_getChars_3 0 rfl rfl)
theorem dJ27_getChars_72 : decode cJ27_getChars 72 = .ok (.aload_n 2, 1) := dk_44 (dk_at dksJ27_getChars_3 3 rfl rfl)
theorem dJ27_getChars_73 : decode cJ27_getChars 73 = .ok (.iinc 5 (-1), 3) := dk_132 5 255 (dk_at dksJ27_getChars_3 4 rfl rfl)
theorem dJ27_getChars_76 : decode cJ27_getChars 76 = .ok (.iload 5, 2) := dk_21 5 (dk_at dksJ27_getChars_3 7 rfl rfl)
theorem dJ27_getChars_78 : decode cJ27_getChars 78 = .ok (.getstatic 83, 3) := dk_178 0 83 (dk_at dksJ27_getChars_3 9 rfl rfl)
theorem dJ27_getChars_81 : decode cJ27_getChars 81 = .ok (.iload_n 0, 1) := dk_26 (dk_at dksJ27_getChars_3 12 rfl rfl)
theorem dJ27_getChars_82 : decode cJ27_getChars 82 = .ok (.ineg, 1) := dk_116 (dk_at dksJ27_getChars_3 13 rfl rfl)
theorem dJ27_getChars_83 : decode cJ27_getChars 83 = .ok (.baload, 1) := dk_51 (dk_at dksJ27_getChars_3 14 rfl rfl)
theorem dJ27_getChars_84 : decode cJ27_getChars 84 = .ok (.bastore, 1) := dk_84 (dk_at dksJ27_getChars_3 15 rfl rfl)
theorem dJ27_getChars_85 : decode cJ27_getChars 85 = .ok (.iload_n 0, 1) := dk_26 (dk_at dksJ27_getChars_3 16 rfl rfl)
theorem dJ27_getChars_86 : decode cJ27_getChars 86 = .ok (.bipush (-9), 2) := dk_16 247 (dk_at dksJ27_getChars_3 17 rfl rfl)
theorem dJ27_getChars_88 : decode cJ27_getChars 88 = .ok (.if_icmp .ge 16, 3) := dk_162 0 16 (dk_at dksJ27_getChars_3 19 rfl rfl)
theorem dJ27_getChars_91 : decode cJ27_getChars 91 = .ok (.aload_n 2, 1) := dk_44 (dk_at dksJ27_getChars_3 22 rfl rfl)
theorem dJ27_getChars_92 : decode cJ27_getChars 92 = .ok (.iinc 5 (-1), 3) := dk_132 5 255 (dk_at dksJ27_getChars_4 0 rfl rfl)
theorem dJ27_getChars_95 : decode cJ27_getChars 95 = .ok (.iload 5, 2) := dk_21 5 (dk_at dksJ27_getChars_4 3 rfl rfl)
theorem dJ27_getChars_97 : decode cJ27_getChars 97 = .ok (.getstatic 87, 3) := dk_178 0 87 (dk_at dksJ27_getChars_4 5 rfl rfl)
theorem dJ27_getChars_100 : decode cJ27_getChars 100 = .ok (.iload_n 0, 1) := dk_26 (dk_at dksJ27_getChars_4 8 rfl rfl)
theorem dJ27_getChars_101 : decode cJ27_getChars 101 = .ok (.ineg, 1) := dk_116 (dk_at dksJ27_getChars_4 9 rfl rfl)
theorem dJ27_getChars_102 : decode cJ27_getChars 102 = .ok (.baload, 1) := dk_51 (dk_at dksJ27_getChars_4 10 rfl rfl)
theorem dJ27_getChars_103 : decode cJ27_getChars 103 = .ok (.bastore, 1) := dk_84 (dk_at dksJ27_getChars_4 11 rfl rfl)
theorem dJ27_getChars_104 : decode cJ27_getChars 104 = .ok (.iload 6, 2) := dk_21 6 (dk_at dksJ27_getChars_4 12 rfl rfl)
theorem dJ27_getChars_106 : decode cJ27_getChars 106 = .ok (.ifCond .eq 12, 3) := dk_153 0 12 (dk_at dksJ27_getChars_4 14 rfl rfl)
theorem dJ27_getChars_109 : decode cJ27_getChars 109 = .ok (.aload_n 2, 1) := dk_44 (dk_at dksJ27_getChars_4 17 rfl rfl)
theorem dJ27_getChars_110 : decode cJ27_getChars 110 = .ok (.iinc 5 (-1), 3) := dk_132 5 255 (dk_at dksJ27_getChars_4 18 rfl rfl)
theorem dJ27_getChars_113 : decode cJ27_getChars 113 = .ok (.iload 5, 2) := dk_21 5 (dk_at dksJ27_getChars_4 21 rfl rfl)
theorem dJ27_getChars_115 : decode cJ27_getChars 115 = .ok (.bipush 45, 2) := dk_16 45 (dk_at dksJ27_getChars_5 0 rfl rfl)
theorem dJ27_getChars_117 : decode cJ27_getChars 117 = .ok (.bastore, 1) := dk_84 (dk_at dksJ27_getChars_5 2 rfl rfl)
theorem dJ27_getChars_118 : decode cJ27_getChars 118 = .ok (.iload 5, 2) := dk_21 5 (dk_at dksJ27_getChars_5 3 rfl rfl)
theorem dJ27_getChars_120 : decode cJ27_getChars 120 = .ok (.ireturn, 1) := dk_172 (dk_at dksJ27_getChars_5 5 rfl rfl)
abbrev cJ27_numberOfTrailingZeros : ByteArray := prog_27_method_48_code
def yJ27_numberOfTrailingZeros : MethodName := ⟨RJ27, "numberOfTrailingZeros", "(I)I"⟩
def dkwJ27_numberOfTrailingZeros_3 : List UInt8 := [5, 124, 59, 27, 26, 4, 124, 96, 172]
abbrev dktJ27_numberOfTrailingZeros_3 : List UInt8 := dkwJ27_numberOfTrailingZeros_3 ++ []
def dkwJ27_numberOfTrailingZeros_2 : List UInt8 := [124, 59, 26, 16, 16, 164, 0, 10, 132, 1, 4, 26, 7, 124, 59, 26, 7, 164, 0, 10, 132, 1, 2, 26]
abbrev dktJ27_numberOfTrailingZeros_2 : List UInt8 := dkwJ27_numberOfTrailingZeros_2 ++ dktJ27_numberOfTrailingZeros_3
def dkwJ27_numberOfTrailingZeros_1 : List UInt8 := [164, 0, 11, 132, 1, 16, 26, 16, 16, 124, 59, 26, 17, 1, 0, 164, 0, 11, 132, 1, 8, 26, 16, 8]
abbrev dktJ27_numberOfTrailingZeros_1 : List UInt8 := dkwJ27_numberOfTrailingZeros_1 ++ dktJ27_numberOfTrailingZeros_2
def dkwJ27_numberOfTrailingZeros_0 : List UInt8 := [26, 2, 130, 26, 4, 100, 126, 59, 26, 157, 0, 8, 26, 16, 32, 126, 172, 4, 60, 26, 19, 1, 8]
abbrev dktJ27_numberOfTrailingZeros_0 : List UInt8 := dkwJ27_numberOfTrailingZeros_0 ++ dktJ27_numberOfTrailingZeros_1
theorem dksJ27_numberOfTrailingZeros_0 : cJ27_numberOfTrailingZeros.data.toList.drop 0 = dktJ27_numberOfTrailingZeros_0 := by decide +kernel
theorem dksJ27_numberOfTrailingZeros_1 : cJ27_numberOfTrailingZeros.data.toList.drop 23 = dktJ27_numberOfTrailingZeros_1 := dk_seg dksJ27_numberOfTrailingZeros_0 23 rfl rfl
theorem dksJ27_numberOfTrailingZeros_2 : cJ27_numberOfTrailingZeros.data.toList.drop 47 = dktJ27_numberOfTrailingZeros_2 := dk_seg dksJ27_numberOfTrailingZeros_1 24 rfl rfl
theorem dksJ27_numberOfTrailingZeros_3 : cJ27_numberOfTrailingZeros.data.toList.drop 71 = dktJ27_numberOfTrailingZeros_3 := dk_seg dksJ27_numberOfTrailingZeros_2 24 rfl rfl
theorem dJ27_numberOfTrailingZeros_0 : decode cJ27_numberOfTrailingZeros 0 = .ok (.iload_n 0, 1) := dk_26 (dk_at dksJ27_numberOfTrailingZeros_0 0 rfl rfl)
theorem dJ27_numberOfTrailingZeros_1 : decode cJ27_numberOfTrailingZeros 1 = .ok (.iconst (-1), 1) := dk_2 (dk_at dksJ27_numberOfTrailingZeros_0 1 rfl rfl)
theorem dJ27_numberOfTrailingZeros_2 : decode cJ27_numberOfTrailingZeros 2 = .ok (.ixor, 1) := dk_130 (dk_at dksJ27_numberOfTrailingZeros_0 2 rfl rfl)
theorem dJ27_numberOfTrailingZeros_3 : decode cJ27_numberOfTrailingZeros 3 = .ok (.iload_n 0, 1) := dk_26 (dk_at dksJ27_numberOfTrailingZeros_0 3 rfl rfl)
theorem dJ27_numberOfTrailingZeros_4 : decode cJ27_numberOfTrailingZeros 4 = .ok (.iconst 1, 1) := dk_4 (dk_at dksJ27_numberOfTrailingZeros_0 4 rfl rfl)
theorem dJ27_numberOfTrailingZeros_5 : decode cJ27_numberOfTrailingZeros 5 = .ok (.isub, 1) := dk_100 (dk_at dksJ27_numberOfTrailingZeros_0 5 rfl rfl)
theorem dJ27_numberOfTrailingZeros_6 : decode cJ27_numberOfTrailingZeros 6 = .ok (.iand, 1) := dk_126 (dk_at dksJ27_numberOfTrailingZeros_0 6 rfl rfl)
theorem dJ27_numberOfTrailingZeros_7 : decode cJ27_numberOfTrailingZeros 7 = .ok (.istore_n 0, 1) := dk_59 (dk_at dksJ27_numberOfTrailingZeros_0 7 rfl rfl)
theorem dJ27_numberOfTrailingZeros_8 : decode cJ27_numberOfTrailingZeros 8 = .ok (.iload_n 0, 1) := dk_26 (dk_at dksJ27_numberOfTrailingZeros_0 8 rfl rfl)
theorem dJ27_numberOfTrailingZeros_9 : decode cJ27_numberOfTrailingZeros 9 = .ok (.ifCond .gt 8, 3) := dk_157 0 8 (dk_at dksJ27_numberOfTrailingZeros_0 9 rfl rfl)
theorem dJ27_numberOfTrailingZeros_12 : decode cJ27_numberOfTrailingZeros 12 = .ok (.iload_n 0, 1) := dk_26 (dk_at dksJ27_numberOfTrailingZeros_0 12 rfl rfl)
theorem dJ27_numberOfTrailingZeros_13 : decode cJ27_numberOfTrailingZeros 13 = .ok (.bipush 32, 2) := dk_16 32 (dk_at dksJ27_numberOfTrailingZeros_0 13 rfl rfl)
theorem dJ27_numberOfTrailingZeros_15 : decode cJ27_numberOfTrailingZeros 15 = .ok (.iand, 1) := dk_126 (dk_at dksJ27_numberOfTrailingZeros_0 15 rfl rfl)
theorem dJ27_numberOfTrailingZeros_16 : decode cJ27_numberOfTrailingZeros 16 = .ok (.ireturn, 1) := dk_172 (dk_at dksJ27_numberOfTrailingZeros_0 16 rfl rfl)
theorem dJ27_numberOfTrailingZeros_17 : decode cJ27_numberOfTrailingZeros 17 = .ok (.iconst 1, 1) := dk_4 (dk_at dksJ27_numberOfTrailingZeros_0 17 rfl rfl)
theorem dJ27_numberOfTrailingZeros_18 : decode cJ27_numberOfTrailingZeros 18 = .ok (.istore_n 1, 1) := dk_60 (dk_at dksJ27_numberOfTrailingZeros_0 18 rfl rfl)
theorem dJ27_numberOfTrailingZeros_19 : decode cJ27_numberOfTrailingZeros 19 = .ok (.iload_n 0, 1) := dk_26 (dk_at dksJ27_numberOfTrailingZeros_0 19 rfl rfl)
theorem dJ27_numberOfTrailingZeros_20 : decode cJ27_numberOfTrailingZeros 20 = .ok (.ldc_w 264, 3) := dk_19 1 8 (dk_at dksJ27_numberOfTrailingZeros_0 20 rfl rfl)
theorem dJ27_numberOfTrailingZeros_23 : decode cJ27_numberOfTrailingZeros 23 = .ok (.if_icmp .le 11, 3) := dk_164 0 11 (dk_at dksJ27_numberOfTrailingZeros_1 0 rfl rfl)
theorem dJ27_numberOfTrailingZeros_26 : decode cJ27_numberOfTrailingZeros 26 = .ok (.iinc 1 16, 3) := dk_132 1 16 (dk_at dksJ27_numberOfTrailingZeros_1 3 rfl rfl)
theorem dJ27_numberOfTrailingZeros_29 : decode cJ27_numberOfTrailingZeros 29 = .ok (.iload_n 0, 1) := dk_26 (dk_at dksJ27_numberOfTrailingZeros_1 6 rfl rfl)
theorem dJ27_numberOfTrailingZeros_30 : decode cJ27_numberOfTrailingZeros 30 = .ok (.bipush 16, 2) := dk_16 16 (dk_at dksJ27_numberOfTrailingZeros_1 7 rfl rfl)
theorem dJ27_numberOfTrailingZeros_32 : decode cJ27_numberOfTrailingZeros 32 = .ok (.iushr, 1) := dk_124 (dk_at dksJ27_numberOfTrailingZeros_1 9 rfl rfl)
theorem dJ27_numberOfTrailingZeros_33 : decode cJ27_numberOfTrailingZeros 33 = .ok (.istore_n 0, 1) := dk_59 (dk_at dksJ27_numberOfTrailingZeros_1 10 rfl rfl)
theorem dJ27_numberOfTrailingZeros_34 : decode cJ27_numberOfTrailingZeros 34 = .ok (.iload_n 0, 1) := dk_26 (dk_at dksJ27_numberOfTrailingZeros_1 11 rfl rfl)
theorem dJ27_numberOfTrailingZeros_35 : decode cJ27_numberOfTrailingZeros 35 = .ok (.sipush 256, 3) := dk_17 1 0 (dk_at dksJ27_numberOfTrailingZeros_1 12 rfl rfl)
theorem dJ27_numberOfTrailingZeros_38 : decode cJ27_numberOfTrailingZeros 38 = .ok (.if_icmp .le 11, 3) := dk_164 0 11 (dk_at dksJ27_numberOfTrailingZeros_1 15 rfl rfl)
theorem dJ27_numberOfTrailingZeros_41 : decode cJ27_numberOfTrailingZeros 41 = .ok (.iinc 1 8, 3) := dk_132 1 8 (dk_at dksJ27_numberOfTrailingZeros_1 18 rfl rfl)
theorem dJ27_numberOfTrailingZeros_44 : decode cJ27_numberOfTrailingZeros 44 = .ok (.iload_n 0, 1) := dk_26 (dk_at dksJ27_numberOfTrailingZeros_1 21 rfl rfl)
theorem dJ27_numberOfTrailingZeros_45 : decode cJ27_numberOfTrailingZeros 45 = .ok (.bipush 8, 2) := dk_16 8 (dk_at dksJ27_numberOfTrailingZeros_1 22 rfl rfl)
theorem dJ27_numberOfTrailingZeros_47 : decode cJ27_numberOfTrailingZeros 47 = .ok (.iushr, 1) := dk_124 (dk_at dksJ27_numberOfTrailingZeros_2 0 rfl rfl)
theorem dJ27_numberOfTrailingZeros_48 : decode cJ27_numberOfTrailingZeros 48 = .ok (.istore_n 0, 1) := dk_59 (dk_at dksJ27_numberOfTrailingZeros_2 1 rfl rfl)
theorem dJ27_numberOfTrailingZeros_49 : decode cJ27_numberOfTrailingZeros 49 = .ok (.iload_n 0, 1) := dk_26 (dk_at dksJ27_numberOfTrailingZeros_2 2 rfl rfl)
theorem dJ27_numberOfTrailingZeros_50 : decode cJ27_numberOfTrailingZeros 50 = .ok (.bipush 16, 2) := dk_16 16 (dk_at dksJ27_numberOfTrailingZeros_2 3 rfl rfl)
theorem dJ27_numberOfTrailingZeros_52 : decode cJ27_numberOfTrailingZeros 52 = .ok (.if_icmp .le 10, 3) := dk_164 0 10 (dk_at dksJ27_numberOfTrailingZeros_2 5 rfl rfl)
theorem dJ27_numberOfTrailingZeros_55 : decode cJ27_numberOfTrailingZeros 55 = .ok (.iinc 1 4, 3) := dk_132 1 4 (dk_at dksJ27_numberOfTrailingZeros_2 8 rfl rfl)
theorem dJ27_numberOfTrailingZeros_58 : decode cJ27_numberOfTrailingZeros 58 = .ok (.iload_n 0, 1) := dk_26 (dk_at dksJ27_numberOfTrailingZeros_2 11 rfl rfl)
theorem dJ27_numberOfTrailingZeros_59 : decode cJ27_numberOfTrailingZeros 59 = .ok (.iconst 4, 1) := dk_7 (dk_at dksJ27_numberOfTrailingZeros_2 12 rfl rfl)
theorem dJ27_numberOfTrailingZeros_60 : decode cJ27_numberOfTrailingZeros 60 = .ok (.iushr, 1) := dk_124 (dk_at dksJ27_numberOfTrailingZeros_2 13 rfl rfl)
theorem dJ27_numberOfTrailingZeros_61 : decode cJ27_numberOfTrailingZeros 61 = .ok (.istore_n 0, 1) := dk_59 (dk_at dksJ27_numberOfTrailingZeros_2 14 rfl rfl)
theorem dJ27_numberOfTrailingZeros_62 : decode cJ27_numberOfTrailingZeros 62 = .ok (.iload_n 0, 1) := dk_26 (dk_at dksJ27_numberOfTrailingZeros_2 15 rfl rfl)
theorem dJ27_numberOfTrailingZeros_63 : decode cJ27_numberOfTrailingZeros 63 = .ok (.iconst 4, 1) := dk_7 (dk_at dksJ27_numberOfTrailingZeros_2 16 rfl rfl)
theorem dJ27_numberOfTrailingZeros_64 : decode cJ27_numberOfTrailingZeros 64 = .ok (.if_icmp .le 10, 3) := dk_164 0 10 (dk_at dksJ27_numberOfTrailingZeros_2 17 rfl rfl)
theorem dJ27_numberOfTrailingZeros_67 : decode cJ27_numberOfTrailingZeros 67 = .ok (.iinc 1 2, 3) := dk_132 1 2 (dk_at dksJ27_numberOfTrailingZeros_2 20 rfl rfl)
theorem dJ27_numberOfTrailingZeros_70 : decode cJ27_numberOfTrailingZeros 70 = .ok (.iload_n 0, 1) := dk_26 (dk_at dksJ27_numberOfTrailingZeros_2 23 rfl rfl)
theorem dJ27_numberOfTrailingZeros_71 : decode cJ27_numberOfTrailingZeros 71 = .ok (.iconst 2, 1) := dk_5 (dk_at dksJ27_numberOfTrailingZeros_3 0 rfl rfl)
theorem dJ27_numberOfTrailingZeros_72 : decode cJ27_numberOfTrailingZeros 72 = .ok (.iushr, 1) := dk_124 (dk_at dksJ27_numberOfTrailingZeros_3 1 rfl rfl)
theorem dJ27_numberOfTrailingZeros_73 : decode cJ27_numberOfTrailingZeros 73 = .ok (.istore_n 0, 1) := dk_59 (dk_at dksJ27_numberOfTrailingZeros_3 2 rfl rfl)
theorem dJ27_numberOfTrailingZeros_74 : decode cJ27_numberOfTrailingZeros 74 = .ok (.iload_n 1, 1) := dk_27 (dk_at dksJ27_numberOfTrailingZeros_3 3 rfl rfl)
theorem dJ27_numberOfTrailingZeros_75 : decode cJ27_numberOfTrailingZeros 75 = .ok (.iload_n 0, 1) := dk_26 (dk_at dksJ27_numberOfTrailingZeros_3 4 rfl rfl)
theorem dJ27_numberOfTrailingZeros_76 : decode cJ27_numberOfTrailingZeros 76 = .ok (.iconst 1, 1) := dk_4 (dk_at dksJ27_numberOfTrailingZeros_3 5 rfl rfl)
theorem dJ27_numberOfTrailingZeros_77 : decode cJ27_numberOfTrailingZeros 77 = .ok (.iushr, 1) := dk_124 (dk_at dksJ27_numberOfTrailingZeros_3 6 rfl rfl)
theorem dJ27_numberOfTrailingZeros_78 : decode cJ27_numberOfTrailingZeros 78 = .ok (.iadd, 1) := dk_96 (dk_at dksJ27_numberOfTrailingZeros_3 7 rfl rfl)
theorem dJ27_numberOfTrailingZeros_79 : decode cJ27_numberOfTrailingZeros 79 = .ok (.ireturn, 1) := dk_172 (dk_at dksJ27_numberOfTrailingZeros_3 8 rfl rfl)
theorem q131 : (Jvm.Cond.initialized "java/lang/Integer") ∈ lw_all := lw_g (lw_at lw_m1 36 rfl) rfl
theorem q978 : (Jvm.Cond.static ({ cls := "java/lang/Integer", name := "stringSize", desc := "(I)I" } : Jvm.MethodName)) ∈ lw_all := lw_g (lw_at lw_m4 163 rfl) rfl
theorem q979 : (Jvm.Cond.code ({ cls := "java/lang/Integer", name := "stringSize", desc := "(I)I" } : Jvm.MethodName) prog_27_method_13_code (4 : Nat) (Option.some Jvm.ClassFile.FieldType.int)) ∈ lw_all := lw_g (lw_at lw_m4 164 rfl) rfl
theorem q981 : (Jvm.Cond.static ({ cls := "java/lang/Integer", name := "getChars", desc := "(II[B)I" } : Jvm.MethodName)) ∈ lw_all := lw_g (lw_at lw_m4 166 rfl) rfl
theorem q982 : (Jvm.Cond.code ({ cls := "java/lang/Integer", name := "getChars", desc := "(II[B)I" } : Jvm.MethodName) prog_27_method_12_code (7 : Nat) (Option.some Jvm.ClassFile.FieldType.int)) ∈ lw_all := lw_g (lw_at lw_m4 167 rfl) rfl
theorem q983 : (Jvm.Cond.fieldLink "java/lang/Integer" (83 : Nat) "java/lang/Integer" "DigitOnes" "[B") ∈ lw_all := lw_g (lw_at lw_m4 168 rfl) rfl
theorem q984 : (Jvm.Cond.laysStatic "java/lang/Integer" "DigitOnes" "[B") ∈ lw_tbl := lw_at lw_m4 169 rfl
theorem q985 : (Jvm.Cond.fieldLink "java/lang/Integer" (87 : Nat) "java/lang/Integer" "DigitTens" "[B") ∈ lw_all := lw_g (lw_at lw_m4 170 rfl) rfl
theorem q986 : (Jvm.Cond.laysStatic "java/lang/Integer" "DigitTens" "[B") ∈ lw_tbl := lw_at lw_m4 171 rfl
theorem q1892 : (Jvm.Cond.static ({ cls := "java/lang/Integer", name := "numberOfTrailingZeros", desc := "(I)I" } : Jvm.MethodName)) ∈ lw_all := lw_g (lw_at lw_m8 117 rfl) rfl
theorem q1893 : (Jvm.Cond.code ({ cls := "java/lang/Integer", name := "numberOfTrailingZeros", desc := "(I)I" } : Jvm.MethodName) prog_27_method_48_code (2 : Nat) (Option.some Jvm.ClassFile.FieldType.int)) ∈ lw_all := lw_g (lw_at lw_m8 118 rfl) rfl
theorem q1894 : (Jvm.Cond.constant "java/lang/Integer" (264 : Nat) (65536 : Int32)) ∈ lw_all := lw_g (lw_at lw_m8 119 rfl) rfl

/-! java/util/AbstractList$Itr -/
set_option maxRecDepth 100000
def RJ28 : String := "java/util/AbstractList$Itr"
abbrev cJ28_hasNext : ByteArray := prog_43_method_2_code
def yJ28_hasNext : MethodName := ⟨RJ28, "hasNext", "()Z"⟩
def dkwJ28_hasNext_0 : List UInt8 := [42, 180, 0, 13, 42, 180, 0, 1, 182, 0, 28, 159, 0, 7, 4, 167, 0, 4, 3, 172]
abbrev dktJ28_hasNext_0 : List UInt8 := dkwJ28_hasNext_0 ++ []
theorem dksJ28_hasNext_0 : cJ28_hasNext.data.toList.drop 0 = dktJ28_hasNext_0 := by decide +kernel
theorem dJ28_hasNext_0 : decode cJ28_hasNext 0 = .ok (.aload_n 0, 1) := dk_42 (dk_at dksJ28_hasNext_0 0 rfl rfl)
theorem dJ28_hasNext_1 : decode cJ28_hasNext 1 = .ok (.getfield 13, 3) := dk_180 0 13 (dk_at dksJ28_hasNext_0 1 rfl rfl)
theorem dJ28_hasNext_4 : decode cJ28_hasNext 4 = .ok (.aload_n 0, 1) := dk_42 (dk_at dksJ28_hasNext_0 4 rfl rfl)
theorem dJ28_hasNext_5 : decode cJ28_hasNext 5 = .ok (.getfield 1, 3) := dk_180 0 1 (dk_at dksJ28_hasNext_0 5 rfl rfl)
theorem dJ28_hasNext_8 : decode cJ28_hasNext 8 = .ok (.invokevirtual 28, 3) := dk_182 0 28 (dk_at dksJ28_hasNext_0 8 rfl rfl)
theorem dJ28_hasNext_11 : decode cJ28_hasNext 11 = .ok (.if_icmp .eq 7, 3) := dk_159 0 7 (dk_at dksJ28_hasNext_0 11 rfl rfl)
theorem dJ28_hasNext_14 : decode cJ28_hasNext 14 = .ok (.iconst 1, 1) := dk_4 (dk_at dksJ28_hasNext_0 14 rfl rfl)
theorem dJ28_hasNext_15 : decode cJ28_hasNext 15 = .ok (.goto 4, 3) := dk_167 0 4 (dk_at dksJ28_hasNext_0 15 rfl rfl)
theorem dJ28_hasNext_18 : decode cJ28_hasNext 18 = .ok (.iconst 0, 1) := dk_3 (dk_at dksJ28_hasNext_0 18 rfl rfl)
theorem dJ28_hasNext_19 : decode cJ28_hasNext 19 = .ok (.ireturn, 1) := dk_172 (dk_at dksJ28_hasNext_0 19 rfl rfl)
abbrev cJ28_next : ByteArray := prog_43_method_3_code
def yJ28_next : MethodName := ⟨RJ28, "next", "()Ljava/lang/Object;"⟩
def dkwJ28_next_1 : List UInt8 := [27, 4, 96, 181, 0, 13, 44, 176, 76, 42, 182, 0, 32, 187, 0, 41, 89, 43, 183, 0, 43, 191]
abbrev dktJ28_next_1 : List UInt8 := dkwJ28_next_1 ++ []
def dkwJ28_next_0 : List UInt8 := [42, 182, 0, 32, 42, 180, 0, 13, 60, 42, 180, 0, 1, 27, 182, 0, 35, 77, 42, 27, 181, 0, 17, 42]
abbrev dktJ28_next_0 : List UInt8 := dkwJ28_next_0 ++ dktJ28_next_1
theorem dksJ28_next_0 : cJ28_next.data.toList.drop 0 = dktJ28_next_0 := by decide +kernel
theorem dksJ28_next_1 : cJ28_next.data.toList.drop 24 = dktJ28_next_1 := dk_seg dksJ28_next_0 24 rfl rfl
theorem dJ28_next_0 : decode cJ28_next 0 = .ok (.aload_n 0, 1) := dk_42 (dk_at dksJ28_next_0 0 rfl rfl)
theorem dJ28_next_1 : decode cJ28_next 1 = .ok (.invokevirtual 32, 3) := dk_182 0 32 (dk_at dksJ28_next_0 1 rfl rfl)
theorem dJ28_next_4 : decode cJ28_next 4 = .ok (.aload_n 0, 1) := dk_42 (dk_at dksJ28_next_0 4 rfl rfl)
theorem dJ28_next_5 : decode cJ28_next 5 = .ok (.getfield 13, 3) := dk_180 0 13 (dk_at dksJ28_next_0 5 rfl rfl)
theorem dJ28_next_8 : decode cJ28_next 8 = .ok (.istore_n 1, 1) := dk_60 (dk_at dksJ28_next_0 8 rfl rfl)
theorem dJ28_next_9 : decode cJ28_next 9 = .ok (.aload_n 0, 1) := dk_42 (dk_at dksJ28_next_0 9 rfl rfl)
theorem dJ28_next_10 : decode cJ28_next 10 = .ok (.getfield 1, 3) := dk_180 0 1 (dk_at dksJ28_next_0 10 rfl rfl)
theorem dJ28_next_13 : decode cJ28_next 13 = .ok (.iload_n 1, 1) := dk_27 (dk_at dksJ28_next_0 13 rfl rfl)
theorem dJ28_next_14 : decode cJ28_next 14 = .ok (.invokevirtual 35, 3) := dk_182 0 35 (dk_at dksJ28_next_0 14 rfl rfl)
theorem dJ28_next_17 : decode cJ28_next 17 = .ok (.astore_n 2, 1) := dk_77 (dk_at dksJ28_next_0 17 rfl rfl)
theorem dJ28_next_18 : decode cJ28_next 18 = .ok (.aload_n 0, 1) := dk_42 (dk_at dksJ28_next_0 18 rfl rfl)
theorem dJ28_next_19 : decode cJ28_next 19 = .ok (.iload_n 1, 1) := dk_27 (dk_at dksJ28_next_0 19 rfl rfl)
theorem dJ28_next_20 : decode cJ28_next 20 = .ok (.putfield 17, 3) := dk_181 0 17 (dk_at dksJ28_next_0 20 rfl rfl)
theorem dJ28_next_23 : decode cJ28_next 23 = .ok (.aload_n 0, 1) := dk_42 (dk_at dksJ28_next_0 23 rfl rfl)
theorem dJ28_next_24 : decode cJ28_next 24 = .ok (.iload_n 1, 1) := dk_27 (dk_at dksJ28_next_1 0 rfl rfl)
theorem dJ28_next_25 : decode cJ28_next 25 = .ok (.iconst 1, 1) := dk_4 (dk_at dksJ28_next_1 1 rfl rfl)
theorem dJ28_next_26 : decode cJ28_next 26 = .ok (.iadd, 1) := dk_96 (dk_at dksJ28_next_1 2 rfl rfl)
theorem dJ28_next_27 : decode cJ28_next 27 = .ok (.putfield 13, 3) := dk_181 0 13 (dk_at dksJ28_next_1 3 rfl rfl)
theorem dJ28_next_30 : decode cJ28_next 30 = .ok (.aload_n 2, 1) := dk_44 (dk_at dksJ28_next_1 6 rfl rfl)
theorem dJ28_next_31 : decode cJ28_next 31 = .ok (.areturn, 1) := dk_176 (dk_at dksJ28_next_1 7 rfl rfl)
theorem dJ28_next_32 : decode cJ28_next 32 = .ok (.astore_n 1, 1) := dk_76 (dk_at dksJ28_next_1 8 rfl rfl)
theorem dJ28_next_33 : decode cJ28_next 33 = .ok (.aload_n 0, 1) := dk_42 (dk_at dksJ28_next_1 9 rfl rfl)
theorem dJ28_next_34 : decode cJ28_next 34 = .ok (.invokevirtual 32, 3) := dk_182 0 32 (dk_at dksJ28_next_1 10 rfl rfl)
theorem dJ28_next_37 : decode cJ28_next 37 = .ok (.new 41, 3) := dk_187 0 41 (dk_at dksJ28_next_1 13 rfl rfl)
theorem dJ28_next_40 : decode cJ28_next 40 = .ok (.dup, 1) := dk_89 (dk_at dksJ28_next_1 16 rfl rfl)
theorem dJ28_next_41 : decode cJ28_next 41 = .ok (.aload_n 1, 1) := dk_43 (dk_at dksJ28_next_1 17 rfl rfl)
theorem dJ28_next_42 : decode cJ28_next 42 = .ok (.invokespecial 43, 3) := dk_183 0 43 (dk_at dksJ28_next_1 18 rfl rfl)
theorem dJ28_next_45 : decode cJ28_next 45 = .ok (.athrow, 1) := dk_191 (dk_at dksJ28_next_1 21 rfl rfl)
abbrev cJ28_checkForComodification : ByteArray := prog_43_method_5_code
def yJ28_checkForComodification : MethodName := ⟨RJ28, "checkForComodification", "()V"⟩
def dkwJ28_checkForComodification_0 : List UInt8 := [42, 180, 0, 1, 180, 0, 20, 42, 180, 0, 25, 159, 0, 11, 187, 0, 52, 89, 183, 0, 54, 191, 177]
abbrev dktJ28_checkForComodification_0 : List UInt8 := dkwJ28_checkForComodification_0 ++ []
theorem dksJ28_checkForComodification_0 : cJ28_checkForComodification.data.toList.drop 0 = dktJ28_checkForComodification_0 := by decide +kernel
theorem dJ28_checkForComodification_0 : decode cJ28_checkForComodification 0 = .ok (.aload_n 0, 1) := dk_42 (dk_at dksJ28_checkForComodification_0 0 rfl rfl)
theorem dJ28_checkForComodification_1 : decode cJ28_checkForComodification 1 = .ok (.getfield 1, 3) := dk_180 0 1 (dk_at dksJ28_checkForComodification_0 1 rfl rfl)
theorem dJ28_checkForComodification_4 : decode cJ28_checkForComodification 4 = .ok (.getfield 20, 3) := dk_180 0 20 (dk_at dksJ28_checkForComodification_0 4 rfl rfl)
theorem dJ28_checkForComodification_7 : decode cJ28_checkForComodification 7 = .ok (.aload_n 0, 1) := dk_42 (dk_at dksJ28_checkForComodification_0 7 rfl rfl)
theorem dJ28_checkForComodification_8 : decode cJ28_checkForComodification 8 = .ok (.getfield 25, 3) := dk_180 0 25 (dk_at dksJ28_checkForComodification_0 8 rfl rfl)
theorem dJ28_checkForComodification_11 : decode cJ28_checkForComodification 11 = .ok (.if_icmp .eq 11, 3) := dk_159 0 11 (dk_at dksJ28_checkForComodification_0 11 rfl rfl)
theorem dJ28_checkForComodification_14 : decode cJ28_checkForComodification 14 = .ok (.new 52, 3) := dk_187 0 52 (dk_at dksJ28_checkForComodification_0 14 rfl rfl)
theorem dJ28_checkForComodification_17 : decode cJ28_checkForComodification 17 = .ok (.dup, 1) := dk_89 (dk_at dksJ28_checkForComodification_0 17 rfl rfl)
theorem dJ28_checkForComodification_18 : decode cJ28_checkForComodification 18 = .ok (.invokespecial 54, 3) := dk_183 0 54 (dk_at dksJ28_checkForComodification_0 18 rfl rfl)
theorem dJ28_checkForComodification_21 : decode cJ28_checkForComodification 21 = .ok (.athrow, 1) := dk_191 (dk_at dksJ28_checkForComodification_0 21 rfl rfl)
theorem dJ28_checkForComodification_22 : decode cJ28_checkForComodification 22 = .ok (.return_, 1) := dk_177 (dk_at dksJ28_checkForComodification_0 22 rfl rfl)
abbrev cJ28_remove : ByteArray := prog_43_method_4_code
def yJ28_remove : MethodName := ⟨RJ28, "remove", "()V"⟩
def dkwJ28_remove_3 : List UInt8 := [187, 0, 52, 89, 183, 0, 54, 191, 177]
abbrev dktJ28_remove_3 : List UInt8 := dkwJ28_remove_3 ++ []
def dkwJ28_remove_2 : List UInt8 := [100, 181, 0, 13, 42, 2, 181, 0, 17, 42, 42, 180, 0, 1, 180, 0, 20, 181, 0, 25, 167, 0, 12, 76]
abbrev dktJ28_remove_2 : List UInt8 := dkwJ28_remove_2 ++ dktJ28_remove_3
def dkwJ28_remove_1 : List UInt8 := [180, 0, 17, 182, 0, 49, 87, 42, 180, 0, 17, 42, 180, 0, 13, 162, 0, 13, 42, 89, 180, 0, 13, 4]
abbrev dktJ28_remove_1 : List UInt8 := dkwJ28_remove_1 ++ dktJ28_remove_2
def dkwJ28_remove_0 : List UInt8 := [42, 180, 0, 17, 156, 0, 11, 187, 0, 46, 89, 183, 0, 48, 191, 42, 182, 0, 32, 42, 180, 0, 1, 42]
abbrev dktJ28_remove_0 : List UInt8 := dkwJ28_remove_0 ++ dktJ28_remove_1
theorem dksJ28_remove_0 : cJ28_remove.data.toList.drop 0 = dktJ28_remove_0 := by decide +kernel
theorem dksJ28_remove_1 : cJ28_remove.data.toList.drop 24 = dktJ28_remove_1 := dk_seg dksJ28_remove_0 24 rfl rfl
theorem dksJ28_remove_2 : cJ28_remove.data.toList.drop 48 = dktJ28_remove_2 := dk_seg dksJ28_remove_1 24 rfl rfl
theorem dksJ28_remove_3 : cJ28_remove.data.toList.drop 72 = dktJ28_remove_3 := dk_seg dksJ28_remove_2 24 rfl rfl
theorem dJ28_remove_0 : decode cJ28_remove 0 = .ok (.aload_n 0, 1) := dk_42 (dk_at dksJ28_remove_0 0 rfl rfl)
theorem dJ28_remove_1 : decode cJ28_remove 1 = .ok (.getfield 17, 3) := dk_180 0 17 (dk_at dksJ28_remove_0 1 rfl rfl)
theorem dJ28_remove_4 : decode cJ28_remove 4 = .ok (.ifCond .ge 11, 3) := dk_156 0 11 (dk_at dksJ28_remove_0 4 rfl rfl)
theorem dJ28_remove_7 : decode cJ28_remove 7 = .ok (.new 46, 3) := dk_187 0 46 (dk_at dksJ28_remove_0 7 rfl rfl)
theorem dJ28_remove_10 : decode cJ28_remove 10 = .ok (.dup, 1) := dk_89 (dk_at dksJ28_remove_0 10 rfl rfl)
theorem dJ28_remove_11 : decode cJ28_remove 11 = .ok (.invokespecial 48, 3) := dk_183 0 48 (dk_at dksJ28_remove_0 11 rfl rfl)
theorem dJ28_remove_14 : decode cJ28_remove 14 = .ok (.athrow, 1) := dk_191 (dk_at dksJ28_remove_0 14 rfl rfl)
theorem dJ28_remove_15 : decode cJ28_remove 15 = .ok (.aload_n 0, 1) := dk_42 (dk_at dksJ28_remove_0 15 rfl rfl)
theorem dJ28_remove_16 : decode cJ28_remove 16 = .ok (.invokevirtual 32, 3) := dk_182 0 32 (dk_at dksJ28_remove_0 16 rfl rfl)
theorem dJ28_remove_19 : decode cJ28_remove 19 = .ok (.aload_n 0, 1) := dk_42 (dk_at dksJ28_remove_0 19 rfl rfl)
theorem dJ28_remove_20 : decode cJ28_remove 20 = .ok (.getfield 1, 3) := dk_180 0 1 (dk_at dksJ28_remove_0 20 rfl rfl)
theorem dJ28_remove_23 : decode cJ28_remove 23 = .ok (.aload_n 0, 1) := dk_42 (dk_at dksJ28_remove_0 23 rfl rfl)
theorem dJ28_remove_24 : decode cJ28_remove 24 = .ok (.getfield 17, 3) := dk_180 0 17 (dk_at dksJ28_remove_1 0 rfl rfl)
theorem dJ28_remove_27 : decode cJ28_remove 27 = .ok (.invokevirtual 49, 3) := dk_182 0 49 (dk_at dksJ28_remove_1 3 rfl rfl)
theorem dJ28_remove_30 : decode cJ28_remove 30 = .ok (.pop, 1) := dk_87 (dk_at dksJ28_remove_1 6 rfl rfl)
theorem dJ28_remove_31 : decode cJ28_remove 31 = .ok (.aload_n 0, 1) := dk_42 (dk_at dksJ28_remove_1 7 rfl rfl)
theorem dJ28_remove_32 : decode cJ28_remove 32 = .ok (.getfield 17, 3) := dk_180 0 17 (dk_at dksJ28_remove_1 8 rfl rfl)
theorem dJ28_remove_35 : decode cJ28_remove 35 = .ok (.aload_n 0, 1) := dk_42 (dk_at dksJ28_remove_1 11 rfl rfl)
theorem dJ28_remove_36 : decode cJ28_remove 36 = .ok (.getfield 13, 3) := dk_180 0 13 (dk_at dksJ28_remove_1 12 rfl rfl)
theorem dJ28_remove_39 : decode cJ28_remove 39 = .ok (.if_icmp .ge 13, 3) := dk_162 0 13 (dk_at dksJ28_remove_1 15 rfl rfl)
theorem dJ28_remove_42 : decode cJ28_remove 42 = .ok (.aload_n 0, 1) := dk_42 (dk_at dksJ28_remove_1 18 rfl rfl)
theorem dJ28_remove_43 : decode cJ28_remove 43 = .ok (.dup, 1) := dk_89 (dk_at dksJ28_remove_1 19 rfl rfl)
theorem dJ28_remove_44 : decode cJ28_remove 44 = .ok (.getfield 13, 3) := dk_180 0 13 (dk_at dksJ28_remove_1 20 rfl rfl)
theorem dJ28_remove_47 : decode cJ28_remove 47 = .ok (.iconst 1, 1) := dk_4 (dk_at dksJ28_remove_1 23 rfl rfl)
theorem dJ28_remove_48 : decode cJ28_remove 48 = .ok (.isub, 1) := dk_100 (dk_at dksJ28_remove_2 0 rfl rfl)
theorem dJ28_remove_49 : decode cJ28_remove 49 = .ok (.putfield 13, 3) := dk_181 0 13 (dk_at dksJ28_remove_2 1 rfl rfl)
theorem dJ28_remove_52 : decode cJ28_remove 52 = .ok (.aload_n 0, 1) := dk_42 (dk_at dksJ28_remove_2 4 rfl rfl)
theorem dJ28_remove_53 : decode cJ28_remove 53 = .ok (.iconst (-1), 1) := dk_2 (dk_at dksJ28_remove_2 5 rfl rfl)
theorem dJ28_remove_54 : decode cJ28_remove 54 = .ok (.putfield 17, 3) := dk_181 0 17 (dk_at dksJ28_remove_2 6 rfl rfl)
theorem dJ28_remove_57 : decode cJ28_remove 57 = .ok (.aload_n 0, 1) := dk_42 (dk_at dksJ28_remove_2 9 rfl rfl)
theorem dJ28_remove_58 : decode cJ28_remove 58 = .ok (.aload_n 0, 1) := dk_42 (dk_at dksJ28_remove_2 10 rfl rfl)
theorem dJ28_remove_59 : decode cJ28_remove 59 = .ok (.getfield 1, 3) := dk_180 0 1 (dk_at dksJ28_remove_2 11 rfl rfl)
theorem dJ28_remove_62 : decode cJ28_remove 62 = .ok (.getfield 20, 3) := dk_180 0 20 (dk_at dksJ28_remove_2 14 rfl rfl)
theorem dJ28_remove_65 : decode cJ28_remove 65 = .ok (.putfield 25, 3) := dk_181 0 25 (dk_at dksJ28_remove_2 17 rfl rfl)
theorem dJ28_remove_68 : decode cJ28_remove 68 = .ok (.goto 12, 3) := dk_167 0 12 (dk_at dksJ28_remove_2 20 rfl rfl)
theorem dJ28_remove_71 : decode cJ28_remove 71 = .ok (.astore_n 1, 1) := dk_76 (dk_at dksJ28_remove_2 23 rfl rfl)
theorem dJ28_remove_72 : decode cJ28_remove 72 = .ok (.new 52, 3) := dk_187 0 52 (dk_at dksJ28_remove_3 0 rfl rfl)
theorem dJ28_remove_75 : decode cJ28_remove 75 = .ok (.dup, 1) := dk_89 (dk_at dksJ28_remove_3 3 rfl rfl)
theorem dJ28_remove_76 : decode cJ28_remove 76 = .ok (.invokespecial 54, 3) := dk_183 0 54 (dk_at dksJ28_remove_3 4 rfl rfl)
theorem dJ28_remove_79 : decode cJ28_remove 79 = .ok (.athrow, 1) := dk_191 (dk_at dksJ28_remove_3 7 rfl rfl)
theorem dJ28_remove_80 : decode cJ28_remove 80 = .ok (.return_, 1) := dk_177 (dk_at dksJ28_remove_3 8 rfl rfl)
theorem q138 : (Jvm.Cond.initialized "java/util/AbstractList$Itr") ∈ lw_all := lw_g (lw_at lw_m1 43 rfl) rfl
theorem q191 : (Jvm.Cond.fieldLink "java/util/AbstractList$Itr" (20 : Nat) "java/util/AbstractList" "modCount" "I") ∈ lw_all := lw_g (lw_at lw_m1 96 rfl) rfl
theorem q1611 : (Jvm.Cond.instanceMethod ({ cls := "java/util/AbstractList$Itr", name := "hasNext", desc := "()Z" } : Jvm.MethodName)) ∈ lw_all := lw_g (lw_at lw_m7 76 rfl) rfl
theorem q1612 : (Jvm.Cond.publicMethod ({ cls := "java/util/AbstractList$Itr", name := "hasNext", desc := "()Z" } : Jvm.MethodName)) ∈ lw_tbl := lw_at lw_m7 77 rfl
theorem q1613 : (Jvm.Cond.code ({ cls := "java/util/AbstractList$Itr", name := "hasNext", desc := "()Z" } : Jvm.MethodName) prog_43_method_2_code (1 : Nat) (Option.some Jvm.ClassFile.FieldType.boolean)) ∈ lw_all := lw_g (lw_at lw_m7 78 rfl) rfl
theorem q1614 : (Jvm.Cond.methodLink "java/util/AbstractList$Itr" (28 : Nat) ({ cls := "java/util/AbstractList", name := "size", desc := "()I" } : Jvm.MethodName)) ∈ lw_all := lw_g (lw_at lw_m7 79 rfl) rfl
theorem q1642 : (Jvm.Cond.instanceMethod ({ cls := "java/util/AbstractList$Itr", name := "next", desc := "()Ljava/lang/Object;" } : Jvm.MethodName)) ∈ lw_all := lw_g (lw_at lw_m7 107 rfl) rfl
theorem q1643 : (Jvm.Cond.publicMethod ({ cls := "java/util/AbstractList$Itr", name := "next", desc := "()Ljava/lang/Object;" } : Jvm.MethodName)) ∈ lw_tbl := lw_at lw_m7 108 rfl
theorem q1644 : (Jvm.Cond.codeWith ({ cls := "java/util/AbstractList$Itr", name := "next", desc := "()Ljava/lang/Object;" } : Jvm.MethodName) prog_43_method_3_code (3 : Nat) (Option.some (Jvm.ClassFile.FieldType.object "java/lang/Object")) [((4 : Nat), (31 : Nat), (32 : Nat), (39 : Nat))]) ∈ lw_all := lw_g (lw_at lw_m7 109 rfl) rfl
theorem q1645 : (Jvm.Cond.methodLink "java/util/AbstractList$Itr" (32 : Nat) ({ cls := "java/util/AbstractList$Itr", name := "checkForComodification", desc := "()V" } : Jvm.MethodName)) ∈ lw_all := lw_g (lw_at lw_m7 110 rfl) rfl
theorem q1646 : (Jvm.Cond.instanceMethod ({ cls := "java/util/AbstractList$Itr", name := "checkForComodification", desc := "()V" } : Jvm.MethodName)) ∈ lw_all := lw_g (lw_at lw_m7 111 rfl) rfl
theorem q1647 : (Jvm.Cond.sameMethod "java/util/AbstractList$Itr" "java/util/AbstractList$Itr" "checkForComodification" "()V") ∈ lw_all := lw_g (lw_at lw_m7 112 rfl) rfl
theorem q1649 : (Jvm.Cond.code ({ cls := "java/util/AbstractList$Itr", name := "checkForComodification", desc := "()V" } : Jvm.MethodName) prog_43_method_5_code (1 : Nat) (Option.none : Option Jvm.ClassFile.FieldType)) ∈ lw_all := lw_g (lw_at lw_m7 114 rfl) rfl
theorem q1650 : (Jvm.Cond.methodLink "java/util/AbstractList$Itr" (35 : Nat) ({ cls := "java/util/AbstractList", name := "get", desc := "(I)Ljava/lang/Object;" } : Jvm.MethodName)) ∈ lw_all := lw_g (lw_at lw_m7 115 rfl) rfl
theorem q1655 : (Jvm.Cond.classLink "java/util/AbstractList$Itr" (41 : Nat) "java/util/NoSuchElementException") ∈ lw_all := lw_g (lw_at lw_m7 120 rfl) rfl
theorem q1664 : (Jvm.Cond.methodLink "java/util/AbstractList$Itr" (43 : Nat) ({ cls := "java/util/NoSuchElementException", name := "<init>", desc := "(Ljava/lang/Throwable;)V" } : Jvm.MethodName)) ∈ lw_all := lw_g (lw_at lw_m7 129 rfl) rfl
theorem q1930 : (Jvm.Cond.instanceMethod ({ cls := "java/util/AbstractList$Itr", name := "remove", desc := "()V" } : Jvm.MethodName)) ∈ lw_all := lw_g (lw_at lw_m8 155 rfl) rfl
theorem q1931 : (Jvm.Cond.publicMethod ({ cls := "java/util/AbstractList$Itr", name := "remove", desc := "()V" } : Jvm.MethodName)) ∈ lw_tbl := lw_at lw_m8 156 rfl
theorem q1932 : (Jvm.Cond.codeWith ({ cls := "java/util/AbstractList$Itr", name := "remove", desc := "()V" } : Jvm.MethodName) prog_43_method_4_code (2 : Nat) (Option.none : Option Jvm.ClassFile.FieldType) [((19 : Nat), (68 : Nat), (71 : Nat), (39 : Nat))]) ∈ lw_all := lw_g (lw_at lw_m8 157 rfl) rfl
theorem q1933 : (Jvm.Cond.classLink "java/util/AbstractList$Itr" (46 : Nat) "java/lang/IllegalStateException") ∈ lw_all := lw_g (lw_at lw_m8 158 rfl) rfl
theorem q1942 : (Jvm.Cond.methodLink "java/util/AbstractList$Itr" (48 : Nat) ({ cls := "java/lang/IllegalStateException", name := "<init>", desc := "()V" } : Jvm.MethodName)) ∈ lw_all := lw_g (lw_at lw_m8 167 rfl) rfl
theorem q1954 : (Jvm.Cond.methodLink "java/util/AbstractList$Itr" (49 : Nat) ({ cls := "java/util/AbstractList", name := "remove", desc := "(I)Ljava/lang/Object;" } : Jvm.MethodName)) ∈ lw_all := lw_g (lw_at lw_m8 179 rfl) rfl
theorem q1966 : (Jvm.Cond.classLink "java/util/AbstractList$Itr" (52 : Nat) "java/util/ConcurrentModificationException") ∈ lw_all := lw_g (lw_at lw_m8 191 rfl) rfl
theorem q1975 : (Jvm.Cond.methodLink "java/util/AbstractList$Itr" (54 : Nat) ({ cls := "java/util/ConcurrentModificationException", name := "<init>", desc := "()V" } : Jvm.MethodName)) ∈ lw_all := lw_g (lw_at lw_m8 200 rfl) rfl
theorem q2742 : (Jvm.Cond.fieldLink "java/util/AbstractList$Itr" (1 : Nat) "java/util/AbstractList$Itr" "this$0" "Ljava/util/AbstractList;") ∈ lw_all := lw_g (lw_at lw_m12 7 rfl) rfl
theorem q2743 : (Jvm.Cond.fieldLink "java/util/AbstractList$Itr" (13 : Nat) "java/util/AbstractList$Itr" "cursor" "I") ∈ lw_all := lw_g (lw_at lw_m12 8 rfl) rfl
theorem q2744 : (Jvm.Cond.fieldLink "java/util/AbstractList$Itr" (17 : Nat) "java/util/AbstractList$Itr" "lastRet" "I") ∈ lw_all := lw_g (lw_at lw_m12 9 rfl) rfl
theorem q2745 : (Jvm.Cond.fieldLink "java/util/AbstractList$Itr" (25 : Nat) "java/util/AbstractList$Itr" "expectedModCount" "I") ∈ lw_all := lw_g (lw_at lw_m12 10 rfl) rfl

/-! java/util/ArrayList$Itr -/
set_option maxRecDepth 100000
def RJ29 : String := "java/util/ArrayList$Itr"
abbrev cJ29_init : ByteArray := prog_49_method_1_code
def yJ29_init : MethodName := ⟨RJ29, "<init>", "(Ljava/util/ArrayList;)V"⟩
def dkwJ29_init_1 : List UInt8 := [181, 0, 22, 177]
abbrev dktJ29_init_1 : List UInt8 := dkwJ29_init_1 ++ []
def dkwJ29_init_0 : List UInt8 := [42, 43, 181, 0, 1, 42, 183, 0, 7, 42, 2, 181, 0, 13, 42, 42, 180, 0, 1, 180, 0, 17]
abbrev dktJ29_init_0 : List UInt8 := dkwJ29_init_0 ++ dktJ29_init_1
theorem dksJ29_init_0 : cJ29_init.data.toList.drop 0 = dktJ29_init_0 := by decide +kernel
theorem dksJ29_init_1 : cJ29_init.data.toList.drop 22 = dktJ29_init_1 := dk_seg dksJ29_init_0 22 rfl rfl
theorem dJ29_init_0 : decode cJ29_init 0 = .ok (.aload_n 0, 1) := dk_42 (dk_at dksJ29_init_0 0 rfl rfl)
theorem dJ29_init_1 : decode cJ29_init 1 = .ok (.aload_n 1, 1) := dk_43 (dk_at dksJ29_init_0 1 rfl rfl)
theorem dJ29_init_2 : decode cJ29_init 2 = .ok (.putfield 1, 3) := dk_181 0 1 (dk_at dksJ29_init_0 2 rfl rfl)
theorem dJ29_init_5 : decode cJ29_init 5 = .ok (.aload_n 0, 1) := dk_42 (dk_at dksJ29_init_0 5 rfl rfl)
theorem dJ29_init_6 : decode cJ29_init 6 = .ok (.invokespecial 7, 3) := dk_183 0 7 (dk_at dksJ29_init_0 6 rfl rfl)
theorem dJ29_init_9 : decode cJ29_init 9 = .ok (.aload_n 0, 1) := dk_42 (dk_at dksJ29_init_0 9 rfl rfl)
theorem dJ29_init_10 : decode cJ29_init 10 = .ok (.iconst (-1), 1) := dk_2 (dk_at dksJ29_init_0 10 rfl rfl)
theorem dJ29_init_11 : decode cJ29_init 11 = .ok (.putfield 13, 3) := dk_181 0 13 (dk_at dksJ29_init_0 11 rfl rfl)
theorem dJ29_init_14 : decode cJ29_init 14 = .ok (.aload_n 0, 1) := dk_42 (dk_at dksJ29_init_0 14 rfl rfl)
theorem dJ29_init_15 : decode cJ29_init 15 = .ok (.aload_n 0, 1) := dk_42 (dk_at dksJ29_init_0 15 rfl rfl)
theorem dJ29_init_16 : decode cJ29_init 16 = .ok (.getfield 1, 3) := dk_180 0 1 (dk_at dksJ29_init_0 16 rfl rfl)
theorem dJ29_init_19 : decode cJ29_init 19 = .ok (.getfield 17, 3) := dk_180 0 17 (dk_at dksJ29_init_0 19 rfl rfl)
theorem dJ29_init_22 : decode cJ29_init 22 = .ok (.putfield 22, 3) := dk_181 0 22 (dk_at dksJ29_init_1 0 rfl rfl)
theorem dJ29_init_25 : decode cJ29_init 25 = .ok (.return_, 1) := dk_177 (dk_at dksJ29_init_1 3 rfl rfl)
abbrev cJ29_hasNext : ByteArray := prog_49_method_2_code
def yJ29_hasNext : MethodName := ⟨RJ29, "hasNext", "()Z"⟩
def dkwJ29_hasNext_0 : List UInt8 := [42, 180, 0, 25, 42, 180, 0, 1, 180, 0, 28, 159, 0, 7, 4, 167, 0, 4, 3, 172]
abbrev dktJ29_hasNext_0 : List UInt8 := dkwJ29_hasNext_0 ++ []
theorem dksJ29_hasNext_0 : cJ29_hasNext.data.toList.drop 0 = dktJ29_hasNext_0 := by decide +kernel
theorem dJ29_hasNext_0 : decode cJ29_hasNext 0 = .ok (.aload_n 0, 1) := dk_42 (dk_at dksJ29_hasNext_0 0 rfl rfl)
theorem dJ29_hasNext_1 : decode cJ29_hasNext 1 = .ok (.getfield 25, 3) := dk_180 0 25 (dk_at dksJ29_hasNext_0 1 rfl rfl)
theorem dJ29_hasNext_4 : decode cJ29_hasNext 4 = .ok (.aload_n 0, 1) := dk_42 (dk_at dksJ29_hasNext_0 4 rfl rfl)
theorem dJ29_hasNext_5 : decode cJ29_hasNext 5 = .ok (.getfield 1, 3) := dk_180 0 1 (dk_at dksJ29_hasNext_0 5 rfl rfl)
theorem dJ29_hasNext_8 : decode cJ29_hasNext 8 = .ok (.getfield 28, 3) := dk_180 0 28 (dk_at dksJ29_hasNext_0 8 rfl rfl)
theorem dJ29_hasNext_11 : decode cJ29_hasNext 11 = .ok (.if_icmp .eq 7, 3) := dk_159 0 7 (dk_at dksJ29_hasNext_0 11 rfl rfl)
theorem dJ29_hasNext_14 : decode cJ29_hasNext 14 = .ok (.iconst 1, 1) := dk_4 (dk_at dksJ29_hasNext_0 14 rfl rfl)
theorem dJ29_hasNext_15 : decode cJ29_hasNext 15 = .ok (.goto 4, 3) := dk_167 0 4 (dk_at dksJ29_hasNext_0 15 rfl rfl)
theorem dJ29_hasNext_18 : decode cJ29_hasNext 18 = .ok (.iconst 0, 1) := dk_3 (dk_at dksJ29_hasNext_0 18 rfl rfl)
theorem dJ29_hasNext_19 : decode cJ29_hasNext 19 = .ok (.ireturn, 1) := dk_172 (dk_at dksJ29_hasNext_0 19 rfl rfl)
abbrev cJ29_next : ByteArray := prog_49_method_3_code
def yJ29_next : MethodName := ⟨RJ29, "next", "()Ljava/lang/Object;"⟩
def dkwJ29_next_2 : List UInt8 := [183, 0, 43, 191, 42, 27, 4, 96, 181, 0, 25, 44, 42, 27, 90, 181, 0, 13, 50, 176]
abbrev dktJ29_next_2 : List UInt8 := dkwJ29_next_2 ++ []
def dkwJ29_next_1 : List UInt8 := [183, 0, 36, 191, 42, 180, 0, 1, 180, 0, 37, 77, 27, 44, 190, 161, 0, 11, 187, 0, 41, 89]
abbrev dktJ29_next_1 : List UInt8 := dkwJ29_next_1 ++ dktJ29_next_2
def dkwJ29_next_0 : List UInt8 := [42, 182, 0, 31, 42, 180, 0, 25, 60, 27, 42, 180, 0, 1, 180, 0, 28, 161, 0, 11, 187, 0, 34, 89]
abbrev dktJ29_next_0 : List UInt8 := dkwJ29_next_0 ++ dktJ29_next_1
theorem dksJ29_next_0 : cJ29_next.data.toList.drop 0 = dktJ29_next_0 := by decide +kernel
theorem dksJ29_next_1 : cJ29_next.data.toList.drop 24 = dktJ29_next_1 := dk_seg dksJ29_next_0 24 rfl rfl
theorem dksJ29_next_2 : cJ29_next.data.toList.drop 46 = dktJ29_next_2 := dk_seg dksJ29_next_1 22 rfl rfl
theorem dJ29_next_0 : decode cJ29_next 0 = .ok (.aload_n 0, 1) := dk_42 (dk_at dksJ29_next_0 0 rfl rfl)
theorem dJ29_next_1 : decode cJ29_next 1 = .ok (.invokevirtual 31, 3) := dk_182 0 31 (dk_at dksJ29_next_0 1 rfl rfl)
theorem dJ29_next_4 : decode cJ29_next 4 = .ok (.aload_n 0, 1) := dk_42 (dk_at dksJ29_next_0 4 rfl rfl)
theorem dJ29_next_5 : decode cJ29_next 5 = .ok (.getfield 25, 3) := dk_180 0 25 (dk_at dksJ29_next_0 5 rfl rfl)
theorem dJ29_next_8 : decode cJ29_next 8 = .ok (.istore_n 1, 1) := dk_60 (dk_at dksJ29_next_0 8 rfl rfl)
theorem dJ29_next_9 : decode cJ29_next 9 = .ok (.iload_n 1, 1) := dk_27 (dk_at dksJ29_next_0 9 rfl rfl)
theorem dJ29_next_10 : decode cJ29_next 10 = .ok (.aload_n 0, 1) := dk_42 (dk_at dksJ29_next_0 10 rfl rfl)
theorem dJ29_next_11 : decode cJ29_next 11 = .ok (.getfield 1, 3) := dk_180 0 1 (dk_at dksJ29_next_0 11 rfl rfl)
theorem dJ29_next_14 : decode cJ29_next 14 = .ok (.getfield 28, 3) := dk_180 0 28 (dk_at dksJ29_next_0 14 rfl rfl)
theorem dJ29_next_17 : decode cJ29_next 17 = .ok (.if_icmp .lt 11, 3) := dk_161 0 11 (dk_at dksJ29_next_0 17 rfl rfl)
theorem dJ29_next_20 : decode cJ29_next 20 = .ok (.new 34, 3) := dk_187 0 34 (dk_at dksJ29_next_0 20 rfl rfl)
theorem dJ29_next_23 : decode cJ29_next 23 = .ok (.dup, 1) := dk_89 (dk_at dksJ29_next_0 23 rfl rfl)
theorem dJ29_next_24 : decode cJ29_next 24 = .ok (.invokespecial 36, 3) := dk_183 0 36 (dk_at dksJ29_next_1 0 rfl rfl)
theorem dJ29_next_27 : decode cJ29_next 27 = .ok (.athrow, 1) := dk_191 (dk_at dksJ29_next_1 3 rfl rfl)
theorem dJ29_next_28 : decode cJ29_next 28 = .ok (.aload_n 0, 1) := dk_42 (dk_at dksJ29_next_1 4 rfl rfl)
theorem dJ29_next_29 : decode cJ29_next 29 = .ok (.getfield 1, 3) := dk_180 0 1 (dk_at dksJ29_next_1 5 rfl rfl)
theorem dJ29_next_32 : decode cJ29_next 32 = .ok (.getfield 37, 3) := dk_180 0 37 (dk_at dksJ29_next_1 8 rfl rfl)
theorem dJ29_next_35 : decode cJ29_next 35 = .ok (.astore_n 2, 1) := dk_77 (dk_at dksJ29_next_1 11 rfl rfl)
theorem dJ29_next_36 : decode cJ29_next 36 = .ok (.iload_n 1, 1) := dk_27 (dk_at dksJ29_next_1 12 rfl rfl)
theorem dJ29_next_37 : decode cJ29_next 37 = .ok (.aload_n 2, 1) := dk_44 (dk_at dksJ29_next_1 13 rfl rfl)
theorem dJ29_next_38 : decode cJ29_next 38 = .ok (.arraylength, 1) := dk_190 (dk_at dksJ29_next_1 14 rfl rfl)
theorem dJ29_next_39 : decode cJ29_next 39 = .ok (.if_icmp .lt 11, 3) := dk_161 0 11 (dk_at dksJ29_next_1 15 rfl rfl)
theorem dJ29_next_42 : decode cJ29_next 42 = .ok (.new 41, 3) := dk_187 0 41 (dk_at dksJ29_next_1 18 rfl rfl)
theorem dJ29_next_45 : decode cJ29_next 45 = .ok (.dup, 1) := dk_89 (dk_at dksJ29_next_1 21 rfl rfl)
theorem dJ29_next_46 : decode cJ29_next 46 = .ok (.invokespecial 43, 3) := dk_183 0 43 (dk_at dksJ29_next_2 0 rfl rfl)
theorem dJ29_next_49 : decode cJ29_next 49 = .ok (.athrow, 1) := dk_191 (dk_at dksJ29_next_2 3 rfl rfl)
theorem dJ29_next_50 : decode cJ29_next 50 = .ok (.aload_n 0, 1) := dk_42 (dk_at dksJ29_next_2 4 rfl rfl)
theorem dJ29_next_51 : decode cJ29_next 51 = .ok (.iload_n 1, 1) := dk_27 (dk_at dksJ29_next_2 5 rfl rfl)
theorem dJ29_next_52 : decode cJ29_next 52 = .ok (.iconst 1, 1) := dk_4 (dk_at dksJ29_next_2 6 rfl rfl)
theorem dJ29_next_53 : decode cJ29_next 53 = .ok (.iadd, 1) := dk_96 (dk_at dksJ29_next_2 7 rfl rfl)
theorem dJ29_next_54 : decode cJ29_next 54 = .ok (.putfield 25, 3) := dk_181 0 25 (dk_at dksJ29_next_2 8 rfl rfl)
theorem dJ29_next_57 : decode cJ29_next 57 = .ok (.aload_n 2, 1) := dk_44 (dk_at dksJ29_next_2 11 rfl rfl)
theorem dJ29_next_58 : decode cJ29_next 58 = .ok (.aload_n 0, 1) := dk_42 (dk_at dksJ29_next_2 12 rfl rfl)
theorem dJ29_next_59 : decode cJ29_next 59 = .ok (.iload_n 1, 1) := dk_27 (dk_at dksJ29_next_2 13 rfl rfl)
theorem dJ29_next_60 : decode cJ29_next 60 = .ok (.dup_x1, 1) := dk_90 (dk_at dksJ29_next_2 14 rfl rfl)
theorem dJ29_next_61 : decode cJ29_next 61 = .ok (.putfield 13, 3) := dk_181 0 13 (dk_at dksJ29_next_2 15 rfl rfl)
theorem dJ29_next_64 : decode cJ29_next 64 = .ok (.aaload, 1) := dk_50 (dk_at dksJ29_next_2 18 rfl rfl)
theorem dJ29_next_65 : decode cJ29_next 65 = .ok (.areturn, 1) := dk_176 (dk_at dksJ29_next_2 19 rfl rfl)
abbrev cJ29_checkForComodification : ByteArray := prog_49_method_6_code
def yJ29_checkForComodification : MethodName := ⟨RJ29, "checkForComodification", "()V"⟩
def dkwJ29_checkForComodification_0 : List UInt8 := [42, 180, 0, 1, 180, 0, 17, 42, 180, 0, 22, 159, 0, 11, 187, 0, 41, 89, 183, 0, 43, 191, 177]
abbrev dktJ29_checkForComodification_0 : List UInt8 := dkwJ29_checkForComodification_0 ++ []
theorem dksJ29_checkForComodification_0 : cJ29_checkForComodification.data.toList.drop 0 = dktJ29_checkForComodification_0 := by decide +kernel
theorem dJ29_checkForComodification_0 : decode cJ29_checkForComodification 0 = .ok (.aload_n 0, 1) := dk_42 (dk_at dksJ29_checkForComodification_0 0 rfl rfl)
theorem dJ29_checkForComodification_1 : decode cJ29_checkForComodification 1 = .ok (.getfield 1, 3) := dk_180 0 1 (dk_at dksJ29_checkForComodification_0 1 rfl rfl)
theorem dJ29_checkForComodification_4 : decode cJ29_checkForComodification 4 = .ok (.getfield 17, 3) := dk_180 0 17 (dk_at dksJ29_checkForComodification_0 4 rfl rfl)
theorem dJ29_checkForComodification_7 : decode cJ29_checkForComodification 7 = .ok (.aload_n 0, 1) := dk_42 (dk_at dksJ29_checkForComodification_0 7 rfl rfl)
theorem dJ29_checkForComodification_8 : decode cJ29_checkForComodification 8 = .ok (.getfield 22, 3) := dk_180 0 22 (dk_at dksJ29_checkForComodification_0 8 rfl rfl)
theorem dJ29_checkForComodification_11 : decode cJ29_checkForComodification 11 = .ok (.if_icmp .eq 11, 3) := dk_159 0 11 (dk_at dksJ29_checkForComodification_0 11 rfl rfl)
theorem dJ29_checkForComodification_14 : decode cJ29_checkForComodification 14 = .ok (.new 41, 3) := dk_187 0 41 (dk_at dksJ29_checkForComodification_0 14 rfl rfl)
theorem dJ29_checkForComodification_17 : decode cJ29_checkForComodification 17 = .ok (.dup, 1) := dk_89 (dk_at dksJ29_checkForComodification_0 17 rfl rfl)
theorem dJ29_checkForComodification_18 : decode cJ29_checkForComodification 18 = .ok (.invokespecial 43, 3) := dk_183 0 43 (dk_at dksJ29_checkForComodification_0 18 rfl rfl)
theorem dJ29_checkForComodification_21 : decode cJ29_checkForComodification 21 = .ok (.athrow, 1) := dk_191 (dk_at dksJ29_checkForComodification_0 21 rfl rfl)
theorem dJ29_checkForComodification_22 : decode cJ29_checkForComodification 22 = .ok (.return_, 1) := dk_177 (dk_at dksJ29_checkForComodification_0 22 rfl rfl)
abbrev cJ29_remove : ByteArray := prog_49_method_4_code
def yJ29_remove : MethodName := ⟨RJ29, "remove", "()V"⟩
def dkwJ29_remove_2 : List UInt8 := [180, 0, 1, 180, 0, 17, 181, 0, 22, 167, 0, 12, 76, 187, 0, 41, 89, 183, 0, 43, 191, 177]
abbrev dktJ29_remove_2 : List UInt8 := dkwJ29_remove_2 ++ []
def dkwJ29_remove_1 : List UInt8 := [180, 0, 13, 182, 0, 47, 87, 42, 42, 180, 0, 13, 181, 0, 25, 42, 2, 181, 0, 13, 42, 42]
abbrev dktJ29_remove_1 : List UInt8 := dkwJ29_remove_1 ++ dktJ29_remove_2
def dkwJ29_remove_0 : List UInt8 := [42, 180, 0, 13, 156, 0, 11, 187, 0, 44, 89, 183, 0, 46, 191, 42, 182, 0, 31, 42, 180, 0, 1, 42]
abbrev dktJ29_remove_0 : List UInt8 := dkwJ29_remove_0 ++ dktJ29_remove_1
theorem dksJ29_remove_0 : cJ29_remove.data.toList.drop 0 = dktJ29_remove_0 := by decide +kernel
theorem dksJ29_remove_1 : cJ29_remove.data.toList.drop 24 = dktJ29_remove_1 := dk_seg dksJ29_remove_0 24 rfl rfl
theorem dksJ29_remove_2 : cJ29_remove.data.toList.drop 46 = dktJ29_remove_2 := dk_seg dksJ29_remove_1 22 rfl rfl
theorem dJ29_remove_0 : decode cJ29_remove 0 = .ok (.aload_n 0, 1) := dk_42 (dk_at dksJ29_remove_0 0 rfl rfl)
theorem dJ29_remove_1 : decode cJ29_remove 1 = .ok (.getfield 13, 3) := dk_180 0 13 (dk_at dksJ29_remove_0 1 rfl rfl)
theorem dJ29_remove_4 : decode cJ29_remove 4 = .ok (.ifCond .ge 11, 3) := dk_156 0 11 (dk_at dksJ29_remove_0 4 rfl rfl)
theorem dJ29_remove_7 : decode cJ29_remove 7 = .ok (.new 44, 3) := dk_187 0 44 (dk_at dksJ29_remove_0 7 rfl rfl)
theorem dJ29_remove_10 : decode cJ29_remove 10 = .ok (.dup, 1) := dk_89 (dk_at dksJ29_remove_0 10 rfl rfl)
theorem dJ29_remove_11 : decode cJ29_remove 11 = .ok (.invokespecial 46, 3) := dk_183 0 46 (dk_at dksJ29_remove_0 11 rfl rfl)
theorem dJ29_remove_14 : decode cJ29_remove 14 = .ok (.athrow, 1) := dk_191 (dk_at dksJ29_remove_0 14 rfl rfl)
theorem dJ29_remove_15 : decode cJ29_remove 15 = .ok (.aload_n 0, 1) := dk_42 (dk_at dksJ29_remove_0 15 rfl rfl)
theorem dJ29_remove_16 : decode cJ29_remove 16 = .ok (.invokevirtual 31, 3) := dk_182 0 31 (dk_at dksJ29_remove_0 16 rfl rfl)
theorem dJ29_remove_19 : decode cJ29_remove 19 = .ok (.aload_n 0, 1) := dk_42 (dk_at dksJ29_remove_0 19 rfl rfl)
theorem dJ29_remove_20 : decode cJ29_remove 20 = .ok (.getfield 1, 3) := dk_180 0 1 (dk_at dksJ29_remove_0 20 rfl rfl)
theorem dJ29_remove_23 : decode cJ29_remove 23 = .ok (.aload_n 0, 1) := dk_42 (dk_at dksJ29_remove_0 23 rfl rfl)
theorem dJ29_remove_24 : decode cJ29_remove 24 = .ok (.getfield 13, 3) := dk_180 0 13 (dk_at dksJ29_remove_1 0 rfl rfl)
theorem dJ29_remove_27 : decode cJ29_remove 27 = .ok (.invokevirtual 47, 3) := dk_182 0 47 (dk_at dksJ29_remove_1 3 rfl rfl)
theorem dJ29_remove_30 : decode cJ29_remove 30 = .ok (.pop, 1) := dk_87 (dk_at dksJ29_remove_1 6 rfl rfl)
theorem dJ29_remove_31 : decode cJ29_remove 31 = .ok (.aload_n 0, 1) := dk_42 (dk_at dksJ29_remove_1 7 rfl rfl)
theorem dJ29_remove_32 : decode cJ29_remove 32 = .ok (.aload_n 0, 1) := dk_42 (dk_at dksJ29_remove_1 8 rfl rfl)
theorem dJ29_remove_33 : decode cJ29_remove 33 = .ok (.getfield 13, 3) := dk_180 0 13 (dk_at dksJ29_remove_1 9 rfl rfl)
theorem dJ29_remove_36 : decode cJ29_remove 36 = .ok (.putfield 25, 3) := dk_181 0 25 (dk_at dksJ29_remove_1 12 rfl rfl)
theorem dJ29_remove_39 : decode cJ29_remove 39 = .ok (.aload_n 0, 1) := dk_42 (dk_at dksJ29_remove_1 15 rfl rfl)
theorem dJ29_remove_40 : decode cJ29_remove 40 = .ok (.iconst (-1), 1) := dk_2 (dk_at dksJ29_remove_1 16 rfl rfl)
theorem dJ29_remove_41 : decode cJ29_remove 41 = .ok (.putfield 13, 3) := dk_181 0 13 (dk_at dksJ29_remove_1 17 rfl rfl)
theorem dJ29_remove_44 : decode cJ29_remove 44 = .ok (.aload_n 0, 1) := dk_42 (dk_at dksJ29_remove_1 20 rfl rfl)
theorem dJ29_remove_45 : decode cJ29_remove 45 = .ok (.aload_n 0, 1) := dk_42 (dk_at dksJ29_remove_1 21 rfl rfl)
theorem dJ29_remove_46 : decode cJ29_remove 46 = .ok (.getfield 1, 3) := dk_180 0 1 (dk_at dksJ29_remove_2 0 rfl rfl)
theorem dJ29_remove_49 : decode cJ29_remove 49 = .ok (.getfield 17, 3) := dk_180 0 17 (dk_at dksJ29_remove_2 3 rfl rfl)
theorem dJ29_remove_52 : decode cJ29_remove 52 = .ok (.putfield 22, 3) := dk_181 0 22 (dk_at dksJ29_remove_2 6 rfl rfl)
theorem dJ29_remove_55 : decode cJ29_remove 55 = .ok (.goto 12, 3) := dk_167 0 12 (dk_at dksJ29_remove_2 9 rfl rfl)
theorem dJ29_remove_58 : decode cJ29_remove 58 = .ok (.astore_n 1, 1) := dk_76 (dk_at dksJ29_remove_2 12 rfl rfl)
theorem dJ29_remove_59 : decode cJ29_remove 59 = .ok (.new 41, 3) := dk_187 0 41 (dk_at dksJ29_remove_2 13 rfl rfl)
theorem dJ29_remove_62 : decode cJ29_remove 62 = .ok (.dup, 1) := dk_89 (dk_at dksJ29_remove_2 16 rfl rfl)
theorem dJ29_remove_63 : decode cJ29_remove 63 = .ok (.invokespecial 43, 3) := dk_183 0 43 (dk_at dksJ29_remove_2 17 rfl rfl)
theorem dJ29_remove_66 : decode cJ29_remove 66 = .ok (.athrow, 1) := dk_191 (dk_at dksJ29_remove_2 20 rfl rfl)
theorem dJ29_remove_67 : decode cJ29_remove 67 = .ok (.return_, 1) := dk_177 (dk_at dksJ29_remove_2 21 rfl rfl)
theorem q140 : (Jvm.Cond.initialized "java/util/ArrayList$Itr") ∈ lw_all := lw_g (lw_at lw_m1 45 rfl) rfl
theorem q183 : (Jvm.Cond.fieldLink "java/util/ArrayList$Itr" (37 : Nat) "java/util/ArrayList" "elementData" "[Ljava/lang/Object;") ∈ lw_all := lw_g (lw_at lw_m1 88 rfl) rfl
theorem q184 : (Jvm.Cond.fieldLinkNest "java/util/ArrayList$Itr" (28 : Nat) "java/util/ArrayList" "size" "I" "java/util/ArrayList") ∈ lw_tbl := lw_at lw_m1 89 rfl
theorem q189 : (Jvm.Cond.fieldLink "java/util/ArrayList$Itr" (17 : Nat) "java/util/ArrayList" "modCount" "I") ∈ lw_all := lw_g (lw_at lw_m1 94 rfl) rfl
theorem q1548 : (Jvm.Cond.instanceMethod ({ cls := "java/util/ArrayList$Itr", name := "<init>", desc := "(Ljava/util/ArrayList;)V" } : Jvm.MethodName)) ∈ lw_all := lw_g (lw_at lw_m7 13 rfl) rfl
theorem q1549 : (Jvm.Cond.code ({ cls := "java/util/ArrayList$Itr", name := "<init>", desc := "(Ljava/util/ArrayList;)V" } : Jvm.MethodName) prog_49_method_1_code (2 : Nat) (Option.none : Option Jvm.ClassFile.FieldType)) ∈ lw_all := lw_g (lw_at lw_m7 14 rfl) rfl
theorem q1550 : (Jvm.Cond.methodLink "java/util/ArrayList$Itr" (7 : Nat) ({ cls := "java/lang/Object", name := "<init>", desc := "()V" } : Jvm.MethodName)) ∈ lw_all := lw_g (lw_at lw_m7 15 rfl) rfl
theorem q1554 : (Jvm.Cond.fieldLink "java/util/ArrayList$Itr" (25 : Nat) "java/util/ArrayList$Itr" "cursor" "I") ∈ lw_all := lw_g (lw_at lw_m7 19 rfl) rfl
theorem q1555 : (Jvm.Cond.fieldLink "java/util/ArrayList$Itr" (13 : Nat) "java/util/ArrayList$Itr" "lastRet" "I") ∈ lw_all := lw_g (lw_at lw_m7 20 rfl) rfl
theorem q1556 : (Jvm.Cond.fieldLink "java/util/ArrayList$Itr" (22 : Nat) "java/util/ArrayList$Itr" "expectedModCount" "I") ∈ lw_all := lw_g (lw_at lw_m7 21 rfl) rfl
theorem q1557 : (Jvm.Cond.fieldLink "java/util/ArrayList$Itr" (1 : Nat) "java/util/ArrayList$Itr" "this$0" "Ljava/util/ArrayList;") ∈ lw_all := lw_g (lw_at lw_m7 22 rfl) rfl
theorem q1561 : (Jvm.Cond.soleField "java/util/ArrayList$Itr" "cursor") ∈ lw_all := lw_g (lw_at lw_m7 26 rfl) rfl
theorem q1563 : (Jvm.Cond.soleField "java/util/ArrayList$Itr" "lastRet") ∈ lw_all := lw_g (lw_at lw_m7 28 rfl) rfl
theorem q1565 : (Jvm.Cond.soleField "java/util/ArrayList$Itr" "expectedModCount") ∈ lw_all := lw_g (lw_at lw_m7 30 rfl) rfl
theorem q1567 : (Jvm.Cond.soleField "java/util/ArrayList$Itr" "this$0") ∈ lw_all := lw_g (lw_at lw_m7 32 rfl) rfl
theorem q1627 : (Jvm.Cond.instanceMethod ({ cls := "java/util/ArrayList$Itr", name := "hasNext", desc := "()Z" } : Jvm.MethodName)) ∈ lw_all := lw_g (lw_at lw_m7 92 rfl) rfl
theorem q1628 : (Jvm.Cond.publicMethod ({ cls := "java/util/ArrayList$Itr", name := "hasNext", desc := "()Z" } : Jvm.MethodName)) ∈ lw_tbl := lw_at lw_m7 93 rfl
theorem q1629 : (Jvm.Cond.code ({ cls := "java/util/ArrayList$Itr", name := "hasNext", desc := "()Z" } : Jvm.MethodName) prog_49_method_2_code (1 : Nat) (Option.some Jvm.ClassFile.FieldType.boolean)) ∈ lw_all := lw_g (lw_at lw_m7 94 rfl) rfl
theorem q1727 : (Jvm.Cond.instanceMethod ({ cls := "java/util/ArrayList$Itr", name := "next", desc := "()Ljava/lang/Object;" } : Jvm.MethodName)) ∈ lw_all := lw_g (lw_at lw_m7 192 rfl) rfl
theorem q1728 : (Jvm.Cond.publicMethod ({ cls := "java/util/ArrayList$Itr", name := "next", desc := "()Ljava/lang/Object;" } : Jvm.MethodName)) ∈ lw_tbl := lw_at lw_m7 193 rfl
theorem q1729 : (Jvm.Cond.code ({ cls := "java/util/ArrayList$Itr", name := "next", desc := "()Ljava/lang/Object;" } : Jvm.MethodName) prog_49_method_3_code (3 : Nat) (Option.some (Jvm.ClassFile.FieldType.object "java/lang/Object"))) ∈ lw_all := lw_g (lw_at lw_m7 194 rfl) rfl
theorem q1730 : (Jvm.Cond.methodLink "java/util/ArrayList$Itr" (31 : Nat) ({ cls := "java/util/ArrayList$Itr", name := "checkForComodification", desc := "()V" } : Jvm.MethodName)) ∈ lw_all := lw_g (lw_at lw_m7 195 rfl) rfl
theorem q1731 : (Jvm.Cond.instanceMethod ({ cls := "java/util/ArrayList$Itr", name := "checkForComodification", desc := "()V" } : Jvm.MethodName)) ∈ lw_all := lw_g (lw_at lw_m7 196 rfl) rfl
theorem q1732 : (Jvm.Cond.sameMethod "java/util/ArrayList$Itr" "java/util/ArrayList$Itr" "checkForComodification" "()V") ∈ lw_all := lw_g (lw_at lw_m7 197 rfl) rfl
theorem q1734 : (Jvm.Cond.code ({ cls := "java/util/ArrayList$Itr", name := "checkForComodification", desc := "()V" } : Jvm.MethodName) prog_49_method_6_code (1 : Nat) (Option.none : Option Jvm.ClassFile.FieldType)) ∈ lw_all := lw_g (lw_at lw_m7 199 rfl) rfl
theorem q2000 : (Jvm.Cond.instanceMethod ({ cls := "java/util/ArrayList$Itr", name := "remove", desc := "()V" } : Jvm.MethodName)) ∈ lw_all := lw_g (lw_at lw_m8 225 rfl) rfl
theorem q2001 : (Jvm.Cond.publicMethod ({ cls := "java/util/ArrayList$Itr", name := "remove", desc := "()V" } : Jvm.MethodName)) ∈ lw_tbl := lw_at lw_m8 226 rfl
theorem q2002 : (Jvm.Cond.codeWith ({ cls := "java/util/ArrayList$Itr", name := "remove", desc := "()V" } : Jvm.MethodName) prog_49_method_4_code (2 : Nat) (Option.none : Option Jvm.ClassFile.FieldType) [((19 : Nat), (55 : Nat), (58 : Nat), (51 : Nat))]) ∈ lw_all := lw_g (lw_at lw_m8 227 rfl) rfl
theorem q2003 : (Jvm.Cond.classLink "java/util/ArrayList$Itr" (44 : Nat) "java/lang/IllegalStateException") ∈ lw_all := lw_g (lw_at lw_m8 228 rfl) rfl
theorem q2004 : (Jvm.Cond.methodLink "java/util/ArrayList$Itr" (46 : Nat) ({ cls := "java/lang/IllegalStateException", name := "<init>", desc := "()V" } : Jvm.MethodName)) ∈ lw_all := lw_g (lw_at lw_m8 229 rfl) rfl
theorem q2005 : (Jvm.Cond.methodLink "java/util/ArrayList$Itr" (47 : Nat) ({ cls := "java/util/ArrayList", name := "remove", desc := "(I)Ljava/lang/Object;" } : Jvm.MethodName)) ∈ lw_all := lw_g (lw_at lw_m8 230 rfl) rfl
theorem q2006 : (Jvm.Cond.classLink "java/util/ArrayList$Itr" (41 : Nat) "java/util/ConcurrentModificationException") ∈ lw_all := lw_g (lw_at lw_m8 231 rfl) rfl
theorem q2007 : (Jvm.Cond.methodLink "java/util/ArrayList$Itr" (43 : Nat) ({ cls := "java/util/ConcurrentModificationException", name := "<init>", desc := "()V" } : Jvm.MethodName)) ∈ lw_all := lw_g (lw_at lw_m8 232 rfl) rfl

/-! java/util/ArrayList$ListItr -/
set_option maxRecDepth 100000
def RJ30 : String := "java/util/ArrayList$ListItr"
def TJ30 : u_T := fun k => match k with
  | 0 => ("java/util/ArrayList$Itr", "cursor", "I", false)
  | 1 => ("java/util/ArrayList$Itr", "lastRet", "I", false)
  | 2 => ("java/util/ArrayList$Itr", "expectedModCount", "I", false)
  | 3 => ("java/util/ArrayList$Itr", "this$0", "Ljava/util/ArrayList;", true)
  | _ => ("java/util/ArrayList$ListItr", "this$0", "Ljava/util/ArrayList;", true)
def tyJ30 : Nat → FieldType := fun k => match k with
  | 0 => .int
  | 1 => .int
  | 2 => .int
  | 3 => .object "java/util/ArrayList"
  | _ => .object "java/util/ArrayList"
abbrev wsJ300 : List Cond := u_ws RJ30 TJ30 5
-- two fields of one name: no nmJ30
theorem tyJ30_ok : ∀ k, k < 5 → parseFieldDescriptor (TJ30 k).2.2.1 = some (tyJ30 k) := by decide +kernel
abbrev cJ30_init : ByteArray := prog_50_method_1_code
def yJ30_init : MethodName := ⟨RJ30, "<init>", "(Ljava/util/ArrayList;I)V"⟩
def dkwJ30_init_0 : List UInt8 := [42, 43, 181, 0, 1, 42, 43, 183, 0, 7, 42, 28, 181, 0, 13, 177]
abbrev dktJ30_init_0 : List UInt8 := dkwJ30_init_0 ++ []
theorem dksJ30_init_0 : cJ30_init.data.toList.drop 0 = dktJ30_init_0 := by decide +kernel
theorem dJ30_init_0 : decode cJ30_init 0 = .ok (.aload_n 0, 1) := dk_42 (dk_at dksJ30_init_0 0 rfl rfl)
theorem dJ30_init_1 : decode cJ30_init 1 = .ok (.aload_n 1, 1) := dk_43 (dk_at dksJ30_init_0 1 rfl rfl)
theorem dJ30_init_2 : decode cJ30_init 2 = .ok (.putfield 1, 3) := dk_181 0 1 (dk_at dksJ30_init_0 2 rfl rfl)
theorem dJ30_init_5 : decode cJ30_init 5 = .ok (.aload_n 0, 1) := dk_42 (dk_at dksJ30_init_0 5 rfl rfl)
theorem dJ30_init_6 : decode cJ30_init 6 = .ok (.aload_n 1, 1) := dk_43 (dk_at dksJ30_init_0 6 rfl rfl)
theorem dJ30_init_7 : decode cJ30_init 7 = .ok (.invokespecial 7, 3) := dk_183 0 7 (dk_at dksJ30_init_0 7 rfl rfl)
theorem dJ30_init_10 : decode cJ30_init 10 = .ok (.aload_n 0, 1) := dk_42 (dk_at dksJ30_init_0 10 rfl rfl)
theorem dJ30_init_11 : decode cJ30_init 11 = .ok (.iload_n 2, 1) := dk_28 (dk_at dksJ30_init_0 11 rfl rfl)
theorem dJ30_init_12 : decode cJ30_init 12 = .ok (.putfield 13, 3) := dk_181 0 13 (dk_at dksJ30_init_0 12 rfl rfl)
theorem dJ30_init_15 : decode cJ30_init 15 = .ok (.return_, 1) := dk_177 (dk_at dksJ30_init_0 15 rfl rfl)
theorem q141 : (Jvm.Cond.initialized "java/util/ArrayList$ListItr") ∈ lw_all := lw_g (lw_at lw_m1 46 rfl) rfl
theorem q471 : (Jvm.Cond.selects "java/util/ArrayList$ListItr" ({ cls := "java/lang/Object", name := "getClass", desc := "()Ljava/lang/Class;" } : Jvm.MethodName) ({ cls := "java/lang/Object", name := "getClass", desc := "()Ljava/lang/Class;" } : Jvm.MethodName)) ∈ lw_all := lw_g (lw_at lw_m2 136 rfl) rfl
theorem q1543 : (Jvm.Cond.instantiable "java/util/ArrayList$ListItr" (5 : Nat)) ∈ lw_all := lw_g (lw_at lw_m7 8 rfl) rfl
theorem q1545 : (Jvm.Cond.instanceMethod ({ cls := "java/util/ArrayList$ListItr", name := "<init>", desc := "(Ljava/util/ArrayList;I)V" } : Jvm.MethodName)) ∈ lw_all := lw_g (lw_at lw_m7 10 rfl) rfl
theorem q1546 : (Jvm.Cond.code ({ cls := "java/util/ArrayList$ListItr", name := "<init>", desc := "(Ljava/util/ArrayList;I)V" } : Jvm.MethodName) prog_50_method_1_code (3 : Nat) (Option.none : Option Jvm.ClassFile.FieldType)) ∈ lw_all := lw_g (lw_at lw_m7 11 rfl) rfl
theorem q1547 : (Jvm.Cond.methodLink "java/util/ArrayList$ListItr" (7 : Nat) ({ cls := "java/util/ArrayList$Itr", name := "<init>", desc := "(Ljava/util/ArrayList;)V" } : Jvm.MethodName)) ∈ lw_all := lw_g (lw_at lw_m7 12 rfl) rfl
theorem q1551 : (Jvm.Cond.fieldLink "java/util/ArrayList$ListItr" (1 : Nat) "java/util/ArrayList$ListItr" "this$0" "Ljava/util/ArrayList;") ∈ lw_all := lw_g (lw_at lw_m7 16 rfl) rfl
theorem q1552 : (Jvm.Cond.fieldLink "java/util/ArrayList$ListItr" (13 : Nat) "java/util/ArrayList$ListItr" "cursor" "I") ∈ lw_all := lw_g (lw_at lw_m7 17 rfl) rfl
theorem q1553 : (Jvm.Cond.sameField "java/util/ArrayList$ListItr" "java/util/ArrayList$Itr" "cursor" "I") ∈ lw_all := lw_g (lw_at lw_m7 18 rfl) rfl
theorem q1558 : (Jvm.Cond.laysFinal "java/util/ArrayList$ListItr" "java/util/ArrayList$ListItr" "this$0" "Ljava/util/ArrayList;") ∈ lw_all := lw_g (lw_at lw_m7 23 rfl) rfl
theorem q1559 : (Jvm.Cond.soleField "java/util/ArrayList$ListItr" "this$0") ∈ lw_all := lw_g (lw_at lw_m7 24 rfl) rfl
theorem q1560 : (Jvm.Cond.lays "java/util/ArrayList$ListItr" "java/util/ArrayList$Itr" "cursor" "I") ∈ lw_all := lw_g (lw_at lw_m7 25 rfl) rfl
theorem q1562 : (Jvm.Cond.lays "java/util/ArrayList$ListItr" "java/util/ArrayList$Itr" "lastRet" "I") ∈ lw_all := lw_g (lw_at lw_m7 27 rfl) rfl
theorem q1564 : (Jvm.Cond.lays "java/util/ArrayList$ListItr" "java/util/ArrayList$Itr" "expectedModCount" "I") ∈ lw_all := lw_g (lw_at lw_m7 29 rfl) rfl
theorem q1566 : (Jvm.Cond.laysFinal "java/util/ArrayList$ListItr" "java/util/ArrayList$Itr" "this$0" "Ljava/util/ArrayList;") ∈ lw_all := lw_g (lw_at lw_m7 31 rfl) rfl
theorem q1568 : (Jvm.Cond.superclass "java/util/ArrayList$ListItr" "java/util/ArrayList$Itr") ∈ lw_all := lw_g (lw_at lw_m7 33 rfl) rfl
theorem q1624 : (Jvm.Cond.castable "java/util/ArrayList$ListItr" "java/util/Iterator") ∈ lw_tbl := lw_at lw_m7 89 rfl
theorem q1625 : (Jvm.Cond.selects "java/util/ArrayList$ListItr" ({ cls := "java/util/Iterator", name := "hasNext", desc := "()Z" } : Jvm.MethodName) ({ cls := "java/util/ArrayList$Itr", name := "hasNext", desc := "()Z" } : Jvm.MethodName)) ∈ lw_all := lw_g (lw_at lw_m7 90 rfl) rfl
theorem q1626 : (Jvm.Cond.unhidden "java/util/ArrayList$ListItr" "hasNext" "()Z") ∈ lw_tbl := lw_at lw_m7 91 rfl
theorem q1725 : (Jvm.Cond.selects "java/util/ArrayList$ListItr" ({ cls := "java/util/Iterator", name := "next", desc := "()Ljava/lang/Object;" } : Jvm.MethodName) ({ cls := "java/util/ArrayList$Itr", name := "next", desc := "()Ljava/lang/Object;" } : Jvm.MethodName)) ∈ lw_all := lw_g (lw_at lw_m7 190 rfl) rfl
theorem q1726 : (Jvm.Cond.unhidden "java/util/ArrayList$ListItr" "next" "()Ljava/lang/Object;") ∈ lw_tbl := lw_at lw_m7 191 rfl
theorem q1733 : (Jvm.Cond.selects "java/util/ArrayList$ListItr" ({ cls := "java/util/ArrayList$Itr", name := "checkForComodification", desc := "()V" } : Jvm.MethodName) ({ cls := "java/util/ArrayList$Itr", name := "checkForComodification", desc := "()V" } : Jvm.MethodName)) ∈ lw_all := lw_g (lw_at lw_m7 198 rfl) rfl
theorem q1998 : (Jvm.Cond.selects "java/util/ArrayList$ListItr" ({ cls := "java/util/Iterator", name := "remove", desc := "()V" } : Jvm.MethodName) ({ cls := "java/util/ArrayList$Itr", name := "remove", desc := "()V" } : Jvm.MethodName)) ∈ lw_all := lw_g (lw_at lw_m8 223 rfl) rfl
theorem q1999 : (Jvm.Cond.unhidden "java/util/ArrayList$ListItr" "remove" "()V") ∈ lw_tbl := lw_at lw_m8 224 rfl
theorem q2720 : (Jvm.Cond.castable "java/util/ArrayList$ListItr" "java/lang/Object") ∈ lw_tbl := lw_at lw_m11 225 rfl
theorem in_J30 : ∀ w ∈ wsJ300, w ∈ lw_all := lw_in wsJ300 [1560, 1562, 1564, 1566, 1558] (by decide +kernel) (by decide +kernel)

/-! java/util/LinkedList$ListItr -/
set_option maxRecDepth 100000
def RJ31 : String := "java/util/LinkedList$ListItr"
def TJ31 : u_T := fun k => match k with
  | 0 => ("java/util/LinkedList$ListItr", "lastReturned", "Ljava/util/LinkedList$Node;", false)
  | 1 => ("java/util/LinkedList$ListItr", "next", "Ljava/util/LinkedList$Node;", false)
  | 2 => ("java/util/LinkedList$ListItr", "nextIndex", "I", false)
  | 3 => ("java/util/LinkedList$ListItr", "expectedModCount", "I", false)
  | _ => ("java/util/LinkedList$ListItr", "this$0", "Ljava/util/LinkedList;", true)
def tyJ31 : Nat → FieldType := fun k => match k with
  | 0 => .object "java/util/LinkedList$Node"
  | 1 => .object "java/util/LinkedList$Node"
  | 2 => .int
  | 3 => .int
  | _ => .object "java/util/LinkedList"
abbrev wsJ310 : List Cond := u_ws RJ31 TJ31 5
theorem nmJ31 : ∀ a, a < 5 → ∀ b, b < 5 → a ≠ b → (TJ31 a).2.1 ≠ (TJ31 b).2.1 := by decide +kernel
theorem tyJ31_ok : ∀ k, k < 5 → parseFieldDescriptor (TJ31 k).2.2.1 = some (tyJ31 k) := by decide +kernel
abbrev cJ31_init : ByteArray := prog_63_method_1_code
def yJ31_init : MethodName := ⟨RJ31, "<init>", "(Ljava/util/LinkedList;I)V"⟩
def dkwJ31_init_1 : List UInt8 := [180, 0, 22, 160, 0, 7, 1, 167, 0, 8, 43, 28, 182, 0, 25, 181, 0, 29, 42, 28, 181, 0, 33, 177]
abbrev dktJ31_init_1 : List UInt8 := dkwJ31_init_1 ++ []
def dkwJ31_init_0 : List UInt8 := [42, 43, 181, 0, 1, 42, 183, 0, 7, 42, 42, 180, 0, 1, 180, 0, 13, 181, 0, 19, 42, 28, 43]
abbrev dktJ31_init_0 : List UInt8 := dkwJ31_init_0 ++ dktJ31_init_1
theorem dksJ31_init_0 : cJ31_init.data.toList.drop 0 = dktJ31_init_0 := by decide +kernel
theorem dksJ31_init_1 : cJ31_init.data.toList.drop 23 = dktJ31_init_1 := dk_seg dksJ31_init_0 23 rfl rfl
theorem dJ31_init_0 : decode cJ31_init 0 = .ok (.aload_n 0, 1) := dk_42 (dk_at dksJ31_init_0 0 rfl rfl)
theorem dJ31_init_1 : decode cJ31_init 1 = .ok (.aload_n 1, 1) := dk_43 (dk_at dksJ31_init_0 1 rfl rfl)
theorem dJ31_init_2 : decode cJ31_init 2 = .ok (.putfield 1, 3) := dk_181 0 1 (dk_at dksJ31_init_0 2 rfl rfl)
theorem dJ31_init_5 : decode cJ31_init 5 = .ok (.aload_n 0, 1) := dk_42 (dk_at dksJ31_init_0 5 rfl rfl)
theorem dJ31_init_6 : decode cJ31_init 6 = .ok (.invokespecial 7, 3) := dk_183 0 7 (dk_at dksJ31_init_0 6 rfl rfl)
theorem dJ31_init_9 : decode cJ31_init 9 = .ok (.aload_n 0, 1) := dk_42 (dk_at dksJ31_init_0 9 rfl rfl)
theorem dJ31_init_10 : decode cJ31_init 10 = .ok (.aload_n 0, 1) := dk_42 (dk_at dksJ31_init_0 10 rfl rfl)
theorem dJ31_init_11 : decode cJ31_init 11 = .ok (.getfield 1, 3) := dk_180 0 1 (dk_at dksJ31_init_0 11 rfl rfl)
theorem dJ31_init_14 : decode cJ31_init 14 = .ok (.getfield 13, 3) := dk_180 0 13 (dk_at dksJ31_init_0 14 rfl rfl)
theorem dJ31_init_17 : decode cJ31_init 17 = .ok (.putfield 19, 3) := dk_181 0 19 (dk_at dksJ31_init_0 17 rfl rfl)
theorem dJ31_init_20 : decode cJ31_init 20 = .ok (.aload_n 0, 1) := dk_42 (dk_at dksJ31_init_0 20 rfl rfl)
theorem dJ31_init_21 : decode cJ31_init 21 = .ok (.iload_n 2, 1) := dk_28 (dk_at dksJ31_init_0 21 rfl rfl)
theorem dJ31_init_22 : decode cJ31_init 22 = .ok (.aload_n 1, 1) := dk_43 (dk_at dksJ31_init_0 22 rfl rfl)
theorem dJ31_init_23 : decode cJ31_init 23 = .ok (.getfield 22, 3) := dk_180 0 22 (dk_at dksJ31_init_1 0 rfl rfl)
theorem dJ31_init_26 : decode cJ31_init 26 = .ok (.if_icmp .ne 7, 3) := dk_160 0 7 (dk_at dksJ31_init_1 3 rfl rfl)
theorem dJ31_init_29 : decode cJ31_init 29 = .ok (.aconst_null, 1) := dk_1 (dk_at dksJ31_init_1 6 rfl rfl)
theorem dJ31_init_30 : decode cJ31_init 30 = .ok (.goto 8, 3) := dk_167 0 8 (dk_at dksJ31_init_1 7 rfl rfl)
theorem dJ31_init_33 : decode cJ31_init 33 = .ok (.aload_n 1, 1) := dk_43 (dk_at dksJ31_init_1 10 rfl rfl)
theorem dJ31_init_34 : decode cJ31_init 34 = .ok (.iload_n 2, 1) := dk_28 (dk_at dksJ31_init_1 11 rfl rfl)
theorem dJ31_init_35 : decode cJ31_init 35 = .ok (.invokevirtual 25, 3) := dk_182 0 25 (dk_at dksJ31_init_1 12 rfl rfl)
theorem dJ31_init_38 : decode cJ31_init 38 = .ok (.putfield 29, 3) := dk_181 0 29 (dk_at dksJ31_init_1 15 rfl rfl)
theorem dJ31_init_41 : decode cJ31_init 41 = .ok (.aload_n 0, 1) := dk_42 (dk_at dksJ31_init_1 18 rfl rfl)
theorem dJ31_init_42 : decode cJ31_init 42 = .ok (.iload_n 2, 1) := dk_28 (dk_at dksJ31_init_1 19 rfl rfl)
theorem dJ31_init_43 : decode cJ31_init 43 = .ok (.putfield 33, 3) := dk_181 0 33 (dk_at dksJ31_init_1 20 rfl rfl)
theorem dJ31_init_46 : decode cJ31_init 46 = .ok (.return_, 1) := dk_177 (dk_at dksJ31_init_1 23 rfl rfl)
abbrev cJ31_hasNext : ByteArray := prog_63_method_2_code
def yJ31_hasNext : MethodName := ⟨RJ31, "hasNext", "()Z"⟩
def dkwJ31_hasNext_0 : List UInt8 := [42, 180, 0, 33, 42, 180, 0, 1, 180, 0, 22, 162, 0, 7, 4, 167, 0, 4, 3, 172]
abbrev dktJ31_hasNext_0 : List UInt8 := dkwJ31_hasNext_0 ++ []
theorem dksJ31_hasNext_0 : cJ31_hasNext.data.toList.drop 0 = dktJ31_hasNext_0 := by decide +kernel
theorem dJ31_hasNext_0 : decode cJ31_hasNext 0 = .ok (.aload_n 0, 1) := dk_42 (dk_at dksJ31_hasNext_0 0 rfl rfl)
theorem dJ31_hasNext_1 : decode cJ31_hasNext 1 = .ok (.getfield 33, 3) := dk_180 0 33 (dk_at dksJ31_hasNext_0 1 rfl rfl)
theorem dJ31_hasNext_4 : decode cJ31_hasNext 4 = .ok (.aload_n 0, 1) := dk_42 (dk_at dksJ31_hasNext_0 4 rfl rfl)
theorem dJ31_hasNext_5 : decode cJ31_hasNext 5 = .ok (.getfield 1, 3) := dk_180 0 1 (dk_at dksJ31_hasNext_0 5 rfl rfl)
theorem dJ31_hasNext_8 : decode cJ31_hasNext 8 = .ok (.getfield 22, 3) := dk_180 0 22 (dk_at dksJ31_hasNext_0 8 rfl rfl)
theorem dJ31_hasNext_11 : decode cJ31_hasNext 11 = .ok (.if_icmp .ge 7, 3) := dk_162 0 7 (dk_at dksJ31_hasNext_0 11 rfl rfl)
theorem dJ31_hasNext_14 : decode cJ31_hasNext 14 = .ok (.iconst 1, 1) := dk_4 (dk_at dksJ31_hasNext_0 14 rfl rfl)
theorem dJ31_hasNext_15 : decode cJ31_hasNext 15 = .ok (.goto 4, 3) := dk_167 0 4 (dk_at dksJ31_hasNext_0 15 rfl rfl)
theorem dJ31_hasNext_18 : decode cJ31_hasNext 18 = .ok (.iconst 0, 1) := dk_3 (dk_at dksJ31_hasNext_0 18 rfl rfl)
theorem dJ31_hasNext_19 : decode cJ31_hasNext 19 = .ok (.ireturn, 1) := dk_172 (dk_at dksJ31_hasNext_0 19 rfl rfl)
abbrev cJ31_next : ByteArray := prog_63_method_3_code
def yJ31_next : MethodName := ⟨RJ31, "next", "()Ljava/lang/Object;"⟩
def dkwJ31_next_2 : List UInt8 := [42, 180, 0, 46, 180, 0, 52, 176]
abbrev dktJ31_next_2 : List UInt8 := dkwJ31_next_2 ++ []
def dkwJ31_next_1 : List UInt8 := [181, 0, 46, 42, 42, 180, 0, 29, 180, 0, 49, 181, 0, 29, 42, 89, 180, 0, 33, 4, 96, 181, 0, 33]
abbrev dktJ31_next_1 : List UInt8 := dkwJ31_next_1 ++ dktJ31_next_2
def dkwJ31_next_0 : List UInt8 := [42, 182, 0, 36, 42, 182, 0, 39, 154, 0, 11, 187, 0, 43, 89, 183, 0, 45, 191, 42, 42, 180, 0, 29]
abbrev dktJ31_next_0 : List UInt8 := dkwJ31_next_0 ++ dktJ31_next_1
theorem dksJ31_next_0 : cJ31_next.data.toList.drop 0 = dktJ31_next_0 := by decide +kernel
theorem dksJ31_next_1 : cJ31_next.data.toList.drop 24 = dktJ31_next_1 := dk_seg dksJ31_next_0 24 rfl rfl
theorem dksJ31_next_2 : cJ31_next.data.toList.drop 48 = dktJ31_next_2 := dk_seg dksJ31_next_1 24 rfl rfl
theorem dJ31_next_0 : decode cJ31_next 0 = .ok (.aload_n 0, 1) := dk_42 (dk_at dksJ31_next_0 0 rfl rfl)
theorem dJ31_next_1 : decode cJ31_next 1 = .ok (.invokevirtual 36, 3) := dk_182 0 36 (dk_at dksJ31_next_0 1 rfl rfl)
theorem dJ31_next_4 : decode cJ31_next 4 = .ok (.aload_n 0, 1) := dk_42 (dk_at dksJ31_next_0 4 rfl rfl)
theorem dJ31_next_5 : decode cJ31_next 5 = .ok (.invokevirtual 39, 3) := dk_182 0 39 (dk_at dksJ31_next_0 5 rfl rfl)
theorem dJ31_next_8 : decode cJ31_next 8 = .ok (.ifCond .ne 11, 3) := dk_154 0 11 (dk_at dksJ31_next_0 8 rfl rfl)
theorem dJ31_next_11 : decode cJ31_next 11 = .ok (.new 43, 3) := dk_187 0 43 (dk_at dksJ31_next_0 11 rfl rfl)
theorem dJ31_next_14 : decode cJ31_next 14 = .ok (.dup, 1) := dk_89 (dk_at dksJ31_next_0 14 rfl rfl)
theorem dJ31_next_15 : decode cJ31_next 15 = .ok (.invokespecial 45, 3) := dk_183 0 45 (dk_at dksJ31_next_0 15 rfl rfl)
theorem dJ31_next_18 : decode cJ31_next 18 = .ok (.athrow, 1) := dk_191 (dk_at dksJ31_next_0 18 rfl rfl)
theorem dJ31_next_19 : decode cJ31_next 19 = .ok (.aload_n 0, 1) := dk_42 (dk_at dksJ31_next_0 19 rfl rfl)
theorem dJ31_next_20 : decode cJ31_next 20 = .ok (.aload_n 0, 1) := dk_42 (dk_at dksJ31_next_0 20 rfl rfl)
theorem dJ31_next_21 : decode cJ31_next 21 = .ok (.getfield 29, 3) := dk_180 0 29 (dk_at dksJ31_next_0 21 rfl rfl)
theorem dJ31_next_24 : decode cJ31_next 24 = .ok (.putfield 46, 3) := dk_181 0 46 (dk_at dksJ31_next_1 0 rfl rfl)
theorem dJ31_next_27 : decode cJ31_next 27 = .ok (.aload_n 0, 1) := dk_42 (dk_at dksJ31_next_1 3 rfl rfl)
theorem dJ31_next_28 : decode cJ31_next 28 = .ok (.aload_n 0, 1) := dk_42 (dk_at dksJ31_next_1 4 rfl rfl)
theorem dJ31_next_29 : decode cJ31_next 29 = .ok (.getfield 29, 3) := dk_180 0 29 (dk_at dksJ31_next_1 5 rfl rfl)
theorem dJ31_next_32 : decode cJ31_next 32 = .ok (.getfield 49, 3) := dk_180 0 49 (dk_at dksJ31_next_1 8 rfl rfl)
theorem dJ31_next_35 : decode cJ31_next 35 = .ok (.putfield 29, 3) := dk_181 0 29 (dk_at dksJ31_next_1 11 rfl rfl)
theorem dJ31_next_38 : decode cJ31_next 38 = .ok (.aload_n 0, 1) := dk_42 (dk_at dksJ31_next_1 14 rfl rfl)
theorem dJ31_next_39 : decode cJ31_next 39 = .ok (.dup, 1) := dk_89 (dk_at dksJ31_next_1 15 rfl rfl)
theorem dJ31_next_40 : decode cJ31_next 40 = .ok (.getfield 33, 3) := dk_180 0 33 (dk_at dksJ31_next_1 16 rfl rfl)
theorem dJ31_next_43 : decode cJ31_next 43 = .ok (.iconst 1, 1) := dk_4 (dk_at dksJ31_next_1 19 rfl rfl)
theorem dJ31_next_44 : decode cJ31_next 44 = .ok (.iadd, 1) := dk_96 (dk_at dksJ31_next_1 20 rfl rfl)
theorem dJ31_next_45 : decode cJ31_next 45 = .ok (.putfield 33, 3) := dk_181 0 33 (dk_at dksJ31_next_1 21 rfl rfl)
theorem dJ31_next_48 : decode cJ31_next 48 = .ok (.aload_n 0, 1) := dk_42 (dk_at dksJ31_next_2 0 rfl rfl)
theorem dJ31_next_49 : decode cJ31_next 49 = .ok (.getfield 46, 3) := dk_180 0 46 (dk_at dksJ31_next_2 1 rfl rfl)
theorem dJ31_next_52 : decode cJ31_next 52 = .ok (.getfield 52, 3) := dk_180 0 52 (dk_at dksJ31_next_2 4 rfl rfl)
theorem dJ31_next_55 : decode cJ31_next 55 = .ok (.areturn, 1) := dk_176 (dk_at dksJ31_next_2 7 rfl rfl)
abbrev cJ31_checkForComodification : ByteArray := prog_63_method_12_code
def yJ31_checkForComodification : MethodName := ⟨RJ31, "checkForComodification", "()V"⟩
def dkwJ31_checkForComodification_0 : List UInt8 := [42, 180, 0, 1, 180, 0, 13, 42, 180, 0, 19, 159, 0, 11, 187, 0, 91, 89, 183, 0, 93, 191, 177]
abbrev dktJ31_checkForComodification_0 : List UInt8 := dkwJ31_checkForComodification_0 ++ []
theorem dksJ31_checkForComodification_0 : cJ31_checkForComodification.data.toList.drop 0 = dktJ31_checkForComodification_0 := by decide +kernel
theorem dJ31_checkForComodification_0 : decode cJ31_checkForComodification 0 = .ok (.aload_n 0, 1) := dk_42 (dk_at dksJ31_checkForComodification_0 0 rfl rfl)
theorem dJ31_checkForComodification_1 : decode cJ31_checkForComodification 1 = .ok (.getfield 1, 3) := dk_180 0 1 (dk_at dksJ31_checkForComodification_0 1 rfl rfl)
theorem dJ31_checkForComodification_4 : decode cJ31_checkForComodification 4 = .ok (.getfield 13, 3) := dk_180 0 13 (dk_at dksJ31_checkForComodification_0 4 rfl rfl)
theorem dJ31_checkForComodification_7 : decode cJ31_checkForComodification 7 = .ok (.aload_n 0, 1) := dk_42 (dk_at dksJ31_checkForComodification_0 7 rfl rfl)
theorem dJ31_checkForComodification_8 : decode cJ31_checkForComodification 8 = .ok (.getfield 19, 3) := dk_180 0 19 (dk_at dksJ31_checkForComodification_0 8 rfl rfl)
theorem dJ31_checkForComodification_11 : decode cJ31_checkForComodification 11 = .ok (.if_icmp .eq 11, 3) := dk_159 0 11 (dk_at dksJ31_checkForComodification_0 11 rfl rfl)
theorem dJ31_checkForComodification_14 : decode cJ31_checkForComodification 14 = .ok (.new 91, 3) := dk_187 0 91 (dk_at dksJ31_checkForComodification_0 14 rfl rfl)
theorem dJ31_checkForComodification_17 : decode cJ31_checkForComodification 17 = .ok (.dup, 1) := dk_89 (dk_at dksJ31_checkForComodification_0 17 rfl rfl)
theorem dJ31_checkForComodification_18 : decode cJ31_checkForComodification 18 = .ok (.invokespecial 93, 3) := dk_183 0 93 (dk_at dksJ31_checkForComodification_0 18 rfl rfl)
theorem dJ31_checkForComodification_21 : decode cJ31_checkForComodification 21 = .ok (.athrow, 1) := dk_191 (dk_at dksJ31_checkForComodification_0 21 rfl rfl)
theorem dJ31_checkForComodification_22 : decode cJ31_checkForComodification 22 = .ok (.return_, 1) := dk_177 (dk_at dksJ31_checkForComodification_0 22 rfl rfl)
abbrev cJ31_remove : ByteArray := prog_63_method_8_code
def yJ31_remove : MethodName := ⟨RJ31, "remove", "()V"⟩
def dkwJ31_remove_3 : List UInt8 := [181, 0, 46, 42, 89, 180, 0, 19, 4, 96, 181, 0, 19, 177]
abbrev dktJ31_remove_3 : List UInt8 := dkwJ31_remove_3 ++ []
def dkwJ31_remove_2 : List UInt8 := [166, 0, 11, 42, 43, 181, 0, 29, 167, 0, 13, 42, 89, 180, 0, 33, 4, 100, 181, 0, 33, 42, 1]
abbrev dktJ31_remove_2 : List UInt8 := dkwJ31_remove_2 ++ dktJ31_remove_3
def dkwJ31_remove_1 : List UInt8 := [180, 0, 49, 76, 42, 180, 0, 1, 42, 180, 0, 46, 182, 0, 68, 87, 42, 180, 0, 29, 42, 180, 0, 46]
abbrev dktJ31_remove_1 : List UInt8 := dkwJ31_remove_1 ++ dktJ31_remove_2
def dkwJ31_remove_0 : List UInt8 := [42, 182, 0, 36, 42, 180, 0, 46, 199, 0, 11, 187, 0, 65, 89, 183, 0, 67, 191, 42, 180, 0, 46]
abbrev dktJ31_remove_0 : List UInt8 := dkwJ31_remove_0 ++ dktJ31_remove_1
theorem dksJ31_remove_0 : cJ31_remove.data.toList.drop 0 = dktJ31_remove_0 := by decide +kernel
theorem dksJ31_remove_1 : cJ31_remove.data.toList.drop 23 = dktJ31_remove_1 := dk_seg dksJ31_remove_0 23 rfl rfl
theorem dksJ31_remove_2 : cJ31_remove.data.toList.drop 47 = dktJ31_remove_2 := dk_seg dksJ31_remove_1 24 rfl rfl
theorem dksJ31_remove_3 : cJ31_remove.data.toList.drop 70 = dktJ31_remove_3 := dk_seg dksJ31_remove_2 23 rfl rfl
theorem dJ31_remove_0 : decode cJ31_remove 0 = .ok (.aload_n 0, 1) := dk_42 (dk_at dksJ31_remove_0 0 rfl rfl)
theorem dJ31_remove_1 : decode cJ31_remove 1 = .ok (.invokevirtual 36, 3) := dk_182 0 36 (dk_at dksJ31_remove_0 1 rfl rfl)
theorem dJ31_remove_4 : decode cJ31_remove 4 = .ok (.aload_n 0, 1) := dk_42 (dk_at dksJ31_remove_0 4 rfl rfl)
theorem dJ31_remove_5 : decode cJ31_remove 5 = .ok (.getfield 46, 3) := dk_180 0 46 (dk_at dksJ31_remove_0 5 rfl rfl)
theorem dJ31_remove_8 : decode cJ31_remove 8 = .ok (.ifnonnull 11, 3) := dk_199 0 11 (dk_at dksJ31_remove_0 8 rfl rfl)
theorem dJ31_remove_11 : decode cJ31_remove 11 = .ok (.new 65, 3) := dk_187 0 65 (dk_at dksJ31_remove_0 11 rfl rfl)
theorem dJ31_remove_14 : decode cJ31_remove 14 = .ok (.dup, 1) := dk_89 (dk_at dksJ31_remove_0 14 rfl rfl)
theorem dJ31_remove_15 : decode cJ31_remove 15 = .ok (.invokespecial 67, 3) := dk_183 0 67 (dk_at dksJ31_remove_0 15 rfl rfl)
theorem dJ31_remove_18 : decode cJ31_remove 18 = .ok (.athrow, 1) := dk_191 (dk_at dksJ31_remove_0 18 rfl rfl)
theorem dJ31_remove_19 : decode cJ31_remove 19 = .ok (.aload_n 0, 1) := dk_42 (dk_at dksJ31_remove_0 19 rfl rfl)
theorem dJ31_remove_20 : decode cJ31_remove 20 = .ok (.getfield 46, 3) := dk_180 0 46 (dk_at dksJ31_remove_0 20 rfl rfl)
theorem dJ31_remove_23 : decode cJ31_remove 23 = .ok (.getfield 49, 3) := dk_180 0 49 (dk_at dksJ31_remove_1 0 rfl rfl)
theorem dJ31_remove_26 : decode cJ31_remove 26 = .ok (.astore_n 1, 1) := dk_76 (dk_at dksJ31_remove_1 3 rfl rfl)
theorem dJ31_remove_27 : decode cJ31_remove 27 = .ok (.aload_n 0, 1) := dk_42 (dk_at dksJ31_remove_1 4 rfl rfl)
theorem dJ31_remove_28 : decode cJ31_remove 28 = .ok (.getfield 1, 3) := dk_180 0 1 (dk_at dksJ31_remove_1 5 rfl rfl)
theorem dJ31_remove_31 : decode cJ31_remove 31 = .ok (.aload_n 0, 1) := dk_42 (dk_at dksJ31_remove_1 8 rfl rfl)
theorem dJ31_remove_32 : decode cJ31_remove 32 = .ok (.getfield 46, 3) := dk_180 0 46 (dk_at dksJ31_remove_1 9 rfl rfl)
theorem dJ31_remove_35 : decode cJ31_remove 35 = .ok (.invokevirtual 68, 3) := dk_182 0 68 (dk_at dksJ31_remove_1 12 rfl rfl)
theorem dJ31_remove_38 : decode cJ31_remove 38 = .ok (.pop, 1) := dk_87 (dk_at dksJ31_remove_1 15 rfl rfl)
theorem dJ31_remove_39 : decode cJ31_remove 39 = .ok (.aload_n 0, 1) := dk_42 (dk_at dksJ31_remove_1 16 rfl rfl)
theorem dJ31_remove_40 : decode cJ31_remove 40 = .ok (.getfield 29, 3) := dk_180 0 29 (dk_at dksJ31_remove_1 17 rfl rfl)
theorem dJ31_remove_43 : decode cJ31_remove 43 = .ok (.aload_n 0, 1) := dk_42 (dk_at dksJ31_remove_1 20 rfl rfl)
theorem dJ31_remove_44 : decode cJ31_remove 44 = .ok (.getfield 46, 3) := dk_180 0 46 (dk_at dksJ31_remove_1 21 rfl rfl)
theorem dJ31_remove_47 : decode cJ31_remove 47 = .ok (.if_acmp .ne 11, 3) := dk_166 0 11 (dk_at dksJ31_remove_2 0 rfl rfl)
theorem dJ31_remove_50 : decode cJ31_remove 50 = .ok (.aload_n 0, 1) := dk_42 (dk_at dksJ31_remove_2 3 rfl rfl)
theorem dJ31_remove_51 : decode cJ31_remove 51 = .ok (.aload_n 1, 1) := dk_43 (dk_at dksJ31_remove_2 4 rfl rfl)
theorem dJ31_remove_52 : decode cJ31_remove 52 = .ok (.putfield 29, 3) := dk_181 0 29 (dk_at dksJ31_remove_2 5 rfl rfl)
theorem dJ31_remove_55 : decode cJ31_remove 55 = .ok (.goto 13, 3) := dk_167 0 13 (dk_at dksJ31_remove_2 8 rfl rfl)
theorem dJ31_remove_58 : decode cJ31_remove 58 = .ok (.aload_n 0, 1) := dk_42 (dk_at dksJ31_remove_2 11 rfl rfl)
theorem dJ31_remove_59 : decode cJ31_remove 59 = .ok (.dup, 1) := dk_89 (dk_at dksJ31_remove_2 12 rfl rfl)
theorem dJ31_remove_60 : decode cJ31_remove 60 = .ok (.getfield 33, 3) := dk_180 0 33 (dk_at dksJ31_remove_2 13 rfl rfl)
theorem dJ31_remove_63 : decode cJ31_remove 63 = .ok (.iconst 1, 1) := dk_4 (dk_at dksJ31_remove_2 16 rfl rfl)
theorem dJ31_remove_64 : decode cJ31_remove 64 = .ok (.isub, 1) := dk_100 (dk_at dksJ31_remove_2 17 rfl rfl)
theorem dJ31_remove_65 : decode cJ31_remove 65 = .ok (.putfield 33, 3) := dk_181 0 33 (dk_at dksJ31_remove_2 18 rfl rfl)
theorem dJ31_remove_68 : decode cJ31_remove 68 = .ok (.aload_n 0, 1) := dk_42 (dk_at dksJ31_remove_2 21 rfl rfl)
theorem dJ31_remove_69 : decode cJ31_remove 69 = .ok (.aconst_null, 1) := dk_1 (dk_at dksJ31_remove_2 22 rfl rfl)
theorem dJ31_remove_70 : decode cJ31_remove 70 = .ok (.putfield 46, 3) := dk_181 0 46 (dk_at dksJ31_remove_3 0 rfl rfl)
theorem dJ31_remove_73 : decode cJ31_remove 73 = .ok (.aload_n 0, 1) := dk_42 (dk_at dksJ31_remove_3 3 rfl rfl)
theorem dJ31_remove_74 : decode cJ31_remove 74 = .ok (.dup, 1) := dk_89 (dk_at dksJ31_remove_3 4 rfl rfl)
theorem dJ31_remove_75 : decode cJ31_remove 75 = .ok (.getfield 19, 3) := dk_180 0 19 (dk_at dksJ31_remove_3 5 rfl rfl)
theorem dJ31_remove_78 : decode cJ31_remove 78 = .ok (.iconst 1, 1) := dk_4 (dk_at dksJ31_remove_3 8 rfl rfl)
theorem dJ31_remove_79 : decode cJ31_remove 79 = .ok (.iadd, 1) := dk_96 (dk_at dksJ31_remove_3 9 rfl rfl)
theorem dJ31_remove_80 : decode cJ31_remove 80 = .ok (.putfield 19, 3) := dk_181 0 19 (dk_at dksJ31_remove_3 10 rfl rfl)
theorem dJ31_remove_83 : decode cJ31_remove 83 = .ok (.return_, 1) := dk_177 (dk_at dksJ31_remove_3 13 rfl rfl)
theorem q142 : (Jvm.Cond.initialized "java/util/LinkedList$ListItr") ∈ lw_all := lw_g (lw_at lw_m1 47 rfl) rfl
theorem q187 : (Jvm.Cond.fieldLink "java/util/LinkedList$ListItr" (13 : Nat) "java/util/LinkedList" "modCount" "I") ∈ lw_all := lw_g (lw_at lw_m1 92 rfl) rfl
theorem q258 : (Jvm.Cond.fieldLink "java/util/LinkedList$ListItr" (22 : Nat) "java/util/LinkedList" "size" "I") ∈ lw_all := lw_g (lw_at lw_m1 163 rfl) rfl
theorem q477 : (Jvm.Cond.selects "java/util/LinkedList$ListItr" ({ cls := "java/lang/Object", name := "getClass", desc := "()Ljava/lang/Class;" } : Jvm.MethodName) ({ cls := "java/lang/Object", name := "getClass", desc := "()Ljava/lang/Class;" } : Jvm.MethodName)) ∈ lw_all := lw_g (lw_at lw_m2 142 rfl) rfl
theorem q1581 : (Jvm.Cond.instantiable "java/util/LinkedList$ListItr" (5 : Nat)) ∈ lw_all := lw_g (lw_at lw_m7 46 rfl) rfl
theorem q1583 : (Jvm.Cond.instanceMethod ({ cls := "java/util/LinkedList$ListItr", name := "<init>", desc := "(Ljava/util/LinkedList;I)V" } : Jvm.MethodName)) ∈ lw_all := lw_g (lw_at lw_m7 48 rfl) rfl
theorem q1584 : (Jvm.Cond.code ({ cls := "java/util/LinkedList$ListItr", name := "<init>", desc := "(Ljava/util/LinkedList;I)V" } : Jvm.MethodName) prog_63_method_1_code (3 : Nat) (Option.none : Option Jvm.ClassFile.FieldType)) ∈ lw_all := lw_g (lw_at lw_m7 49 rfl) rfl
theorem q1585 : (Jvm.Cond.methodLink "java/util/LinkedList$ListItr" (7 : Nat) ({ cls := "java/lang/Object", name := "<init>", desc := "()V" } : Jvm.MethodName)) ∈ lw_all := lw_g (lw_at lw_m7 50 rfl) rfl
theorem q1586 : (Jvm.Cond.methodLink "java/util/LinkedList$ListItr" (25 : Nat) ({ cls := "java/util/LinkedList", name := "node", desc := "(I)Ljava/util/LinkedList$Node;" } : Jvm.MethodName)) ∈ lw_all := lw_g (lw_at lw_m7 51 rfl) rfl
theorem q1587 : (Jvm.Cond.fieldLink "java/util/LinkedList$ListItr" (46 : Nat) "java/util/LinkedList$ListItr" "lastReturned" "Ljava/util/LinkedList$Node;") ∈ lw_all := lw_g (lw_at lw_m7 52 rfl) rfl
theorem q1588 : (Jvm.Cond.fieldLink "java/util/LinkedList$ListItr" (29 : Nat) "java/util/LinkedList$ListItr" "next" "Ljava/util/LinkedList$Node;") ∈ lw_all := lw_g (lw_at lw_m7 53 rfl) rfl
theorem q1589 : (Jvm.Cond.fieldLink "java/util/LinkedList$ListItr" (33 : Nat) "java/util/LinkedList$ListItr" "nextIndex" "I") ∈ lw_all := lw_g (lw_at lw_m7 54 rfl) rfl
theorem q1590 : (Jvm.Cond.fieldLink "java/util/LinkedList$ListItr" (19 : Nat) "java/util/LinkedList$ListItr" "expectedModCount" "I") ∈ lw_all := lw_g (lw_at lw_m7 55 rfl) rfl
theorem q1591 : (Jvm.Cond.fieldLink "java/util/LinkedList$ListItr" (1 : Nat) "java/util/LinkedList$ListItr" "this$0" "Ljava/util/LinkedList;") ∈ lw_all := lw_g (lw_at lw_m7 56 rfl) rfl
theorem q1592 : (Jvm.Cond.lays "java/util/LinkedList$ListItr" "java/util/LinkedList$ListItr" "lastReturned" "Ljava/util/LinkedList$Node;") ∈ lw_all := lw_g (lw_at lw_m7 57 rfl) rfl
theorem q1593 : (Jvm.Cond.soleField "java/util/LinkedList$ListItr" "lastReturned") ∈ lw_all := lw_g (lw_at lw_m7 58 rfl) rfl
theorem q1594 : (Jvm.Cond.lays "java/util/LinkedList$ListItr" "java/util/LinkedList$ListItr" "next" "Ljava/util/LinkedList$Node;") ∈ lw_all := lw_g (lw_at lw_m7 59 rfl) rfl
theorem q1595 : (Jvm.Cond.soleField "java/util/LinkedList$ListItr" "next") ∈ lw_all := lw_g (lw_at lw_m7 60 rfl) rfl
theorem q1596 : (Jvm.Cond.lays "java/util/LinkedList$ListItr" "java/util/LinkedList$ListItr" "nextIndex" "I") ∈ lw_all := lw_g (lw_at lw_m7 61 rfl) rfl
theorem q1597 : (Jvm.Cond.soleField "java/util/LinkedList$ListItr" "nextIndex") ∈ lw_all := lw_g (lw_at lw_m7 62 rfl) rfl
theorem q1598 : (Jvm.Cond.lays "java/util/LinkedList$ListItr" "java/util/LinkedList$ListItr" "expectedModCount" "I") ∈ lw_all := lw_g (lw_at lw_m7 63 rfl) rfl
theorem q1599 : (Jvm.Cond.soleField "java/util/LinkedList$ListItr" "expectedModCount") ∈ lw_all := lw_g (lw_at lw_m7 64 rfl) rfl
theorem q1600 : (Jvm.Cond.laysFinal "java/util/LinkedList$ListItr" "java/util/LinkedList$ListItr" "this$0" "Ljava/util/LinkedList;") ∈ lw_all := lw_g (lw_at lw_m7 65 rfl) rfl
theorem q1601 : (Jvm.Cond.soleField "java/util/LinkedList$ListItr" "this$0") ∈ lw_all := lw_g (lw_at lw_m7 66 rfl) rfl
theorem q1602 : (Jvm.Cond.superclass "java/util/LinkedList$ListItr" "java/lang/Object") ∈ lw_all := lw_g (lw_at lw_m7 67 rfl) rfl
theorem q1630 : (Jvm.Cond.castable "java/util/LinkedList$ListItr" "java/util/Iterator") ∈ lw_tbl := lw_at lw_m7 95 rfl
theorem q1631 : (Jvm.Cond.selects "java/util/LinkedList$ListItr" ({ cls := "java/util/Iterator", name := "hasNext", desc := "()Z" } : Jvm.MethodName) ({ cls := "java/util/LinkedList$ListItr", name := "hasNext", desc := "()Z" } : Jvm.MethodName)) ∈ lw_all := lw_g (lw_at lw_m7 96 rfl) rfl
theorem q1632 : (Jvm.Cond.unhidden "java/util/LinkedList$ListItr" "hasNext" "()Z") ∈ lw_tbl := lw_at lw_m7 97 rfl
theorem q1633 : (Jvm.Cond.instanceMethod ({ cls := "java/util/LinkedList$ListItr", name := "hasNext", desc := "()Z" } : Jvm.MethodName)) ∈ lw_all := lw_g (lw_at lw_m7 98 rfl) rfl
theorem q1634 : (Jvm.Cond.publicMethod ({ cls := "java/util/LinkedList$ListItr", name := "hasNext", desc := "()Z" } : Jvm.MethodName)) ∈ lw_tbl := lw_at lw_m7 99 rfl
theorem q1635 : (Jvm.Cond.code ({ cls := "java/util/LinkedList$ListItr", name := "hasNext", desc := "()Z" } : Jvm.MethodName) prog_63_method_2_code (1 : Nat) (Option.some Jvm.ClassFile.FieldType.boolean)) ∈ lw_all := lw_g (lw_at lw_m7 100 rfl) rfl
theorem q1735 : (Jvm.Cond.selects "java/util/LinkedList$ListItr" ({ cls := "java/util/Iterator", name := "next", desc := "()Ljava/lang/Object;" } : Jvm.MethodName) ({ cls := "java/util/LinkedList$ListItr", name := "next", desc := "()Ljava/lang/Object;" } : Jvm.MethodName)) ∈ lw_all := lw_g (lw_at lw_m7 200 rfl) rfl
theorem q1736 : (Jvm.Cond.unhidden "java/util/LinkedList$ListItr" "next" "()Ljava/lang/Object;") ∈ lw_tbl := lw_at lw_m7 201 rfl
theorem q1737 : (Jvm.Cond.instanceMethod ({ cls := "java/util/LinkedList$ListItr", name := "next", desc := "()Ljava/lang/Object;" } : Jvm.MethodName)) ∈ lw_all := lw_g (lw_at lw_m7 202 rfl) rfl
theorem q1738 : (Jvm.Cond.publicMethod ({ cls := "java/util/LinkedList$ListItr", name := "next", desc := "()Ljava/lang/Object;" } : Jvm.MethodName)) ∈ lw_tbl := lw_at lw_m7 203 rfl
theorem q1739 : (Jvm.Cond.code ({ cls := "java/util/LinkedList$ListItr", name := "next", desc := "()Ljava/lang/Object;" } : Jvm.MethodName) prog_63_method_3_code (1 : Nat) (Option.some (Jvm.ClassFile.FieldType.object "java/lang/Object"))) ∈ lw_all := lw_g (lw_at lw_m7 204 rfl) rfl
theorem q1740 : (Jvm.Cond.methodLink "java/util/LinkedList$ListItr" (36 : Nat) ({ cls := "java/util/LinkedList$ListItr", name := "checkForComodification", desc := "()V" } : Jvm.MethodName)) ∈ lw_all := lw_g (lw_at lw_m7 205 rfl) rfl
theorem q1741 : (Jvm.Cond.instanceMethod ({ cls := "java/util/LinkedList$ListItr", name := "checkForComodification", desc := "()V" } : Jvm.MethodName)) ∈ lw_all := lw_g (lw_at lw_m7 206 rfl) rfl
theorem q1742 : (Jvm.Cond.selects "java/util/LinkedList$ListItr" ({ cls := "java/util/LinkedList$ListItr", name := "checkForComodification", desc := "()V" } : Jvm.MethodName) ({ cls := "java/util/LinkedList$ListItr", name := "checkForComodification", desc := "()V" } : Jvm.MethodName)) ∈ lw_all := lw_g (lw_at lw_m7 207 rfl) rfl
theorem q1743 : (Jvm.Cond.code ({ cls := "java/util/LinkedList$ListItr", name := "checkForComodification", desc := "()V" } : Jvm.MethodName) prog_63_method_12_code (1 : Nat) (Option.none : Option Jvm.ClassFile.FieldType)) ∈ lw_all := lw_g (lw_at lw_m7 208 rfl) rfl
theorem q1744 : (Jvm.Cond.methodLink "java/util/LinkedList$ListItr" (39 : Nat) ({ cls := "java/util/LinkedList$ListItr", name := "hasNext", desc := "()Z" } : Jvm.MethodName)) ∈ lw_all := lw_g (lw_at lw_m7 209 rfl) rfl
theorem q1761 : (Jvm.Cond.fieldLink "java/util/LinkedList$ListItr" (52 : Nat) "java/util/LinkedList$Node" "item" "Ljava/lang/Object;") ∈ lw_all := lw_g (lw_at lw_m7 226 rfl) rfl
theorem q1764 : (Jvm.Cond.fieldLink "java/util/LinkedList$ListItr" (49 : Nat) "java/util/LinkedList$Node" "next" "Ljava/util/LinkedList$Node;") ∈ lw_all := lw_g (lw_at lw_m7 229 rfl) rfl
theorem q2008 : (Jvm.Cond.selects "java/util/LinkedList$ListItr" ({ cls := "java/util/Iterator", name := "remove", desc := "()V" } : Jvm.MethodName) ({ cls := "java/util/LinkedList$ListItr", name := "remove", desc := "()V" } : Jvm.MethodName)) ∈ lw_all := lw_g (lw_at lw_m8 233 rfl) rfl
theorem q2009 : (Jvm.Cond.unhidden "java/util/LinkedList$ListItr" "remove" "()V") ∈ lw_tbl := lw_at lw_m8 234 rfl
theorem q2010 : (Jvm.Cond.instanceMethod ({ cls := "java/util/LinkedList$ListItr", name := "remove", desc := "()V" } : Jvm.MethodName)) ∈ lw_all := lw_g (lw_at lw_m8 235 rfl) rfl
theorem q2011 : (Jvm.Cond.publicMethod ({ cls := "java/util/LinkedList$ListItr", name := "remove", desc := "()V" } : Jvm.MethodName)) ∈ lw_tbl := lw_at lw_m8 236 rfl
theorem q2012 : (Jvm.Cond.code ({ cls := "java/util/LinkedList$ListItr", name := "remove", desc := "()V" } : Jvm.MethodName) prog_63_method_8_code (2 : Nat) (Option.none : Option Jvm.ClassFile.FieldType)) ∈ lw_all := lw_g (lw_at lw_m8 237 rfl) rfl
theorem q2013 : (Jvm.Cond.methodLink "java/util/LinkedList$ListItr" (68 : Nat) ({ cls := "java/util/LinkedList", name := "unlink", desc := "(Ljava/util/LinkedList$Node;)Ljava/lang/Object;" } : Jvm.MethodName)) ∈ lw_all := lw_g (lw_at lw_m8 238 rfl) rfl
theorem q2694 : (Jvm.Cond.selects "java/util/LinkedList$ListItr" ({ cls := "java/util/LinkedList$ListItr", name := "hasNext", desc := "()Z" } : Jvm.MethodName) ({ cls := "java/util/LinkedList$ListItr", name := "hasNext", desc := "()Z" } : Jvm.MethodName)) ∈ lw_all := lw_g (lw_at lw_m11 199 rfl) rfl
theorem q2721 : (Jvm.Cond.castable "java/util/LinkedList$ListItr" "java/lang/Object") ∈ lw_tbl := lw_at lw_m11 226 rfl
theorem in_J31 : ∀ w ∈ wsJ310, w ∈ lw_all := lw_in wsJ310 [1592, 1594, 1596, 1598, 1600] (by decide +kernel) (by decide +kernel)

/-! java/util/NoSuchElementException -/
set_option maxRecDepth 100000
def RJ32 : String := "java/util/NoSuchElementException"
def TJ32 : u_T := fun k => match k with
  | 0 => ("java/lang/Throwable", "cause", "Ljava/lang/Throwable;", false)
  | 1 => ("java/lang/Throwable", "stackTrace", "[Ljava/lang/StackTraceElement;", false)
  | 2 => ("java/lang/Throwable", "suppressedExceptions", "Ljava/util/List;", false)
  | 3 => ("java/lang/Throwable", "detailMessage", "Ljava/lang/String;", false)
  | 4 => ("java/lang/Throwable", "backtrace", "Ljava/lang/Object;", false)
  | _ => ("java/lang/Throwable", "depth", "I", false)
def tyJ32 : Nat → FieldType := fun k => match k with
  | 0 => .object "java/lang/Throwable"
  | 1 => .array (.object "java/lang/StackTraceElement")
  | 2 => .object "java/util/List"
  | 3 => .object "java/lang/String"
  | 4 => .object "java/lang/Object"
  | _ => .int
abbrev wsJ320 : List Cond := u_ws RJ32 TJ32 6
theorem nmJ32 : ∀ a, a < 6 → ∀ b, b < 6 → a ≠ b → (TJ32 a).2.1 ≠ (TJ32 b).2.1 := by decide +kernel
theorem tyJ32_ok : ∀ k, k < 6 → parseFieldDescriptor (TJ32 k).2.2.1 = some (tyJ32 k) := by decide +kernel
abbrev cJ32_init : ByteArray := prog_67_method_3_code
def yJ32_init : MethodName := ⟨RJ32, "<init>", "(Ljava/lang/Throwable;)V"⟩
def dkwJ32_init_0 : List UInt8 := [42, 43, 183, 0, 10, 177]
abbrev dktJ32_init_0 : List UInt8 := dkwJ32_init_0 ++ []
theorem dksJ32_init_0 : cJ32_init.data.toList.drop 0 = dktJ32_init_0 := by decide +kernel
theorem dJ32_init_0 : decode cJ32_init 0 = .ok (.aload_n 0, 1) := dk_42 (dk_at dksJ32_init_0 0 rfl rfl)
theorem dJ32_init_1 : decode cJ32_init 1 = .ok (.aload_n 1, 1) := dk_43 (dk_at dksJ32_init_0 1 rfl rfl)
theorem dJ32_init_2 : decode cJ32_init 2 = .ok (.invokespecial 10, 3) := dk_183 0 10 (dk_at dksJ32_init_0 2 rfl rfl)
theorem dJ32_init_5 : decode cJ32_init 5 = .ok (.return_, 1) := dk_177 (dk_at dksJ32_init_0 5 rfl rfl)
theorem q143 : (Jvm.Cond.initialized "java/util/NoSuchElementException") ∈ lw_all := lw_g (lw_at lw_m1 48 rfl) rfl
theorem q479 : (Jvm.Cond.selects "java/util/NoSuchElementException" ({ cls := "java/lang/Object", name := "getClass", desc := "()Ljava/lang/Class;" } : Jvm.MethodName) ({ cls := "java/lang/Object", name := "getClass", desc := "()Ljava/lang/Class;" } : Jvm.MethodName)) ∈ lw_all := lw_g (lw_at lw_m2 144 rfl) rfl
theorem q807 : (Jvm.Cond.selects "java/util/NoSuchElementException" ({ cls := "java/lang/Throwable", name := "fillInStackTrace", desc := "()Ljava/lang/Throwable;" } : Jvm.MethodName) ({ cls := "java/lang/Throwable", name := "fillInStackTrace", desc := "()Ljava/lang/Throwable;" } : Jvm.MethodName)) ∈ lw_all := lw_g (lw_at lw_m3 232 rfl) rfl
theorem q1656 : (Jvm.Cond.instantiable "java/util/NoSuchElementException" (6 : Nat)) ∈ lw_all := lw_g (lw_at lw_m7 121 rfl) rfl
theorem q1657 : (Jvm.Cond.castable "java/util/NoSuchElementException" "java/util/NoSuchElementException") ∈ lw_tbl := lw_at lw_m7 122 rfl
theorem q1658 : (Jvm.Cond.selects "java/util/NoSuchElementException" ({ cls := "java/lang/Throwable", name := "fillInStackTrace", desc := "(I)Ljava/lang/Throwable;" } : Jvm.MethodName) ({ cls := "java/lang/Throwable", name := "fillInStackTrace", desc := "(I)Ljava/lang/Throwable;" } : Jvm.MethodName)) ∈ lw_all := lw_g (lw_at lw_m7 123 rfl) rfl
theorem q1659 : (Jvm.Cond.lays "java/util/NoSuchElementException" "java/lang/Throwable" "cause" "Ljava/lang/Throwable;") ∈ lw_all := lw_g (lw_at lw_m7 124 rfl) rfl
theorem q1660 : (Jvm.Cond.lays "java/util/NoSuchElementException" "java/lang/Throwable" "stackTrace" "[Ljava/lang/StackTraceElement;") ∈ lw_all := lw_g (lw_at lw_m7 125 rfl) rfl
theorem q1661 : (Jvm.Cond.lays "java/util/NoSuchElementException" "java/lang/Throwable" "suppressedExceptions" "Ljava/util/List;") ∈ lw_all := lw_g (lw_at lw_m7 126 rfl) rfl
theorem q1662 : (Jvm.Cond.lays "java/util/NoSuchElementException" "java/lang/Throwable" "detailMessage" "Ljava/lang/String;") ∈ lw_all := lw_g (lw_at lw_m7 127 rfl) rfl
theorem q1663 : (Jvm.Cond.lays "java/util/NoSuchElementException" "java/lang/Throwable" "backtrace" "Ljava/lang/Object;") ∈ lw_all := lw_g (lw_at lw_m7 128 rfl) rfl
theorem q1665 : (Jvm.Cond.instanceMethod ({ cls := "java/util/NoSuchElementException", name := "<init>", desc := "(Ljava/lang/Throwable;)V" } : Jvm.MethodName)) ∈ lw_all := lw_g (lw_at lw_m7 130 rfl) rfl
theorem q1666 : (Jvm.Cond.code ({ cls := "java/util/NoSuchElementException", name := "<init>", desc := "(Ljava/lang/Throwable;)V" } : Jvm.MethodName) prog_67_method_3_code (2 : Nat) (Option.none : Option Jvm.ClassFile.FieldType)) ∈ lw_all := lw_g (lw_at lw_m7 131 rfl) rfl
theorem q1667 : (Jvm.Cond.methodLink "java/util/NoSuchElementException" (10 : Nat) ({ cls := "java/lang/RuntimeException", name := "<init>", desc := "(Ljava/lang/Throwable;)V" } : Jvm.MethodName)) ∈ lw_all := lw_g (lw_at lw_m7 132 rfl) rfl
theorem q1684 : (Jvm.Cond.selects "java/util/NoSuchElementException" ({ cls := "java/lang/Throwable", name := "toString", desc := "()Ljava/lang/String;" } : Jvm.MethodName) ({ cls := "java/lang/Throwable", name := "toString", desc := "()Ljava/lang/String;" } : Jvm.MethodName)) ∈ lw_all := lw_g (lw_at lw_m7 149 rfl) rfl
theorem q1695 : (Jvm.Cond.selects "java/util/NoSuchElementException" ({ cls := "java/lang/Throwable", name := "getLocalizedMessage", desc := "()Ljava/lang/String;" } : Jvm.MethodName) ({ cls := "java/lang/Throwable", name := "getLocalizedMessage", desc := "()Ljava/lang/String;" } : Jvm.MethodName)) ∈ lw_all := lw_g (lw_at lw_m7 160 rfl) rfl
theorem q1705 : (Jvm.Cond.selects "java/util/NoSuchElementException" ({ cls := "java/lang/Throwable", name := "getMessage", desc := "()Ljava/lang/String;" } : Jvm.MethodName) ({ cls := "java/lang/Throwable", name := "getMessage", desc := "()Ljava/lang/String;" } : Jvm.MethodName)) ∈ lw_all := lw_g (lw_at lw_m7 170 rfl) rfl
theorem q1712 : (Jvm.Cond.lays "java/util/NoSuchElementException" "java/lang/Throwable" "depth" "I") ∈ lw_all := lw_g (lw_at lw_m7 177 rfl) rfl
theorem q1713 : (Jvm.Cond.superclass "java/util/NoSuchElementException" "java/lang/RuntimeException") ∈ lw_all := lw_g (lw_at lw_m7 178 rfl) rfl
theorem q2722 : (Jvm.Cond.castable "java/util/NoSuchElementException" "java/lang/Object") ∈ lw_tbl := lw_at lw_m11 227 rfl
theorem in_J32 : ∀ w ∈ wsJ320, w ∈ lw_all := lw_in wsJ320 [1659, 1660, 1661, 1662, 1663, 1712] (by decide +kernel) (by decide +kernel)

/-! java/util/LinkedList$Node -/
set_option maxRecDepth 100000
def RJ33 : String := "java/util/LinkedList$Node"
def TJ33 : u_T := fun k => match k with
  | 0 => ("java/util/LinkedList$Node", "item", "Ljava/lang/Object;", false)
  | 1 => ("java/util/LinkedList$Node", "next", "Ljava/util/LinkedList$Node;", false)
  | _ => ("java/util/LinkedList$Node", "prev", "Ljava/util/LinkedList$Node;", false)
def tyJ33 : Nat → FieldType := fun k => match k with
  | 0 => .object "java/lang/Object"
  | 1 => .object "java/util/LinkedList$Node"
  | _ => .object "java/util/LinkedList$Node"
abbrev wsJ330 : List Cond := u_ws RJ33 TJ33 3
theorem nmJ33 : ∀ a, a < 3 → ∀ b, b < 3 → a ≠ b → (TJ33 a).2.1 ≠ (TJ33 b).2.1 := by decide +kernel
theorem tyJ33_ok : ∀ k, k < 3 → parseFieldDescriptor (TJ33 k).2.2.1 = some (tyJ33 k) := by decide +kernel
abbrev cJ33_init : ByteArray := prog_64_method_1_code
def yJ33_init : MethodName := ⟨RJ33, "<init>", "(Ljava/util/LinkedList$Node;Ljava/lang/Object;Ljava/util/LinkedList$Node;)V"⟩
def dkwJ33_init_0 : List UInt8 := [42, 183, 0, 1, 42, 44, 181, 0, 7, 42, 45, 181, 0, 13, 42, 43, 181, 0, 17, 177]
abbrev dktJ33_init_0 : List UInt8 := dkwJ33_init_0 ++ []
theorem dksJ33_init_0 : cJ33_init.data.toList.drop 0 = dktJ33_init_0 := by decide +kernel
theorem dJ33_init_0 : decode cJ33_init 0 = .ok (.aload_n 0, 1) := dk_42 (dk_at dksJ33_init_0 0 rfl rfl)
theorem dJ33_init_1 : decode cJ33_init 1 = .ok (.invokespecial 1, 3) := dk_183 0 1 (dk_at dksJ33_init_0 1 rfl rfl)
theorem dJ33_init_4 : decode cJ33_init 4 = .ok (.aload_n 0, 1) := dk_42 (dk_at dksJ33_init_0 4 rfl rfl)
theorem dJ33_init_5 : decode cJ33_init 5 = .ok (.aload_n 2, 1) := dk_44 (dk_at dksJ33_init_0 5 rfl rfl)
theorem dJ33_init_6 : decode cJ33_init 6 = .ok (.putfield 7, 3) := dk_181 0 7 (dk_at dksJ33_init_0 6 rfl rfl)
theorem dJ33_init_9 : decode cJ33_init 9 = .ok (.aload_n 0, 1) := dk_42 (dk_at dksJ33_init_0 9 rfl rfl)
theorem dJ33_init_10 : decode cJ33_init 10 = .ok (.aload_n 3, 1) := dk_45 (dk_at dksJ33_init_0 10 rfl rfl)
theorem dJ33_init_11 : decode cJ33_init 11 = .ok (.putfield 13, 3) := dk_181 0 13 (dk_at dksJ33_init_0 11 rfl rfl)
theorem dJ33_init_14 : decode cJ33_init 14 = .ok (.aload_n 0, 1) := dk_42 (dk_at dksJ33_init_0 14 rfl rfl)
theorem dJ33_init_15 : decode cJ33_init 15 = .ok (.aload_n 1, 1) := dk_43 (dk_at dksJ33_init_0 15 rfl rfl)
theorem dJ33_init_16 : decode cJ33_init 16 = .ok (.putfield 17, 3) := dk_181 0 17 (dk_at dksJ33_init_0 16 rfl rfl)
theorem dJ33_init_19 : decode cJ33_init 19 = .ok (.return_, 1) := dk_177 (dk_at dksJ33_init_0 19 rfl rfl)
theorem q144 : (Jvm.Cond.initialized "java/util/LinkedList$Node") ∈ lw_all := lw_g (lw_at lw_m1 49 rfl) rfl
theorem q478 : (Jvm.Cond.selects "java/util/LinkedList$Node" ({ cls := "java/lang/Object", name := "getClass", desc := "()Ljava/lang/Class;" } : Jvm.MethodName) ({ cls := "java/lang/Object", name := "getClass", desc := "()Ljava/lang/Class;" } : Jvm.MethodName)) ∈ lw_all := lw_g (lw_at lw_m2 143 rfl) rfl
theorem q1755 : (Jvm.Cond.instantiable "java/util/LinkedList$Node" (3 : Nat)) ∈ lw_all := lw_g (lw_at lw_m7 220 rfl) rfl
theorem q1757 : (Jvm.Cond.instanceMethod ({ cls := "java/util/LinkedList$Node", name := "<init>", desc := "(Ljava/util/LinkedList$Node;Ljava/lang/Object;Ljava/util/LinkedList$Node;)V" } : Jvm.MethodName)) ∈ lw_all := lw_g (lw_at lw_m7 222 rfl) rfl
theorem q1758 : (Jvm.Cond.code ({ cls := "java/util/LinkedList$Node", name := "<init>", desc := "(Ljava/util/LinkedList$Node;Ljava/lang/Object;Ljava/util/LinkedList$Node;)V" } : Jvm.MethodName) prog_64_method_1_code (4 : Nat) (Option.none : Option Jvm.ClassFile.FieldType)) ∈ lw_all := lw_g (lw_at lw_m7 223 rfl) rfl
theorem q1759 : (Jvm.Cond.methodLink "java/util/LinkedList$Node" (1 : Nat) ({ cls := "java/lang/Object", name := "<init>", desc := "()V" } : Jvm.MethodName)) ∈ lw_all := lw_g (lw_at lw_m7 224 rfl) rfl
theorem q1760 : (Jvm.Cond.fieldLink "java/util/LinkedList$Node" (7 : Nat) "java/util/LinkedList$Node" "item" "Ljava/lang/Object;") ∈ lw_all := lw_g (lw_at lw_m7 225 rfl) rfl
theorem q1763 : (Jvm.Cond.fieldLink "java/util/LinkedList$Node" (13 : Nat) "java/util/LinkedList$Node" "next" "Ljava/util/LinkedList$Node;") ∈ lw_all := lw_g (lw_at lw_m7 228 rfl) rfl
theorem q1766 : (Jvm.Cond.fieldLink "java/util/LinkedList$Node" (17 : Nat) "java/util/LinkedList$Node" "prev" "Ljava/util/LinkedList$Node;") ∈ lw_all := lw_g (lw_at lw_m7 231 rfl) rfl
theorem q1768 : (Jvm.Cond.lays "java/util/LinkedList$Node" "java/util/LinkedList$Node" "item" "Ljava/lang/Object;") ∈ lw_all := lw_g (lw_at lw_m7 233 rfl) rfl
theorem q1769 : (Jvm.Cond.soleField "java/util/LinkedList$Node" "item") ∈ lw_all := lw_g (lw_at lw_m7 234 rfl) rfl
theorem q1770 : (Jvm.Cond.lays "java/util/LinkedList$Node" "java/util/LinkedList$Node" "next" "Ljava/util/LinkedList$Node;") ∈ lw_all := lw_g (lw_at lw_m7 235 rfl) rfl
theorem q1771 : (Jvm.Cond.soleField "java/util/LinkedList$Node" "next") ∈ lw_all := lw_g (lw_at lw_m7 236 rfl) rfl
theorem q1772 : (Jvm.Cond.lays "java/util/LinkedList$Node" "java/util/LinkedList$Node" "prev" "Ljava/util/LinkedList$Node;") ∈ lw_all := lw_g (lw_at lw_m7 237 rfl) rfl
theorem q1773 : (Jvm.Cond.soleField "java/util/LinkedList$Node" "prev") ∈ lw_all := lw_g (lw_at lw_m7 238 rfl) rfl
theorem q1774 : (Jvm.Cond.superclass "java/util/LinkedList$Node" "java/lang/Object") ∈ lw_all := lw_g (lw_at lw_m7 239 rfl) rfl
theorem q2723 : (Jvm.Cond.castable "java/util/LinkedList$Node" "java/lang/Object") ∈ lw_tbl := lw_at lw_m11 228 rfl
theorem in_J33 : ∀ w ∈ wsJ330, w ∈ lw_all := lw_in wsJ330 [1768, 1770, 1772] (by decide +kernel) (by decide +kernel)

/-! java/util/ArrayDeque$DeqIterator -/
set_option maxRecDepth 100000
def RJ34 : String := "java/util/ArrayDeque$DeqIterator"
def TJ34 : u_T := fun k => match k with
  | 0 => ("java/util/ArrayDeque$DeqIterator", "cursor", "I", false)
  | 1 => ("java/util/ArrayDeque$DeqIterator", "remaining", "I", false)
  | 2 => ("java/util/ArrayDeque$DeqIterator", "lastRet", "I", false)
  | _ => ("java/util/ArrayDeque$DeqIterator", "this$0", "Ljava/util/ArrayDeque;", true)
def tyJ34 : Nat → FieldType := fun k => match k with
  | 0 => .int
  | 1 => .int
  | 2 => .int
  | _ => .object "java/util/ArrayDeque"
abbrev wsJ340 : List Cond := u_ws RJ34 TJ34 4
theorem nmJ34 : ∀ a, a < 4 → ∀ b, b < 4 → a ≠ b → (TJ34 a).2.1 ≠ (TJ34 b).2.1 := by decide +kernel
theorem tyJ34_ok : ∀ k, k < 4 → parseFieldDescriptor (TJ34 k).2.2.1 = some (tyJ34 k) := by decide +kernel
abbrev cJ34_hasNext : ByteArray := prog_47_method_2_code
def yJ34_hasNext : MethodName := ⟨RJ34, "hasNext", "()Z"⟩
def dkwJ34_hasNext_0 : List UInt8 := [42, 180, 0, 19, 158, 0, 7, 4, 167, 0, 4, 3, 172]
abbrev dktJ34_hasNext_0 : List UInt8 := dkwJ34_hasNext_0 ++ []
theorem dksJ34_hasNext_0 : cJ34_hasNext.data.toList.drop 0 = dktJ34_hasNext_0 := by decide +kernel
theorem dJ34_hasNext_0 : decode cJ34_hasNext 0 = .ok (.aload_n 0, 1) := dk_42 (dk_at dksJ34_hasNext_0 0 rfl rfl)
theorem dJ34_hasNext_1 : decode cJ34_hasNext 1 = .ok (.getfield 19, 3) := dk_180 0 19 (dk_at dksJ34_hasNext_0 1 rfl rfl)
theorem dJ34_hasNext_4 : decode cJ34_hasNext 4 = .ok (.ifCond .le 7, 3) := dk_158 0 7 (dk_at dksJ34_hasNext_0 4 rfl rfl)
theorem dJ34_hasNext_7 : decode cJ34_hasNext 7 = .ok (.iconst 1, 1) := dk_4 (dk_at dksJ34_hasNext_0 7 rfl rfl)
theorem dJ34_hasNext_8 : decode cJ34_hasNext 8 = .ok (.goto 4, 3) := dk_167 0 4 (dk_at dksJ34_hasNext_0 8 rfl rfl)
theorem dJ34_hasNext_11 : decode cJ34_hasNext 11 = .ok (.iconst 0, 1) := dk_3 (dk_at dksJ34_hasNext_0 11 rfl rfl)
theorem dJ34_hasNext_12 : decode cJ34_hasNext 12 = .ok (.ireturn, 1) := dk_172 (dk_at dksJ34_hasNext_0 12 rfl rfl)
abbrev cJ34_next : ByteArray := prog_47_method_3_code
def yJ34_next : MethodName := ⟨RJ34, "next", "()Ljava/lang/Object;"⟩
def dkwJ34_next_2 : List UInt8 := [181, 0, 29, 42, 89, 180, 0, 19, 4, 100, 181, 0, 19, 44, 176]
abbrev dktJ34_next_2 : List UInt8 := dkwJ34_next_2 ++ []
def dkwJ34_next_1 : List UInt8 := [42, 180, 0, 29, 184, 0, 39, 77, 42, 42, 42, 180, 0, 29, 90, 181, 0, 23, 43, 190, 184, 0, 43]
abbrev dktJ34_next_1 : List UInt8 := dkwJ34_next_1 ++ dktJ34_next_2
def dkwJ34_next_0 : List UInt8 := [42, 180, 0, 19, 157, 0, 11, 187, 0, 32, 89, 183, 0, 34, 191, 42, 180, 0, 1, 180, 0, 35, 76, 43]
abbrev dktJ34_next_0 : List UInt8 := dkwJ34_next_0 ++ dktJ34_next_1
theorem dksJ34_next_0 : cJ34_next.data.toList.drop 0 = dktJ34_next_0 := by decide +kernel
theorem dksJ34_next_1 : cJ34_next.data.toList.drop 24 = dktJ34_next_1 := dk_seg dksJ34_next_0 24 rfl rfl
theorem dksJ34_next_2 : cJ34_next.data.toList.drop 47 = dktJ34_next_2 := dk_seg dksJ34_next_1 23 rfl rfl
theorem dJ34_next_0 : decode cJ34_next 0 = .ok (.aload_n 0, 1) := dk_42 (dk_at dksJ34_next_0 0 rfl rfl)
theorem dJ34_next_1 : decode cJ34_next 1 = .ok (.getfield 19, 3) := dk_180 0 19 (dk_at dksJ34_next_0 1 rfl rfl)
theorem dJ34_next_4 : decode cJ34_next 4 = .ok (.ifCond .gt 11, 3) := dk_157 0 11 (dk_at dksJ34_next_0 4 rfl rfl)
theorem dJ34_next_7 : decode cJ34_next 7 = .ok (.new 32, 3) := dk_187 0 32 (dk_at dksJ34_next_0 7 rfl rfl)
theorem dJ34_next_10 : decode cJ34_next 10 = .ok (.dup, 1) := dk_89 (dk_at dksJ34_next_0 10 rfl rfl)
theorem dJ34_next_11 : decode cJ34_next 11 = .ok (.invokespecial 34, 3) := dk_183 0 34 (dk_at dksJ34_next_0 11 rfl rfl)
theorem dJ34_next_14 : decode cJ34_next 14 = .ok (.athrow, 1) := dk_191 (dk_at dksJ34_next_0 14 rfl rfl)
theorem dJ34_next_15 : decode cJ34_next 15 = .ok (.aload_n 0, 1) := dk_42 (dk_at dksJ34_next_0 15 rfl rfl)
theorem dJ34_next_16 : decode cJ34_next 16 = .ok (.getfield 1, 3) := dk_180 0 1 (dk_at dksJ34_next_0 16 rfl rfl)
theorem dJ34_next_19 : decode cJ34_next 19 = .ok (.getfield 35, 3) := dk_180 0 35 (dk_at dksJ34_next_0 19 rfl rfl)
theorem dJ34_next_22 : decode cJ34_next 22 = .ok (.astore_n 1, 1) := dk_76 (dk_at dksJ34_next_0 22 rfl rfl)
theorem dJ34_next_23 : decode cJ34_next 23 = .ok (.aload_n 1, 1) := dk_43 (dk_at dksJ34_next_0 23 rfl rfl)
theorem dJ34_next_24 : decode cJ34_next 24 = .ok (.aload_n 0, 1) := dk_42 (dk_at dksJ34_next_1 0 rfl rfl)
theorem dJ34_next_25 : decode cJ34_next 25 = .ok (.getfield 29, 3) := dk_180 0 29 (dk_at dksJ34_next_1 1 rfl rfl)
theorem dJ34_next_28 : decode cJ34_next 28 = .ok (.invokestatic 39, 3) := dk_184 0 39 (dk_at dksJ34_next_1 4 rfl rfl)
theorem dJ34_next_31 : decode cJ34_next 31 = .ok (.astore_n 2, 1) := dk_77 (dk_at dksJ34_next_1 7 rfl rfl)
theorem dJ34_next_32 : decode cJ34_next 32 = .ok (.aload_n 0, 1) := dk_42 (dk_at dksJ34_next_1 8 rfl rfl)
theorem dJ34_next_33 : decode cJ34_next 33 = .ok (.aload_n 0, 1) := dk_42 (dk_at dksJ34_next_1 9 rfl rfl)
theorem dJ34_next_34 : decode cJ34_next 34 = .ok (.aload_n 0, 1) := dk_42 (dk_at dksJ34_next_1 10 rfl rfl)
theorem dJ34_next_35 : decode cJ34_next 35 = .ok (.getfield 29, 3) := dk_180 0 29 (dk_at dksJ34_next_1 11 rfl rfl)
theorem dJ34_next_38 : decode cJ34_next 38 = .ok (.dup_x1, 1) := dk_90 (dk_at dksJ34_next_1 14 rfl rfl)
theorem dJ34_next_39 : decode cJ34_next 39 = .ok (.putfield 23, 3) := dk_181 0 23 (dk_at dksJ34_next_1 15 rfl rfl)
theorem dJ34_next_42 : decode cJ34_next 42 = .ok (.aload_n 1, 1) := dk_43 (dk_at dksJ34_next_1 18 rfl rfl)
theorem dJ34_next_43 : decode cJ34_next 43 = .ok (.arraylength, 1) := dk_190 (dk_at dksJ34_next_1 19 rfl rfl)
theorem dJ34_next_44 : decode cJ34_next 44 = .ok (.invokestatic 43, 3) := dk_184 0 43 (dk_at dksJ34_next_1 20 rfl rfl)
theorem dJ34_next_47 : decode cJ34_next 47 = .ok (.putfield 29, 3) := dk_181 0 29 (dk_at dksJ34_next_2 0 rfl rfl)
theorem dJ34_next_50 : decode cJ34_next 50 = .ok (.aload_n 0, 1) := dk_42 (dk_at dksJ34_next_2 3 rfl rfl)
theorem dJ34_next_51 : decode cJ34_next 51 = .ok (.dup, 1) := dk_89 (dk_at dksJ34_next_2 4 rfl rfl)
theorem dJ34_next_52 : decode cJ34_next 52 = .ok (.getfield 19, 3) := dk_180 0 19 (dk_at dksJ34_next_2 5 rfl rfl)
theorem dJ34_next_55 : decode cJ34_next 55 = .ok (.iconst 1, 1) := dk_4 (dk_at dksJ34_next_2 8 rfl rfl)
theorem dJ34_next_56 : decode cJ34_next 56 = .ok (.isub, 1) := dk_100 (dk_at dksJ34_next_2 9 rfl rfl)
theorem dJ34_next_57 : decode cJ34_next 57 = .ok (.putfield 19, 3) := dk_181 0 19 (dk_at dksJ34_next_2 10 rfl rfl)
theorem dJ34_next_60 : decode cJ34_next 60 = .ok (.aload_n 2, 1) := dk_44 (dk_at dksJ34_next_2 13 rfl rfl)
theorem dJ34_next_61 : decode cJ34_next 61 = .ok (.areturn, 1) := dk_176 (dk_at dksJ34_next_2 14 rfl rfl)
abbrev cJ34_init : ByteArray := prog_47_method_1_code
def yJ34_init : MethodName := ⟨RJ34, "<init>", "(Ljava/util/ArrayDeque;)V"⟩
def dkwJ34_init_1 : List UInt8 := [181, 0, 23, 42, 43, 180, 0, 26, 181, 0, 29, 177]
abbrev dktJ34_init_1 : List UInt8 := dkwJ34_init_1 ++ []
def dkwJ34_init_0 : List UInt8 := [42, 43, 181, 0, 1, 42, 183, 0, 7, 42, 42, 180, 0, 1, 182, 0, 13, 181, 0, 19, 42, 2]
abbrev dktJ34_init_0 : List UInt8 := dkwJ34_init_0 ++ dktJ34_init_1
theorem dksJ34_init_0 : cJ34_init.data.toList.drop 0 = dktJ34_init_0 := by decide +kernel
theorem dksJ34_init_1 : cJ34_init.data.toList.drop 22 = dktJ34_init_1 := dk_seg dksJ34_init_0 22 rfl rfl
theorem dJ34_init_0 : decode cJ34_init 0 = .ok (.aload_n 0, 1) := dk_42 (dk_at dksJ34_init_0 0 rfl rfl)
theorem dJ34_init_1 : decode cJ34_init 1 = .ok (.aload_n 1, 1) := dk_43 (dk_at dksJ34_init_0 1 rfl rfl)
theorem dJ34_init_2 : decode cJ34_init 2 = .ok (.putfield 1, 3) := dk_181 0 1 (dk_at dksJ34_init_0 2 rfl rfl)
theorem dJ34_init_5 : decode cJ34_init 5 = .ok (.aload_n 0, 1) := dk_42 (dk_at dksJ34_init_0 5 rfl rfl)
theorem dJ34_init_6 : decode cJ34_init 6 = .ok (.invokespecial 7, 3) := dk_183 0 7 (dk_at dksJ34_init_0 6 rfl rfl)
theorem dJ34_init_9 : decode cJ34_init 9 = .ok (.aload_n 0, 1) := dk_42 (dk_at dksJ34_init_0 9 rfl rfl)
theorem dJ34_init_10 : decode cJ34_init 10 = .ok (.aload_n 0, 1) := dk_42 (dk_at dksJ34_init_0 10 rfl rfl)
theorem dJ34_init_11 : decode cJ34_init 11 = .ok (.getfield 1, 3) := dk_180 0 1 (dk_at dksJ34_init_0 11 rfl rfl)
theorem dJ34_init_14 : decode cJ34_init 14 = .ok (.invokevirtual 13, 3) := dk_182 0 13 (dk_at dksJ34_init_0 14 rfl rfl)
theorem dJ34_init_17 : decode cJ34_init 17 = .ok (.putfield 19, 3) := dk_181 0 19 (dk_at dksJ34_init_0 17 rfl rfl)
theorem dJ34_init_20 : decode cJ34_init 20 = .ok (.aload_n 0, 1) := dk_42 (dk_at dksJ34_init_0 20 rfl rfl)
theorem dJ34_init_21 : decode cJ34_init 21 = .ok (.iconst (-1), 1) := dk_2 (dk_at dksJ34_init_0 21 rfl rfl)
theorem dJ34_init_22 : decode cJ34_init 22 = .ok (.putfield 23, 3) := dk_181 0 23 (dk_at dksJ34_init_1 0 rfl rfl)
theorem dJ34_init_25 : decode cJ34_init 25 = .ok (.aload_n 0, 1) := dk_42 (dk_at dksJ34_init_1 3 rfl rfl)
theorem dJ34_init_26 : decode cJ34_init 26 = .ok (.aload_n 1, 1) := dk_43 (dk_at dksJ34_init_1 4 rfl rfl)
theorem dJ34_init_27 : decode cJ34_init 27 = .ok (.getfield 26, 3) := dk_180 0 26 (dk_at dksJ34_init_1 5 rfl rfl)
theorem dJ34_init_30 : decode cJ34_init 30 = .ok (.putfield 29, 3) := dk_181 0 29 (dk_at dksJ34_init_1 8 rfl rfl)
theorem dJ34_init_33 : decode cJ34_init 33 = .ok (.return_, 1) := dk_177 (dk_at dksJ34_init_1 11 rfl rfl)
abbrev cJ34_remove : ByteArray := prog_47_method_5_code
def yJ34_remove : MethodName := ⟨RJ34, "remove", "()V"⟩
def dkwJ34_remove_1 : List UInt8 := [182, 0, 53, 182, 0, 57, 42, 2, 181, 0, 23, 177]
abbrev dktJ34_remove_1 : List UInt8 := dkwJ34_remove_1 ++ []
def dkwJ34_remove_0 : List UInt8 := [42, 180, 0, 23, 156, 0, 11, 187, 0, 50, 89, 183, 0, 52, 191, 42, 42, 180, 0, 1, 42, 180, 0, 23]
abbrev dktJ34_remove_0 : List UInt8 := dkwJ34_remove_0 ++ dktJ34_remove_1
theorem dksJ34_remove_0 : cJ34_remove.data.toList.drop 0 = dktJ34_remove_0 := by decide +kernel
theorem dksJ34_remove_1 : cJ34_remove.data.toList.drop 24 = dktJ34_remove_1 := dk_seg dksJ34_remove_0 24 rfl rfl
theorem dJ34_remove_0 : decode cJ34_remove 0 = .ok (.aload_n 0, 1) := dk_42 (dk_at dksJ34_remove_0 0 rfl rfl)
theorem dJ34_remove_1 : decode cJ34_remove 1 = .ok (.getfield 23, 3) := dk_180 0 23 (dk_at dksJ34_remove_0 1 rfl rfl)
theorem dJ34_remove_4 : decode cJ34_remove 4 = .ok (.ifCond .ge 11, 3) := dk_156 0 11 (dk_at dksJ34_remove_0 4 rfl rfl)
theorem dJ34_remove_7 : decode cJ34_remove 7 = .ok (.new 50, 3) := dk_187 0 50 (dk_at dksJ34_remove_0 7 rfl rfl)
theorem dJ34_remove_10 : decode cJ34_remove 10 = .ok (.dup, 1) := dk_89 (dk_at dksJ34_remove_0 10 rfl rfl)
theorem dJ34_remove_11 : decode cJ34_remove 11 = .ok (.invokespecial 52, 3) := dk_183 0 52 (dk_at dksJ34_remove_0 11 rfl rfl)
theorem dJ34_remove_14 : decode cJ34_remove 14 = .ok (.athrow, 1) := dk_191 (dk_at dksJ34_remove_0 14 rfl rfl)
theorem dJ34_remove_15 : decode cJ34_remove 15 = .ok (.aload_n 0, 1) := dk_42 (dk_at dksJ34_remove_0 15 rfl rfl)
theorem dJ34_remove_16 : decode cJ34_remove 16 = .ok (.aload_n 0, 1) := dk_42 (dk_at dksJ34_remove_0 16 rfl rfl)
theorem dJ34_remove_17 : decode cJ34_remove 17 = .ok (.getfield 1, 3) := dk_180 0 1 (dk_at dksJ34_remove_0 17 rfl rfl)
theorem dJ34_remove_20 : decode cJ34_remove 20 = .ok (.aload_n 0, 1) := dk_42 (dk_at dksJ34_remove_0 20 rfl rfl)
theorem dJ34_remove_21 : decode cJ34_remove 21 = .ok (.getfield 23, 3) := dk_180 0 23 (dk_at dksJ34_remove_0 21 rfl rfl)
theorem dJ34_remove_24 : decode cJ34_remove 24 = .ok (.invokevirtual 53, 3) := dk_182 0 53 (dk_at dksJ34_remove_1 0 rfl rfl)
theorem dJ34_remove_27 : decode cJ34_remove 27 = .ok (.invokevirtual 57, 3) := dk_182 0 57 (dk_at dksJ34_remove_1 3 rfl rfl)
theorem dJ34_remove_30 : decode cJ34_remove 30 = .ok (.aload_n 0, 1) := dk_42 (dk_at dksJ34_remove_1 6 rfl rfl)
theorem dJ34_remove_31 : decode cJ34_remove 31 = .ok (.iconst (-1), 1) := dk_2 (dk_at dksJ34_remove_1 7 rfl rfl)
theorem dJ34_remove_32 : decode cJ34_remove 32 = .ok (.putfield 23, 3) := dk_181 0 23 (dk_at dksJ34_remove_1 8 rfl rfl)
theorem dJ34_remove_35 : decode cJ34_remove 35 = .ok (.return_, 1) := dk_177 (dk_at dksJ34_remove_1 11 rfl rfl)
abbrev cJ34_postDelete : ByteArray := prog_47_method_4_code
def yJ34_postDelete : MethodName := ⟨RJ34, "postDelete", "(Z)V"⟩
def dkwJ34_postDelete_0 : List UInt8 := [27, 153, 0, 22, 42, 42, 180, 0, 29, 42, 180, 0, 1, 180, 0, 35, 190, 184, 0, 47, 181, 0, 29, 177]
abbrev dktJ34_postDelete_0 : List UInt8 := dkwJ34_postDelete_0 ++ []
theorem dksJ34_postDelete_0 : cJ34_postDelete.data.toList.drop 0 = dktJ34_postDelete_0 := by decide +kernel
theorem dJ34_postDelete_0 : decode cJ34_postDelete 0 = .ok (.iload_n 1, 1) := dk_27 (dk_at dksJ34_postDelete_0 0 rfl rfl)
theorem dJ34_postDelete_1 : decode cJ34_postDelete 1 = .ok (.ifCond .eq 22, 3) := dk_153 0 22 (dk_at dksJ34_postDelete_0 1 rfl rfl)
theorem dJ34_postDelete_4 : decode cJ34_postDelete 4 = .ok (.aload_n 0, 1) := dk_42 (dk_at dksJ34_postDelete_0 4 rfl rfl)
theorem dJ34_postDelete_5 : decode cJ34_postDelete 5 = .ok (.aload_n 0, 1) := dk_42 (dk_at dksJ34_postDelete_0 5 rfl rfl)
theorem dJ34_postDelete_6 : decode cJ34_postDelete 6 = .ok (.getfield 29, 3) := dk_180 0 29 (dk_at dksJ34_postDelete_0 6 rfl rfl)
theorem dJ34_postDelete_9 : decode cJ34_postDelete 9 = .ok (.aload_n 0, 1) := dk_42 (dk_at dksJ34_postDelete_0 9 rfl rfl)
theorem dJ34_postDelete_10 : decode cJ34_postDelete 10 = .ok (.getfield 1, 3) := dk_180 0 1 (dk_at dksJ34_postDelete_0 10 rfl rfl)
theorem dJ34_postDelete_13 : decode cJ34_postDelete 13 = .ok (.getfield 35, 3) := dk_180 0 35 (dk_at dksJ34_postDelete_0 13 rfl rfl)
theorem dJ34_postDelete_16 : decode cJ34_postDelete 16 = .ok (.arraylength, 1) := dk_190 (dk_at dksJ34_postDelete_0 16 rfl rfl)
theorem dJ34_postDelete_17 : decode cJ34_postDelete 17 = .ok (.invokestatic 47, 3) := dk_184 0 47 (dk_at dksJ34_postDelete_0 17 rfl rfl)
theorem dJ34_postDelete_20 : decode cJ34_postDelete 20 = .ok (.putfield 29, 3) := dk_181 0 29 (dk_at dksJ34_postDelete_0 20 rfl rfl)
theorem dJ34_postDelete_23 : decode cJ34_postDelete 23 = .ok (.return_, 1) := dk_177 (dk_at dksJ34_postDelete_0 23 rfl rfl)
theorem q145 : (Jvm.Cond.initialized "java/util/ArrayDeque$DeqIterator") ∈ lw_all := lw_g (lw_at lw_m1 50 rfl) rfl
theorem q279 : (Jvm.Cond.fieldLink "java/util/ArrayDeque$DeqIterator" (35 : Nat) "java/util/ArrayDeque" "elements" "[Ljava/lang/Object;") ∈ lw_all := lw_g (lw_at lw_m1 184 rfl) rfl
theorem q280 : (Jvm.Cond.fieldLink "java/util/ArrayDeque$DeqIterator" (26 : Nat) "java/util/ArrayDeque" "head" "I") ∈ lw_all := lw_g (lw_at lw_m1 185 rfl) rfl
theorem q469 : (Jvm.Cond.selects "java/util/ArrayDeque$DeqIterator" ({ cls := "java/lang/Object", name := "getClass", desc := "()Ljava/lang/Class;" } : Jvm.MethodName) ({ cls := "java/lang/Object", name := "getClass", desc := "()Ljava/lang/Class;" } : Jvm.MethodName)) ∈ lw_all := lw_g (lw_at lw_m2 134 rfl) rfl
theorem q1618 : (Jvm.Cond.castable "java/util/ArrayDeque$DeqIterator" "java/util/Iterator") ∈ lw_tbl := lw_at lw_m7 83 rfl
theorem q1619 : (Jvm.Cond.selects "java/util/ArrayDeque$DeqIterator" ({ cls := "java/util/Iterator", name := "hasNext", desc := "()Z" } : Jvm.MethodName) ({ cls := "java/util/ArrayDeque$DeqIterator", name := "hasNext", desc := "()Z" } : Jvm.MethodName)) ∈ lw_all := lw_g (lw_at lw_m7 84 rfl) rfl
theorem q1620 : (Jvm.Cond.unhidden "java/util/ArrayDeque$DeqIterator" "hasNext" "()Z") ∈ lw_tbl := lw_at lw_m7 85 rfl
theorem q1621 : (Jvm.Cond.instanceMethod ({ cls := "java/util/ArrayDeque$DeqIterator", name := "hasNext", desc := "()Z" } : Jvm.MethodName)) ∈ lw_all := lw_g (lw_at lw_m7 86 rfl) rfl
theorem q1622 : (Jvm.Cond.publicMethod ({ cls := "java/util/ArrayDeque$DeqIterator", name := "hasNext", desc := "()Z" } : Jvm.MethodName)) ∈ lw_tbl := lw_at lw_m7 87 rfl
theorem q1623 : (Jvm.Cond.code ({ cls := "java/util/ArrayDeque$DeqIterator", name := "hasNext", desc := "()Z" } : Jvm.MethodName) prog_47_method_2_code (1 : Nat) (Option.some Jvm.ClassFile.FieldType.boolean)) ∈ lw_all := lw_g (lw_at lw_m7 88 rfl) rfl
theorem q1714 : (Jvm.Cond.selects "java/util/ArrayDeque$DeqIterator" ({ cls := "java/util/Iterator", name := "next", desc := "()Ljava/lang/Object;" } : Jvm.MethodName) ({ cls := "java/util/ArrayDeque$DeqIterator", name := "next", desc := "()Ljava/lang/Object;" } : Jvm.MethodName)) ∈ lw_all := lw_g (lw_at lw_m7 179 rfl) rfl
theorem q1715 : (Jvm.Cond.unhidden "java/util/ArrayDeque$DeqIterator" "next" "()Ljava/lang/Object;") ∈ lw_tbl := lw_at lw_m7 180 rfl
theorem q1716 : (Jvm.Cond.instanceMethod ({ cls := "java/util/ArrayDeque$DeqIterator", name := "next", desc := "()Ljava/lang/Object;" } : Jvm.MethodName)) ∈ lw_all := lw_g (lw_at lw_m7 181 rfl) rfl
theorem q1717 : (Jvm.Cond.publicMethod ({ cls := "java/util/ArrayDeque$DeqIterator", name := "next", desc := "()Ljava/lang/Object;" } : Jvm.MethodName)) ∈ lw_tbl := lw_at lw_m7 182 rfl
theorem q1718 : (Jvm.Cond.code ({ cls := "java/util/ArrayDeque$DeqIterator", name := "next", desc := "()Ljava/lang/Object;" } : Jvm.MethodName) prog_47_method_3_code (3 : Nat) (Option.some (Jvm.ClassFile.FieldType.object "java/lang/Object"))) ∈ lw_all := lw_g (lw_at lw_m7 183 rfl) rfl
theorem q1719 : (Jvm.Cond.methodLink "java/util/ArrayDeque$DeqIterator" (39 : Nat) ({ cls := "java/util/ArrayDeque", name := "nonNullElementAt", desc := "([Ljava/lang/Object;I)Ljava/lang/Object;" } : Jvm.MethodName)) ∈ lw_all := lw_g (lw_at lw_m7 184 rfl) rfl
theorem q1722 : (Jvm.Cond.methodLink "java/util/ArrayDeque$DeqIterator" (43 : Nat) ({ cls := "java/util/ArrayDeque", name := "inc", desc := "(II)I" } : Jvm.MethodName)) ∈ lw_all := lw_g (lw_at lw_m7 187 rfl) rfl
theorem q1780 : (Jvm.Cond.instantiable "java/util/ArrayDeque$DeqIterator" (4 : Nat)) ∈ lw_all := lw_g (lw_at lw_m8 5 rfl) rfl
theorem q1782 : (Jvm.Cond.instanceMethod ({ cls := "java/util/ArrayDeque$DeqIterator", name := "<init>", desc := "(Ljava/util/ArrayDeque;)V" } : Jvm.MethodName)) ∈ lw_all := lw_g (lw_at lw_m8 7 rfl) rfl
theorem q1783 : (Jvm.Cond.code ({ cls := "java/util/ArrayDeque$DeqIterator", name := "<init>", desc := "(Ljava/util/ArrayDeque;)V" } : Jvm.MethodName) prog_47_method_1_code (2 : Nat) (Option.none : Option Jvm.ClassFile.FieldType)) ∈ lw_all := lw_g (lw_at lw_m8 8 rfl) rfl
theorem q1784 : (Jvm.Cond.methodLink "java/util/ArrayDeque$DeqIterator" (7 : Nat) ({ cls := "java/lang/Object", name := "<init>", desc := "()V" } : Jvm.MethodName)) ∈ lw_all := lw_g (lw_at lw_m8 9 rfl) rfl
theorem q1785 : (Jvm.Cond.methodLink "java/util/ArrayDeque$DeqIterator" (13 : Nat) ({ cls := "java/util/ArrayDeque", name := "size", desc := "()I" } : Jvm.MethodName)) ∈ lw_all := lw_g (lw_at lw_m8 10 rfl) rfl
theorem q1792 : (Jvm.Cond.fieldLink "java/util/ArrayDeque$DeqIterator" (29 : Nat) "java/util/ArrayDeque$DeqIterator" "cursor" "I") ∈ lw_all := lw_g (lw_at lw_m8 17 rfl) rfl
theorem q1793 : (Jvm.Cond.fieldLink "java/util/ArrayDeque$DeqIterator" (19 : Nat) "java/util/ArrayDeque$DeqIterator" "remaining" "I") ∈ lw_all := lw_g (lw_at lw_m8 18 rfl) rfl
theorem q1794 : (Jvm.Cond.fieldLink "java/util/ArrayDeque$DeqIterator" (23 : Nat) "java/util/ArrayDeque$DeqIterator" "lastRet" "I") ∈ lw_all := lw_g (lw_at lw_m8 19 rfl) rfl
theorem q1795 : (Jvm.Cond.fieldLink "java/util/ArrayDeque$DeqIterator" (1 : Nat) "java/util/ArrayDeque$DeqIterator" "this$0" "Ljava/util/ArrayDeque;") ∈ lw_all := lw_g (lw_at lw_m8 20 rfl) rfl
theorem q1796 : (Jvm.Cond.lays "java/util/ArrayDeque$DeqIterator" "java/util/ArrayDeque$DeqIterator" "cursor" "I") ∈ lw_all := lw_g (lw_at lw_m8 21 rfl) rfl
theorem q1797 : (Jvm.Cond.soleField "java/util/ArrayDeque$DeqIterator" "cursor") ∈ lw_all := lw_g (lw_at lw_m8 22 rfl) rfl
theorem q1798 : (Jvm.Cond.lays "java/util/ArrayDeque$DeqIterator" "java/util/ArrayDeque$DeqIterator" "remaining" "I") ∈ lw_all := lw_g (lw_at lw_m8 23 rfl) rfl
theorem q1799 : (Jvm.Cond.soleField "java/util/ArrayDeque$DeqIterator" "remaining") ∈ lw_all := lw_g (lw_at lw_m8 24 rfl) rfl
theorem q1800 : (Jvm.Cond.lays "java/util/ArrayDeque$DeqIterator" "java/util/ArrayDeque$DeqIterator" "lastRet" "I") ∈ lw_all := lw_g (lw_at lw_m8 25 rfl) rfl
theorem q1801 : (Jvm.Cond.soleField "java/util/ArrayDeque$DeqIterator" "lastRet") ∈ lw_all := lw_g (lw_at lw_m8 26 rfl) rfl
theorem q1802 : (Jvm.Cond.laysFinal "java/util/ArrayDeque$DeqIterator" "java/util/ArrayDeque$DeqIterator" "this$0" "Ljava/util/ArrayDeque;") ∈ lw_all := lw_g (lw_at lw_m8 27 rfl) rfl
theorem q1803 : (Jvm.Cond.soleField "java/util/ArrayDeque$DeqIterator" "this$0") ∈ lw_all := lw_g (lw_at lw_m8 28 rfl) rfl
theorem q1804 : (Jvm.Cond.superclass "java/util/ArrayDeque$DeqIterator" "java/lang/Object") ∈ lw_all := lw_g (lw_at lw_m8 29 rfl) rfl
theorem q1981 : (Jvm.Cond.selects "java/util/ArrayDeque$DeqIterator" ({ cls := "java/util/Iterator", name := "remove", desc := "()V" } : Jvm.MethodName) ({ cls := "java/util/ArrayDeque$DeqIterator", name := "remove", desc := "()V" } : Jvm.MethodName)) ∈ lw_all := lw_g (lw_at lw_m8 206 rfl) rfl
theorem q1982 : (Jvm.Cond.unhidden "java/util/ArrayDeque$DeqIterator" "remove" "()V") ∈ lw_tbl := lw_at lw_m8 207 rfl
theorem q1983 : (Jvm.Cond.instanceMethod ({ cls := "java/util/ArrayDeque$DeqIterator", name := "remove", desc := "()V" } : Jvm.MethodName)) ∈ lw_all := lw_g (lw_at lw_m8 208 rfl) rfl
theorem q1984 : (Jvm.Cond.publicMethod ({ cls := "java/util/ArrayDeque$DeqIterator", name := "remove", desc := "()V" } : Jvm.MethodName)) ∈ lw_tbl := lw_at lw_m8 209 rfl
theorem q1985 : (Jvm.Cond.code ({ cls := "java/util/ArrayDeque$DeqIterator", name := "remove", desc := "()V" } : Jvm.MethodName) prog_47_method_5_code (1 : Nat) (Option.none : Option Jvm.ClassFile.FieldType)) ∈ lw_all := lw_g (lw_at lw_m8 210 rfl) rfl
theorem q1986 : (Jvm.Cond.methodLink "java/util/ArrayDeque$DeqIterator" (53 : Nat) ({ cls := "java/util/ArrayDeque", name := "delete", desc := "(I)Z" } : Jvm.MethodName)) ∈ lw_all := lw_g (lw_at lw_m8 211 rfl) rfl
theorem q1993 : (Jvm.Cond.methodLink "java/util/ArrayDeque$DeqIterator" (57 : Nat) ({ cls := "java/util/ArrayDeque$DeqIterator", name := "postDelete", desc := "(Z)V" } : Jvm.MethodName)) ∈ lw_all := lw_g (lw_at lw_m8 218 rfl) rfl
theorem q1994 : (Jvm.Cond.instanceMethod ({ cls := "java/util/ArrayDeque$DeqIterator", name := "postDelete", desc := "(Z)V" } : Jvm.MethodName)) ∈ lw_all := lw_g (lw_at lw_m8 219 rfl) rfl
theorem q1995 : (Jvm.Cond.selects "java/util/ArrayDeque$DeqIterator" ({ cls := "java/util/ArrayDeque$DeqIterator", name := "postDelete", desc := "(Z)V" } : Jvm.MethodName) ({ cls := "java/util/ArrayDeque$DeqIterator", name := "postDelete", desc := "(Z)V" } : Jvm.MethodName)) ∈ lw_all := lw_g (lw_at lw_m8 220 rfl) rfl
theorem q1996 : (Jvm.Cond.code ({ cls := "java/util/ArrayDeque$DeqIterator", name := "postDelete", desc := "(Z)V" } : Jvm.MethodName) prog_47_method_4_code (2 : Nat) (Option.none : Option Jvm.ClassFile.FieldType)) ∈ lw_all := lw_g (lw_at lw_m8 221 rfl) rfl
theorem q1997 : (Jvm.Cond.methodLink "java/util/ArrayDeque$DeqIterator" (47 : Nat) ({ cls := "java/util/ArrayDeque", name := "dec", desc := "(II)I" } : Jvm.MethodName)) ∈ lw_all := lw_g (lw_at lw_m8 222 rfl) rfl
theorem q2724 : (Jvm.Cond.castable "java/util/ArrayDeque$DeqIterator" "java/lang/Object") ∈ lw_tbl := lw_at lw_m11 229 rfl
theorem in_J34 : ∀ w ∈ wsJ340, w ∈ lw_all := lw_in wsJ340 [1796, 1798, 1800, 1802] (by decide +kernel) (by decide +kernel)

/-! java/lang/Long -/
set_option maxRecDepth 100000
def RJ35 : String := "java/lang/Long"
abbrev cJ35_numberOfTrailingZeros : ByteArray := prog_29_method_49_code
def yJ35_numberOfTrailingZeros : MethodName := ⟨RJ35, "numberOfTrailingZeros", "(J)I"⟩
def dkwJ35_numberOfTrailingZeros_1 : List UInt8 := [184, 1, 55, 172]
abbrev dktJ35_numberOfTrailingZeros_1 : List UInt8 := dkwJ35_numberOfTrailingZeros_1 ++ []
def dkwJ35_numberOfTrailingZeros_0 : List UInt8 := [30, 136, 61, 28, 154, 0, 17, 16, 32, 30, 16, 32, 125, 136, 184, 1, 55, 96, 167, 0, 7, 28]
abbrev dktJ35_numberOfTrailingZeros_0 : List UInt8 := dkwJ35_numberOfTrailingZeros_0 ++ dktJ35_numberOfTrailingZeros_1
theorem dksJ35_numberOfTrailingZeros_0 : cJ35_numberOfTrailingZeros.data.toList.drop 0 = dktJ35_numberOfTrailingZeros_0 := by decide +kernel
theorem dksJ35_numberOfTrailingZeros_1 : cJ35_numberOfTrailingZeros.data.toList.drop 22 = dktJ35_numberOfTrailingZeros_1 := dk_seg dksJ35_numberOfTrailingZeros_0 22 rfl rfl
theorem dJ35_numberOfTrailingZeros_0 : decode cJ35_numberOfTrailingZeros 0 = .ok (.lload_n 0, 1) := dk_30 (dk_at dksJ35_numberOfTrailingZeros_0 0 rfl rfl)
theorem dJ35_numberOfTrailingZeros_1 : decode cJ35_numberOfTrailingZeros 1 = .ok (.l2i, 1) := dk_136 (dk_at dksJ35_numberOfTrailingZeros_0 1 rfl rfl)
theorem dJ35_numberOfTrailingZeros_2 : decode cJ35_numberOfTrailingZeros 2 = .ok (.istore_n 2, 1) := dk_61 (dk_at dksJ35_numberOfTrailingZeros_0 2 rfl rfl)
theorem dJ35_numberOfTrailingZeros_3 : decode cJ35_numberOfTrailingZeros 3 = .ok (.iload_n 2, 1) := dk_28 (dk_at dksJ35_numberOfTrailingZeros_0 3 rfl rfl)
theorem dJ35_numberOfTrailingZeros_4 : decode cJ35_numberOfTrailingZeros 4 = .ok (.ifCond .ne 17, 3) := dk_154 0 17 (dk_at dksJ35_numberOfTrailingZeros_0 4 rfl rfl)
theorem dJ35_numberOfTrailingZeros_7 : decode cJ35_numberOfTrailingZeros 7 = .ok (.bipush 32, 2) := dk_16 32 (dk_at dksJ35_numberOfTrailingZeros_0 7 rfl rfl)
theorem dJ35_numberOfTrailingZeros_9 : decode cJ35_numberOfTrailingZeros 9 = .ok (.lload_n 0, 1) := dk_30 (dk_at dksJ35_numberOfTrailingZeros_0 9 rfl rfl)
theorem dJ35_numberOfTrailingZeros_10 : decode cJ35_numberOfTrailingZeros 10 = .ok (.bipush 32, 2) := dk_16 32 (dk_at dksJ35_numberOfTrailingZeros_0 10 rfl rfl)
theorem dJ35_numberOfTrailingZeros_12 : decode cJ35_numberOfTrailingZeros 12 = .ok (.lushr, 1) := dk_125 (dk_at dksJ35_numberOfTrailingZeros_0 12 rfl rfl)
theorem dJ35_numberOfTrailingZeros_13 : decode cJ35_numberOfTrailingZeros 13 = .ok (.l2i, 1) := dk_136 (dk_at dksJ35_numberOfTrailingZeros_0 13 rfl rfl)
theorem dJ35_numberOfTrailingZeros_14 : decode cJ35_numberOfTrailingZeros 14 = .ok (.invokestatic 311, 3) := dk_184 1 55 (dk_at dksJ35_numberOfTrailingZeros_0 14 rfl rfl)
theorem dJ35_numberOfTrailingZeros_17 : decode cJ35_numberOfTrailingZeros 17 = .ok (.iadd, 1) := dk_96 (dk_at dksJ35_numberOfTrailingZeros_0 17 rfl rfl)
theorem dJ35_numberOfTrailingZeros_18 : decode cJ35_numberOfTrailingZeros 18 = .ok (.goto 7, 3) := dk_167 0 7 (dk_at dksJ35_numberOfTrailingZeros_0 18 rfl rfl)
theorem dJ35_numberOfTrailingZeros_21 : decode cJ35_numberOfTrailingZeros 21 = .ok (.iload_n 2, 1) := dk_28 (dk_at dksJ35_numberOfTrailingZeros_0 21 rfl rfl)
theorem dJ35_numberOfTrailingZeros_22 : decode cJ35_numberOfTrailingZeros 22 = .ok (.invokestatic 311, 3) := dk_184 1 55 (dk_at dksJ35_numberOfTrailingZeros_1 0 rfl rfl)
theorem dJ35_numberOfTrailingZeros_25 : decode cJ35_numberOfTrailingZeros 25 = .ok (.ireturn, 1) := dk_172 (dk_at dksJ35_numberOfTrailingZeros_1 3 rfl rfl)
theorem q147 : (Jvm.Cond.initialized "java/lang/Long") ∈ lw_all := lw_g (lw_at lw_m1 52 rfl) rfl
theorem q1889 : (Jvm.Cond.static ({ cls := "java/lang/Long", name := "numberOfTrailingZeros", desc := "(J)I" } : Jvm.MethodName)) ∈ lw_all := lw_g (lw_at lw_m8 114 rfl) rfl
theorem q1890 : (Jvm.Cond.code ({ cls := "java/lang/Long", name := "numberOfTrailingZeros", desc := "(J)I" } : Jvm.MethodName) prog_29_method_49_code (3 : Nat) (Option.some Jvm.ClassFile.FieldType.int)) ∈ lw_all := lw_g (lw_at lw_m8 115 rfl) rfl
theorem q1891 : (Jvm.Cond.methodLink "java/lang/Long" (311 : Nat) ({ cls := "java/lang/Integer", name := "numberOfTrailingZeros", desc := "(I)I" } : Jvm.MethodName)) ∈ lw_all := lw_g (lw_at lw_m8 116 rfl) rfl

/-! java/lang/IllegalStateException -/
set_option maxRecDepth 100000
def RJ36 : String := "java/lang/IllegalStateException"
def TJ36 : u_T := fun k => match k with
  | 0 => ("java/lang/Throwable", "cause", "Ljava/lang/Throwable;", false)
  | 1 => ("java/lang/Throwable", "stackTrace", "[Ljava/lang/StackTraceElement;", false)
  | 2 => ("java/lang/Throwable", "suppressedExceptions", "Ljava/util/List;", false)
  | 3 => ("java/lang/Throwable", "detailMessage", "Ljava/lang/String;", false)
  | 4 => ("java/lang/Throwable", "backtrace", "Ljava/lang/Object;", false)
  | _ => ("java/lang/Throwable", "depth", "I", false)
def tyJ36 : Nat → FieldType := fun k => match k with
  | 0 => .object "java/lang/Throwable"
  | 1 => .array (.object "java/lang/StackTraceElement")
  | 2 => .object "java/util/List"
  | 3 => .object "java/lang/String"
  | 4 => .object "java/lang/Object"
  | _ => .int
abbrev wsJ360 : List Cond := u_ws RJ36 TJ36 6
theorem nmJ36 : ∀ a, a < 6 → ∀ b, b < 6 → a ≠ b → (TJ36 a).2.1 ≠ (TJ36 b).2.1 := by decide +kernel
theorem tyJ36_ok : ∀ k, k < 6 → parseFieldDescriptor (TJ36 k).2.2.1 = some (tyJ36 k) := by decide +kernel
abbrev cJ36_init : ByteArray := prog_25_method_1_code
def yJ36_init : MethodName := ⟨RJ36, "<init>", "()V"⟩
theorem dJ36_init_0 : decode cJ36_init 0 = .ok (.aload_n 0, 1) := by decide +kernel
theorem dJ36_init_1 : decode cJ36_init 1 = .ok (.invokespecial 1, 3) := by decide +kernel
theorem dJ36_init_4 : decode cJ36_init 4 = .ok (.return_, 1) := by decide +kernel
theorem q149 : (Jvm.Cond.initialized "java/lang/IllegalStateException") ∈ lw_all := lw_g (lw_at lw_m1 54 rfl) rfl
theorem q463 : (Jvm.Cond.selects "java/lang/IllegalStateException" ({ cls := "java/lang/Object", name := "getClass", desc := "()Ljava/lang/Class;" } : Jvm.MethodName) ({ cls := "java/lang/Object", name := "getClass", desc := "()Ljava/lang/Class;" } : Jvm.MethodName)) ∈ lw_all := lw_g (lw_at lw_m2 128 rfl) rfl
theorem q804 : (Jvm.Cond.selects "java/lang/IllegalStateException" ({ cls := "java/lang/Throwable", name := "fillInStackTrace", desc := "()Ljava/lang/Throwable;" } : Jvm.MethodName) ({ cls := "java/lang/Throwable", name := "fillInStackTrace", desc := "()Ljava/lang/Throwable;" } : Jvm.MethodName)) ∈ lw_all := lw_g (lw_at lw_m3 229 rfl) rfl
theorem q1681 : (Jvm.Cond.selects "java/lang/IllegalStateException" ({ cls := "java/lang/Throwable", name := "toString", desc := "()Ljava/lang/String;" } : Jvm.MethodName) ({ cls := "java/lang/Throwable", name := "toString", desc := "()Ljava/lang/String;" } : Jvm.MethodName)) ∈ lw_all := lw_g (lw_at lw_m7 146 rfl) rfl
theorem q1692 : (Jvm.Cond.selects "java/lang/IllegalStateException" ({ cls := "java/lang/Throwable", name := "getLocalizedMessage", desc := "()Ljava/lang/String;" } : Jvm.MethodName) ({ cls := "java/lang/Throwable", name := "getLocalizedMessage", desc := "()Ljava/lang/String;" } : Jvm.MethodName)) ∈ lw_all := lw_g (lw_at lw_m7 157 rfl) rfl
theorem q1702 : (Jvm.Cond.selects "java/lang/IllegalStateException" ({ cls := "java/lang/Throwable", name := "getMessage", desc := "()Ljava/lang/String;" } : Jvm.MethodName) ({ cls := "java/lang/Throwable", name := "getMessage", desc := "()Ljava/lang/String;" } : Jvm.MethodName)) ∈ lw_all := lw_g (lw_at lw_m7 167 rfl) rfl
theorem q1934 : (Jvm.Cond.instantiable "java/lang/IllegalStateException" (6 : Nat)) ∈ lw_all := lw_g (lw_at lw_m8 159 rfl) rfl
theorem q1935 : (Jvm.Cond.castable "java/lang/IllegalStateException" "java/lang/IllegalStateException") ∈ lw_tbl := lw_at lw_m8 160 rfl
theorem q1936 : (Jvm.Cond.selects "java/lang/IllegalStateException" ({ cls := "java/lang/Throwable", name := "fillInStackTrace", desc := "(I)Ljava/lang/Throwable;" } : Jvm.MethodName) ({ cls := "java/lang/Throwable", name := "fillInStackTrace", desc := "(I)Ljava/lang/Throwable;" } : Jvm.MethodName)) ∈ lw_all := lw_g (lw_at lw_m8 161 rfl) rfl
theorem q1937 : (Jvm.Cond.lays "java/lang/IllegalStateException" "java/lang/Throwable" "cause" "Ljava/lang/Throwable;") ∈ lw_all := lw_g (lw_at lw_m8 162 rfl) rfl
theorem q1938 : (Jvm.Cond.lays "java/lang/IllegalStateException" "java/lang/Throwable" "stackTrace" "[Ljava/lang/StackTraceElement;") ∈ lw_all := lw_g (lw_at lw_m8 163 rfl) rfl
theorem q1939 : (Jvm.Cond.lays "java/lang/IllegalStateException" "java/lang/Throwable" "suppressedExceptions" "Ljava/util/List;") ∈ lw_all := lw_g (lw_at lw_m8 164 rfl) rfl
theorem q1940 : (Jvm.Cond.lays "java/lang/IllegalStateException" "java/lang/Throwable" "detailMessage" "Ljava/lang/String;") ∈ lw_all := lw_g (lw_at lw_m8 165 rfl) rfl
theorem q1941 : (Jvm.Cond.lays "java/lang/IllegalStateException" "java/lang/Throwable" "backtrace" "Ljava/lang/Object;") ∈ lw_all := lw_g (lw_at lw_m8 166 rfl) rfl
theorem q1943 : (Jvm.Cond.instanceMethod ({ cls := "java/lang/IllegalStateException", name := "<init>", desc := "()V" } : Jvm.MethodName)) ∈ lw_all := lw_g (lw_at lw_m8 168 rfl) rfl
theorem q1944 : (Jvm.Cond.code ({ cls := "java/lang/IllegalStateException", name := "<init>", desc := "()V" } : Jvm.MethodName) prog_25_method_1_code (1 : Nat) (Option.none : Option Jvm.ClassFile.FieldType)) ∈ lw_all := lw_g (lw_at lw_m8 169 rfl) rfl
theorem q1945 : (Jvm.Cond.methodLink "java/lang/IllegalStateException" (1 : Nat) ({ cls := "java/lang/RuntimeException", name := "<init>", desc := "()V" } : Jvm.MethodName)) ∈ lw_all := lw_g (lw_at lw_m8 170 rfl) rfl
theorem q1952 : (Jvm.Cond.lays "java/lang/IllegalStateException" "java/lang/Throwable" "depth" "I") ∈ lw_all := lw_g (lw_at lw_m8 177 rfl) rfl
theorem q1953 : (Jvm.Cond.superclass "java/lang/IllegalStateException" "java/lang/RuntimeException") ∈ lw_all := lw_g (lw_at lw_m8 178 rfl) rfl
theorem q2727 : (Jvm.Cond.castable "java/lang/IllegalStateException" "java/lang/Object") ∈ lw_tbl := lw_at lw_m11 232 rfl
theorem in_J36 : ∀ w ∈ wsJ360, w ∈ lw_all := lw_in wsJ360 [1937, 1938, 1939, 1940, 1941, 1952] (by decide +kernel) (by decide +kernel)

/-! java/util/ConcurrentModificationException -/
set_option maxRecDepth 100000
def RJ37 : String := "java/util/ConcurrentModificationException"
def TJ37 : u_T := fun k => match k with
  | 0 => ("java/lang/Throwable", "cause", "Ljava/lang/Throwable;", false)
  | 1 => ("java/lang/Throwable", "stackTrace", "[Ljava/lang/StackTraceElement;", false)
  | 2 => ("java/lang/Throwable", "suppressedExceptions", "Ljava/util/List;", false)
  | 3 => ("java/lang/Throwable", "detailMessage", "Ljava/lang/String;", false)
  | 4 => ("java/lang/Throwable", "backtrace", "Ljava/lang/Object;", false)
  | _ => ("java/lang/Throwable", "depth", "I", false)
def tyJ37 : Nat → FieldType := fun k => match k with
  | 0 => .object "java/lang/Throwable"
  | 1 => .array (.object "java/lang/StackTraceElement")
  | 2 => .object "java/util/List"
  | 3 => .object "java/lang/String"
  | 4 => .object "java/lang/Object"
  | _ => .int
abbrev wsJ370 : List Cond := u_ws RJ37 TJ37 6
theorem nmJ37 : ∀ a, a < 6 → ∀ b, b < 6 → a ≠ b → (TJ37 a).2.1 ≠ (TJ37 b).2.1 := by decide +kernel
theorem tyJ37_ok : ∀ k, k < 6 → parseFieldDescriptor (TJ37 k).2.2.1 = some (tyJ37 k) := by decide +kernel
abbrev cJ37_init : ByteArray := prog_54_method_1_code
def yJ37_init : MethodName := ⟨RJ37, "<init>", "()V"⟩
theorem dJ37_init_0 : decode cJ37_init 0 = .ok (.aload_n 0, 1) := by decide +kernel
theorem dJ37_init_1 : decode cJ37_init 1 = .ok (.invokespecial 1, 3) := by decide +kernel
theorem dJ37_init_4 : decode cJ37_init 4 = .ok (.return_, 1) := by decide +kernel
theorem q150 : (Jvm.Cond.initialized "java/util/ConcurrentModificationException") ∈ lw_all := lw_g (lw_at lw_m1 55 rfl) rfl
theorem q473 : (Jvm.Cond.selects "java/util/ConcurrentModificationException" ({ cls := "java/lang/Object", name := "getClass", desc := "()Ljava/lang/Class;" } : Jvm.MethodName) ({ cls := "java/lang/Object", name := "getClass", desc := "()Ljava/lang/Class;" } : Jvm.MethodName)) ∈ lw_all := lw_g (lw_at lw_m2 138 rfl) rfl
theorem q806 : (Jvm.Cond.selects "java/util/ConcurrentModificationException" ({ cls := "java/lang/Throwable", name := "fillInStackTrace", desc := "()Ljava/lang/Throwable;" } : Jvm.MethodName) ({ cls := "java/lang/Throwable", name := "fillInStackTrace", desc := "()Ljava/lang/Throwable;" } : Jvm.MethodName)) ∈ lw_all := lw_g (lw_at lw_m3 231 rfl) rfl
theorem q1683 : (Jvm.Cond.selects "java/util/ConcurrentModificationException" ({ cls := "java/lang/Throwable", name := "toString", desc := "()Ljava/lang/String;" } : Jvm.MethodName) ({ cls := "java/lang/Throwable", name := "toString", desc := "()Ljava/lang/String;" } : Jvm.MethodName)) ∈ lw_all := lw_g (lw_at lw_m7 148 rfl) rfl
theorem q1694 : (Jvm.Cond.selects "java/util/ConcurrentModificationException" ({ cls := "java/lang/Throwable", name := "getLocalizedMessage", desc := "()Ljava/lang/String;" } : Jvm.MethodName) ({ cls := "java/lang/Throwable", name := "getLocalizedMessage", desc := "()Ljava/lang/String;" } : Jvm.MethodName)) ∈ lw_all := lw_g (lw_at lw_m7 159 rfl) rfl
theorem q1704 : (Jvm.Cond.selects "java/util/ConcurrentModificationException" ({ cls := "java/lang/Throwable", name := "getMessage", desc := "()Ljava/lang/String;" } : Jvm.MethodName) ({ cls := "java/lang/Throwable", name := "getMessage", desc := "()Ljava/lang/String;" } : Jvm.MethodName)) ∈ lw_all := lw_g (lw_at lw_m7 169 rfl) rfl
theorem q1967 : (Jvm.Cond.instantiable "java/util/ConcurrentModificationException" (6 : Nat)) ∈ lw_all := lw_g (lw_at lw_m8 192 rfl) rfl
theorem q1968 : (Jvm.Cond.castable "java/util/ConcurrentModificationException" "java/util/ConcurrentModificationException") ∈ lw_tbl := lw_at lw_m8 193 rfl
theorem q1969 : (Jvm.Cond.selects "java/util/ConcurrentModificationException" ({ cls := "java/lang/Throwable", name := "fillInStackTrace", desc := "(I)Ljava/lang/Throwable;" } : Jvm.MethodName) ({ cls := "java/lang/Throwable", name := "fillInStackTrace", desc := "(I)Ljava/lang/Throwable;" } : Jvm.MethodName)) ∈ lw_all := lw_g (lw_at lw_m8 194 rfl) rfl
theorem q1970 : (Jvm.Cond.lays "java/util/ConcurrentModificationException" "java/lang/Throwable" "cause" "Ljava/lang/Throwable;") ∈ lw_all := lw_g (lw_at lw_m8 195 rfl) rfl
theorem q1971 : (Jvm.Cond.lays "java/util/ConcurrentModificationException" "java/lang/Throwable" "stackTrace" "[Ljava/lang/StackTraceElement;") ∈ lw_all := lw_g (lw_at lw_m8 196 rfl) rfl
theorem q1972 : (Jvm.Cond.lays "java/util/ConcurrentModificationException" "java/lang/Throwable" "suppressedExceptions" "Ljava/util/List;") ∈ lw_all := lw_g (lw_at lw_m8 197 rfl) rfl
theorem q1973 : (Jvm.Cond.lays "java/util/ConcurrentModificationException" "java/lang/Throwable" "detailMessage" "Ljava/lang/String;") ∈ lw_all := lw_g (lw_at lw_m8 198 rfl) rfl
theorem q1974 : (Jvm.Cond.lays "java/util/ConcurrentModificationException" "java/lang/Throwable" "backtrace" "Ljava/lang/Object;") ∈ lw_all := lw_g (lw_at lw_m8 199 rfl) rfl
theorem q1976 : (Jvm.Cond.instanceMethod ({ cls := "java/util/ConcurrentModificationException", name := "<init>", desc := "()V" } : Jvm.MethodName)) ∈ lw_all := lw_g (lw_at lw_m8 201 rfl) rfl
theorem q1977 : (Jvm.Cond.code ({ cls := "java/util/ConcurrentModificationException", name := "<init>", desc := "()V" } : Jvm.MethodName) prog_54_method_1_code (1 : Nat) (Option.none : Option Jvm.ClassFile.FieldType)) ∈ lw_all := lw_g (lw_at lw_m8 202 rfl) rfl
theorem q1978 : (Jvm.Cond.methodLink "java/util/ConcurrentModificationException" (1 : Nat) ({ cls := "java/lang/RuntimeException", name := "<init>", desc := "()V" } : Jvm.MethodName)) ∈ lw_all := lw_g (lw_at lw_m8 203 rfl) rfl
theorem q1979 : (Jvm.Cond.lays "java/util/ConcurrentModificationException" "java/lang/Throwable" "depth" "I") ∈ lw_all := lw_g (lw_at lw_m8 204 rfl) rfl
theorem q1980 : (Jvm.Cond.superclass "java/util/ConcurrentModificationException" "java/lang/RuntimeException") ∈ lw_all := lw_g (lw_at lw_m8 205 rfl) rfl
theorem q2728 : (Jvm.Cond.castable "java/util/ConcurrentModificationException" "java/lang/Object") ∈ lw_tbl := lw_at lw_m11 233 rfl
theorem in_J37 : ∀ w ∈ wsJ370, w ∈ lw_all := lw_in wsJ370 [1970, 1971, 1972, 1973, 1974, 1979] (by decide +kernel) (by decide +kernel)

/-! java/lang/ArrayIndexOutOfBoundsException -/
set_option maxRecDepth 100000
def RJ38 : String := "java/lang/ArrayIndexOutOfBoundsException"
def TJ38 : u_T := fun k => match k with
  | 0 => ("java/lang/Throwable", "backtrace", "Ljava/lang/Object;", false)
  | 1 => ("java/lang/Throwable", "detailMessage", "Ljava/lang/String;", false)
  | 2 => ("java/lang/Throwable", "cause", "Ljava/lang/Throwable;", false)
  | 3 => ("java/lang/Throwable", "stackTrace", "[Ljava/lang/StackTraceElement;", false)
  | 4 => ("java/lang/Throwable", "depth", "I", false)
  | _ => ("java/lang/Throwable", "suppressedExceptions", "Ljava/util/List;", false)
def tyJ38 : Nat → FieldType := fun k => match k with
  | 0 => .object "java/lang/Object"
  | 1 => .object "java/lang/String"
  | 2 => .object "java/lang/Throwable"
  | 3 => .array (.object "java/lang/StackTraceElement")
  | 4 => .int
  | _ => .object "java/util/List"
abbrev wsJ380 : List Cond := u_ws RJ38 TJ38 6
theorem nmJ38 : ∀ a, a < 6 → ∀ b, b < 6 → a ≠ b → (TJ38 a).2.1 ≠ (TJ38 b).2.1 := by decide +kernel
theorem tyJ38_ok : ∀ k, k < 6 → parseFieldDescriptor (TJ38 k).2.2.1 = some (tyJ38 k) := by decide +kernel
abbrev cJ38_init : ByteArray := prog_20_method_2_code
def yJ38_init : MethodName := ⟨RJ38, "<init>", "(Ljava/lang/String;)V"⟩
def dkwJ38_init_0 : List UInt8 := [42, 43, 183, 0, 7, 177]
abbrev dktJ38_init_0 : List UInt8 := dkwJ38_init_0 ++ []
theorem dksJ38_init_0 : cJ38_init.data.toList.drop 0 = dktJ38_init_0 := by decide +kernel
theorem dJ38_init_0 : decode cJ38_init 0 = .ok (.aload_n 0, 1) := dk_42 (dk_at dksJ38_init_0 0 rfl rfl)
theorem dJ38_init_1 : decode cJ38_init 1 = .ok (.aload_n 1, 1) := dk_43 (dk_at dksJ38_init_0 1 rfl rfl)
theorem dJ38_init_2 : decode cJ38_init 2 = .ok (.invokespecial 7, 3) := dk_183 0 7 (dk_at dksJ38_init_0 2 rfl rfl)
theorem dJ38_init_5 : decode cJ38_init 5 = .ok (.return_, 1) := dk_177 (dk_at dksJ38_init_0 5 rfl rfl)
theorem q151 : (Jvm.Cond.initialized "java/lang/ArrayIndexOutOfBoundsException") ∈ lw_all := lw_g (lw_at lw_m1 56 rfl) rfl
theorem q462 : (Jvm.Cond.selects "java/lang/ArrayIndexOutOfBoundsException" ({ cls := "java/lang/Object", name := "getClass", desc := "()Ljava/lang/Class;" } : Jvm.MethodName) ({ cls := "java/lang/Object", name := "getClass", desc := "()Ljava/lang/Class;" } : Jvm.MethodName)) ∈ lw_all := lw_g (lw_at lw_m2 127 rfl) rfl
theorem q803 : (Jvm.Cond.selects "java/lang/ArrayIndexOutOfBoundsException" ({ cls := "java/lang/Throwable", name := "fillInStackTrace", desc := "()Ljava/lang/Throwable;" } : Jvm.MethodName) ({ cls := "java/lang/Throwable", name := "fillInStackTrace", desc := "()Ljava/lang/Throwable;" } : Jvm.MethodName)) ∈ lw_all := lw_g (lw_at lw_m3 228 rfl) rfl
theorem q1680 : (Jvm.Cond.selects "java/lang/ArrayIndexOutOfBoundsException" ({ cls := "java/lang/Throwable", name := "toString", desc := "()Ljava/lang/String;" } : Jvm.MethodName) ({ cls := "java/lang/Throwable", name := "toString", desc := "()Ljava/lang/String;" } : Jvm.MethodName)) ∈ lw_all := lw_g (lw_at lw_m7 145 rfl) rfl
theorem q1691 : (Jvm.Cond.selects "java/lang/ArrayIndexOutOfBoundsException" ({ cls := "java/lang/Throwable", name := "getLocalizedMessage", desc := "()Ljava/lang/String;" } : Jvm.MethodName) ({ cls := "java/lang/Throwable", name := "getLocalizedMessage", desc := "()Ljava/lang/String;" } : Jvm.MethodName)) ∈ lw_all := lw_g (lw_at lw_m7 156 rfl) rfl
theorem q1701 : (Jvm.Cond.selects "java/lang/ArrayIndexOutOfBoundsException" ({ cls := "java/lang/Throwable", name := "getMessage", desc := "()Ljava/lang/String;" } : Jvm.MethodName) ({ cls := "java/lang/Throwable", name := "getMessage", desc := "()Ljava/lang/String;" } : Jvm.MethodName)) ∈ lw_all := lw_g (lw_at lw_m7 166 rfl) rfl
theorem q2094 : (Jvm.Cond.instantiable "java/lang/ArrayIndexOutOfBoundsException" (6 : Nat)) ∈ lw_all := lw_g (lw_at lw_m9 79 rfl) rfl
theorem q2095 : (Jvm.Cond.instanceMethod ({ cls := "java/lang/ArrayIndexOutOfBoundsException", name := "<init>", desc := "(Ljava/lang/String;)V" } : Jvm.MethodName)) ∈ lw_all := lw_g (lw_at lw_m9 80 rfl) rfl
theorem q2096 : (Jvm.Cond.code ({ cls := "java/lang/ArrayIndexOutOfBoundsException", name := "<init>", desc := "(Ljava/lang/String;)V" } : Jvm.MethodName) prog_20_method_2_code (2 : Nat) (Option.none : Option Jvm.ClassFile.FieldType)) ∈ lw_all := lw_g (lw_at lw_m9 81 rfl) rfl
theorem q2097 : (Jvm.Cond.methodLink "java/lang/ArrayIndexOutOfBoundsException" (7 : Nat) ({ cls := "java/lang/IndexOutOfBoundsException", name := "<init>", desc := "(Ljava/lang/String;)V" } : Jvm.MethodName)) ∈ lw_all := lw_g (lw_at lw_m9 82 rfl) rfl
theorem q2098 : (Jvm.Cond.lays "java/lang/ArrayIndexOutOfBoundsException" "java/lang/Throwable" "backtrace" "Ljava/lang/Object;") ∈ lw_all := lw_g (lw_at lw_m9 83 rfl) rfl
theorem q2099 : (Jvm.Cond.lays "java/lang/ArrayIndexOutOfBoundsException" "java/lang/Throwable" "detailMessage" "Ljava/lang/String;") ∈ lw_all := lw_g (lw_at lw_m9 84 rfl) rfl
theorem q2100 : (Jvm.Cond.lays "java/lang/ArrayIndexOutOfBoundsException" "java/lang/Throwable" "cause" "Ljava/lang/Throwable;") ∈ lw_all := lw_g (lw_at lw_m9 85 rfl) rfl
theorem q2101 : (Jvm.Cond.lays "java/lang/ArrayIndexOutOfBoundsException" "java/lang/Throwable" "stackTrace" "[Ljava/lang/StackTraceElement;") ∈ lw_all := lw_g (lw_at lw_m9 86 rfl) rfl
theorem q2102 : (Jvm.Cond.lays "java/lang/ArrayIndexOutOfBoundsException" "java/lang/Throwable" "depth" "I") ∈ lw_all := lw_g (lw_at lw_m9 87 rfl) rfl
theorem q2103 : (Jvm.Cond.lays "java/lang/ArrayIndexOutOfBoundsException" "java/lang/Throwable" "suppressedExceptions" "Ljava/util/List;") ∈ lw_all := lw_g (lw_at lw_m9 88 rfl) rfl
theorem q2104 : (Jvm.Cond.superclass "java/lang/ArrayIndexOutOfBoundsException" "java/lang/IndexOutOfBoundsException") ∈ lw_all := lw_g (lw_at lw_m9 89 rfl) rfl
theorem q2105 : (Jvm.Cond.castable "java/lang/ArrayIndexOutOfBoundsException" "java/lang/ArrayIndexOutOfBoundsException") ∈ lw_tbl := lw_at lw_m9 90 rfl
theorem q2108 : (Jvm.Cond.selects "java/lang/ArrayIndexOutOfBoundsException" ({ cls := "java/lang/Throwable", name := "fillInStackTrace", desc := "(I)Ljava/lang/Throwable;" } : Jvm.MethodName) ({ cls := "java/lang/Throwable", name := "fillInStackTrace", desc := "(I)Ljava/lang/Throwable;" } : Jvm.MethodName)) ∈ lw_all := lw_g (lw_at lw_m9 93 rfl) rfl
theorem q2697 : (Jvm.Cond.castable "java/lang/ArrayIndexOutOfBoundsException" "java/lang/IndexOutOfBoundsException") ∈ lw_tbl := lw_at lw_m11 202 rfl
theorem q2729 : (Jvm.Cond.castable "java/lang/ArrayIndexOutOfBoundsException" "java/lang/Object") ∈ lw_tbl := lw_at lw_m11 234 rfl
theorem in_J38 : ∀ w ∈ wsJ380, w ∈ lw_all := lw_in wsJ380 [2098, 2099, 2100, 2101, 2102, 2103] (by decide +kernel) (by decide +kernel)

/-! java/lang/Object -/
set_option maxRecDepth 100000
def RJ39 : String := "java/lang/Object"
abbrev cJ39_init : ByteArray := object_method_1_code
def yJ39_init : MethodName := ⟨RJ39, "<init>", "()V"⟩
theorem dJ39_init_0 : decode cJ39_init 0 = .ok (.return_, 1) := by decide +kernel
theorem q158 : (Jvm.Cond.instanceMethod ({ cls := "java/lang/Object", name := "<init>", desc := "()V" } : Jvm.MethodName)) ∈ lw_all := lw_g (lw_at lw_m1 63 rfl) rfl
theorem q159 : (Jvm.Cond.code ({ cls := "java/lang/Object", name := "<init>", desc := "()V" } : Jvm.MethodName) object_method_1_code (1 : Nat) (Option.none : Option Jvm.ClassFile.FieldType)) ∈ lw_all := lw_g (lw_at lw_m1 64 rfl) rfl
theorem q446 : (Jvm.Cond.instanceMethod ({ cls := "java/lang/Object", name := "getClass", desc := "()Ljava/lang/Class;" } : Jvm.MethodName)) ∈ lw_all := lw_g (lw_at lw_m2 111 rfl) rfl
theorem q447 : (Jvm.Cond.sameMethod "java/lang/Object" "java/lang/Object" "getClass" "()Ljava/lang/Class;") ∈ lw_all := lw_g (lw_at lw_m2 112 rfl) rfl
theorem q480 : (Jvm.Cond.native ({ cls := "java/lang/Object", name := "getClass", desc := "()Ljava/lang/Class;" } : Jvm.MethodName)) ∈ lw_all := lw_g (lw_at lw_m2 145 rfl) rfl
theorem q602 : (Jvm.Cond.native ({ cls := "java/lang/Object", name := "clone", desc := "()Ljava/lang/Object;" } : Jvm.MethodName)) ∈ lw_all := lw_g (lw_at lw_m3 27 rfl) rfl
theorem q603 : (Jvm.Cond.instanceMethod ({ cls := "java/lang/Object", name := "clone", desc := "()Ljava/lang/Object;" } : Jvm.MethodName)) ∈ lw_all := lw_g (lw_at lw_m3 28 rfl) rfl
theorem q2696 : (Jvm.Cond.initialized "java/lang/Object") ∈ lw_all := lw_g (lw_at lw_m11 201 rfl) rfl
theorem q2733 : (Jvm.Cond.declares ({ cls := "java/lang/Object", name := "getClass", desc := "()Ljava/lang/Class;" } : Jvm.MethodName)) ∈ lw_tbl := lw_at lw_m11 238 rfl
theorem q2748 : (Jvm.Cond.instantiable "java/lang/Object" (0 : Nat)) ∈ lw_all := lw_g (lw_at lw_m12 13 rfl) rfl

